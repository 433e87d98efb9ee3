/-! THE COMPONENT: words. Printed by m_c25.py -/
set_option maxRecDepth 100000
theorem b8_i2c : ∀ k : Fin 128, ((nI k.1).toUInt32 % 65536).toInt32 = nI k.1 := by decide +kernel
/-- how many letters are read of a word -/
abbrev wL (t : Nat → Nat) (n b : Nat) : Nat := min (wl t n b) 10
theorem wlF_s {t : Nat → Nat} {n a : Nat} (ha : a < n) (h : 97 ≤ t a ∧ t a ≤ 122) : wlF t (n - a) a = wlF t (n - (a + 1)) (a + 1) + 1 := by
  rw [show n - a = (n - (a + 1)) + 1 by omega, wlF, if_pos h]
theorem wlF_n {t : Nat → Nat} {n a : Nat} (h : ¬ (a < n ∧ 97 ≤ t a ∧ t a ≤ 122)) : wlF t (n - a) a = 0 := by
  by_cases q : a < n
  · rw [show n - a = (n - (a + 1)) + 1 by omega, wlF, if_neg (fun w => h ⟨q, w⟩)]
  · rw [show n - a = 0 by omega]
    rfl
section
variable {E : jE} {d : Nat} {h : jH} {t : Nat → Nat} {n a : Nat} {T : Nat → Int32} {tp x : jN} {fr op : Int32} {rest : List jV} {P : jN → Prop}
def wdQ13 (h : jH) (x tp : jN) (n b : Nat) (fr op : Int32) (rest : List jV) (t : Nat → Nat) : jR → jH → Prop := fun r h' => ∃ s v : Nat, r = .inl (some (vR (97, s))) ∧ sS h' (97, s) (98, v) (wL t n b) (fun k => t (b + k)) ∧ (∀ k, k < wL t n b → t (b + k) < 128) ∧ h' x = some (rdO 13 tp n b fr op rest) ∧ (∀ k, h (k, s) = none) ∧ (∀ k, h (k, v) = none) ∧ (∀ y o, y ≠ x → h y = some o → h' y = some o) ∧ cFr h h'
set_option maxHeartbeats 2000000 in
theorem l_word13 {bc bs b0 s b : Nat} {Q : jR → jH → Prop} {h0 : jH} (hd : 6 ≤ d) (hR : RH x tp n T t) (hb : b0 ≤ n) (n95 : ∀ k, h0 (k, s) = none) (n96 : ∀ k, h0 (k, b) = none) (hxs : x ≠ (95, s)) (hxb : x ≠ (96, b)) (hts : tp ≠ (95, s)) (htb : tp ≠ (96, b)) : ∀ (m j : Nat) (h : jH), 10 - j = m → j ≤ 10 → b0 + j ≤ n → wl t n b0 = j + wlF t (n - (b0 + j)) (b0 + j) → h x = some (rdO 13 tp n b0 fr op rest) → h tp = some (bA 600 T) → sbS h (95, s) (96, b) j (fun k => t (b0 + k)) → (∀ y o, y ≠ x → h0 y = some o → h y = some o) → cFr h0 h → (∀ k, k < j → t (b0 + k) < 128) → (∀ h', h' x = some (rdO 13 tp n b0 fr op rest) → h' tp = some (bA 600 T) → sbS h' (95, s) (96, b) (wL t n b0) (fun k => t (b0 + k)) → (∀ y o, y ≠ x → h0 y = some o → h' y = some o) → cFr h0 h' → (∀ k, k < (wL t n b0) → t (b0 + k) < 128) → G E d bc bs mX12_word 75 [some (vR x), some (vR (95, s)), some (vI (nI (b0 + (wL t n b0))))] [] h' Q) → G E d bc bs mX12_word 18 [some (vR x), some (vR (95, s)), some (vI (nI (b0 + j)))] [] h Q := by
  obtain ⟨hx, hx9, hxt, hn, hT⟩ := id hR
  intro m
  induction m with
  | zero =>
    intro j h hm hj hjn hw fx ft hS E1 C1 hlt kk
    have e : j = 10 := by omega
    have eL : wL t n b0 = j := by unfold wL; omega
    rw [eL] at kk
    clear hm
    refine g_iload_n (pc := 18) dX12_word_18 rfl ?_
    refine g_aload_n (pc := 19) dX12_word_19 rfl ?_
    refine g_getfield (pc := 20) f_X12_15_13 dX12_word_20 fx rfl ?_
    refine g_icmp_ge (pc := 23) 75 dX12_word_23 (by decide) (fun c_23 => ?_) (fun c_23 => ?_)
    · exact kk h fx ft hS E1 C1 hlt
    · have hin : b0 + j < n := Nat.not_le.mp (fun w => c_23 (nI_le w (by omega)))
      have h256 := (hT (b0 + j) (by omega)).2
      refine g_aload_n (pc := 26) dX12_word_26 rfl ?_
      refine g_getfield (pc := 27) f_X12_9_13 dX12_word_27 fx rfl ?_
      refine g_iload_n (pc := 30) dX12_word_30 rfl ?_
      refine g_baload (pc := 31) dX12_word_31 ft (j := b0 + j) rfl (by omega) (by first | decide | omega) rfl ?_
      rw [(hT (b0 + j) (by omega)).1]
      refine g_bipush (pc := 32) (v := 97) dX12_word_32 (by decide) ?_
      refine g_icmp_lt (pc := 34) 75 dX12_word_34 (by decide) (fun c_34 => ?_) (fun c_34 => ?_)
      · exact kk h fx ft hS E1 C1 hlt
      · refine g_aload_n (pc := 37) dX12_word_37 rfl ?_
        refine g_getfield (pc := 38) f_X12_9_13 dX12_word_38 fx rfl ?_
        refine g_iload_n (pc := 41) dX12_word_41 rfl ?_
        refine g_baload (pc := 42) dX12_word_42 ft (j := b0 + j) rfl (by omega) (by first | decide | omega) rfl ?_
        rw [(hT (b0 + j) (by omega)).1]
        refine g_bipush (pc := 43) (v := 122) dX12_word_43 (by decide) ?_
        refine g_icmp_gt (pc := 45) 75 dX12_word_45 (by decide) (fun c_45 => ?_) (fun c_45 => ?_)
        · exact kk h fx ft hS E1 C1 hlt
        · have hlet : 97 ≤ t (b0 + j) ∧ t (b0 + j) ≤ 122 := by
            have e1 : ¬ (t (b0 + j) < 97 ∨ 128 ≤ t (b0 + j)) := fun w => c_34 ((cb_lt h256 (c := 97) (by decide)).mpr w)
            have e2 : ¬ (122 < t (b0 + j) ∧ t (b0 + j) < 128) := fun w => c_45 ((cb_gt h256 (c := 122) (by decide)).mpr w)
            omega
          have h128 : t (b0 + j) < 128 := by omega
          refine g_aload_n (pc := 48) dX12_word_48 rfl ?_
          refine g_cV (pc := 49) (M' := mJ8_length) (as := []) (ci := 36) rfl i_X12_29_36 eJ8_length dX12_word_49 hS.1 (k_slen (by omega) hS.1) (by omega) rfl rfl (Nat.le_of_ble_eq_true rfl) ?_
          refine g_bipush (pc := 52) (v := 10) dX12_word_52 (by decide) ?_
          refine g_icmp_ge (pc := 54) 75 dX12_word_54 (by decide) (fun c_54 => ?_) (fun c_54 => absurd (nI_le (a := 10) (b := j) (by omega) (by omega)) c_54)
          exact kk h fx ft hS E1 C1 hlt
  | succ m ih =>
    intro j h hm hj hjn hw fx ft hS E1 C1 hlt kk
    refine g_iload_n (pc := 18) dX12_word_18 rfl ?_
    refine g_aload_n (pc := 19) dX12_word_19 rfl ?_
    refine g_getfield (pc := 20) f_X12_15_13 dX12_word_20 fx rfl ?_
    refine g_icmp_ge (pc := 23) 75 dX12_word_23 (by decide) (fun c_23 => ?_) (fun c_23 => ?_)
    · have eL : wL t n b0 = j := by
        have := wlF_n (t := t) (n := n) (a := b0 + j) (fun w => absurd w.1 (by have := (nI_leI (a := n) (b := b0 + j) (by omega) (by omega)).mp c_23; omega))
        unfold wL; omega
      rw [eL] at kk
      exact kk h fx ft hS E1 C1 hlt
    · have hin : b0 + j < n := Nat.not_le.mp (fun w => c_23 (nI_le w (by omega)))
      have h256 := (hT (b0 + j) (by omega)).2
      refine g_aload_n (pc := 26) dX12_word_26 rfl ?_
      refine g_getfield (pc := 27) f_X12_9_13 dX12_word_27 fx rfl ?_
      refine g_iload_n (pc := 30) dX12_word_30 rfl ?_
      refine g_baload (pc := 31) dX12_word_31 ft (j := b0 + j) rfl (by omega) (by first | decide | omega) rfl ?_
      rw [(hT (b0 + j) (by omega)).1]
      refine g_bipush (pc := 32) (v := 97) dX12_word_32 (by decide) ?_
      refine g_icmp_lt (pc := 34) 75 dX12_word_34 (by decide) (fun c_34 => ?_) (fun c_34 => ?_)
      · have eL : wL t n b0 = j := by
          have := wlF_n (t := t) (n := n) (a := b0 + j) (fun w => by have := (cb_lt h256 (c := 97) (by decide)).mp c_34; omega)
          unfold wL; omega
        rw [eL] at kk
        exact kk h fx ft hS E1 C1 hlt
      · refine g_aload_n (pc := 37) dX12_word_37 rfl ?_
        refine g_getfield (pc := 38) f_X12_9_13 dX12_word_38 fx rfl ?_
        refine g_iload_n (pc := 41) dX12_word_41 rfl ?_
        refine g_baload (pc := 42) dX12_word_42 ft (j := b0 + j) rfl (by omega) (by first | decide | omega) rfl ?_
        rw [(hT (b0 + j) (by omega)).1]
        refine g_bipush (pc := 43) (v := 122) dX12_word_43 (by decide) ?_
        refine g_icmp_gt (pc := 45) 75 dX12_word_45 (by decide) (fun c_45 => ?_) (fun c_45 => ?_)
        · have eL : wL t n b0 = j := by
            have := wlF_n (t := t) (n := n) (a := b0 + j) (fun w => by have := (cb_gt h256 (c := 122) (by decide)).mp c_45; omega)
            unfold wL; omega
          rw [eL] at kk
          exact kk h fx ft hS E1 C1 hlt
        · have hlet : 97 ≤ t (b0 + j) ∧ t (b0 + j) ≤ 122 := by
            have e1 : ¬ (t (b0 + j) < 97 ∨ 128 ≤ t (b0 + j)) := fun w => c_34 ((cb_lt h256 (c := 97) (by decide)).mpr w)
            have e2 : ¬ (122 < t (b0 + j) ∧ t (b0 + j) < 128) := fun w => c_45 ((cb_gt h256 (c := 122) (by decide)).mpr w)
            omega
          have h128 : t (b0 + j) < 128 := by omega
          refine g_aload_n (pc := 48) dX12_word_48 rfl ?_
          refine g_cV (pc := 49) (M' := mJ8_length) (as := []) (ci := 36) rfl i_X12_29_36 eJ8_length dX12_word_49 hS.1 (k_slen (by omega) hS.1) (by omega) rfl rfl (Nat.le_of_ble_eq_true rfl) ?_
          refine g_bipush (pc := 52) (v := 10) dX12_word_52 (by decide) ?_
          refine g_icmp_ge (pc := 54) 75 dX12_word_54 (by decide) (fun c_54 => absurd c_54 (by intro w; have := (nI_leI (a := 10) (b := j) (by decide) (by omega)).mp w; omega)) (fun c_54 => ?_)
          refine g_aload_n (pc := 57) dX12_word_57 rfl ?_
          refine g_aload_n (pc := 58) dX12_word_58 rfl ?_
          refine g_getfield (pc := 59) f_X12_9_13 dX12_word_59 fx rfl ?_
          refine g_iload_n (pc := 62) dX12_word_62 rfl ?_
          refine g_baload (pc := 63) dX12_word_63 ft (j := b0 + j) rfl (by omega) (by first | decide | omega) rfl ?_
          rw [(hT (b0 + j) (by omega)).1, cb_n h128]
          refine g_i2c (pc := 64) dX12_word_64 ?_
          rw [b8_i2c ⟨_, h128⟩]
          refine g_callV (pc := 65) (M' := mJ8_append_3) (as := [_]) (ci := 36) rfl i_X12_32_36 eJ8_append_3 dX12_word_65 hS.1 (k_app (t := (fun k => t (b0 + k))) (by omega) (by show 95 ≠ 0; decide) (by show 96 ≠ 0; decide) (fun e => by cases e) (by omega) h128 hS) (by omega) rfl rfl (Nat.le_of_ble_eq_true rfl) (by omega) (by omega) (fun C9 x9 h9 q9 => ?_) (fun r9 h9 q9 => ?_)
          · cases q9.1
          obtain ⟨e9, hS9, o9⟩ := q9
          cases e9
          refine g_pop (pc := 68) dX12_word_68 rfl ?_
          refine g_iinc (pc := 69) (ls' := [_, _, _]) dX12_word_69 rfl (by first | exact nI_1 _ | exact rfl) (by decide) rfl rfl ?_
          refine g_goto (pc := 72) 18 dX12_word_72 (by decide) ?_
          exact ih (j + 1) h9 (by omega) (by omega) (by omega) (by rw [hw, wlF_s hin hlet, Nat.add_assoc b0 j 1]; omega) ((o9 _ hxs hxb).trans fx) ((o9 _ hts htb).trans ft) hS9 (fun y o hy k => (o9 _ (fun e => by rw [e, n95] at k; cases k) (fun e => by rw [e, n96] at k; cases k)).trans (E1 y o hy k)) (cFr.tr C1 (cFr.at2 (by show 95 < 900; decide) (by show 96 < 900; decide) o9)) (fun k hk => by
            by_cases w : k = j
            · rw [w]; exact h128
            · exact hlt k (by omega)) kk
set_option maxHeartbeats 2000000 in
theorem k_word13 (hd : 10 ≤ d) (hR : RH x tp n T t) (ha : a ≤ n) (fx : h x = some (rdO 13 tp n a fr op rest)) (ft : h tp = some (bA 600 T)) : Ct E d 4 34 mX12_word [vR x] h (wdQ13 h x tp n (bl t n a) fr op rest t) := by
  refine ct_of (by decide) (Nat.le_of_ble_eq_true rfl) rfl ?_
  obtain ⟨hx, hx9, hxt, hn, hT⟩ := id hR
  have hb := bl_le (t := t) ha
  obtain ⟨h0, hh0⟩ : ∃ h0, h0 = h := ⟨_, rfl⟩
  have O1 : ∀ y, y ≠ x → h y = h0 y := fun y _ => by rw [hh0]
  suffices hsuf : G E d 4 34 mX12_word 0 _ [] h (wdQ13 h0 x tp n (bl t n a) fr op rest t) by rw [hh0] at hsuf; exact hsuf
  clear hh0
  refine g_aload_n (pc := 0) dX12_word_0 rfl ?_
  refine g_callV (pc := 1) (M' := mX12_sign) (as := []) (ci := 13) rfl i_X12_22_13 eX12_sign dX12_word_1 fx (k_sign13 hR ha fx ft) (by omega) rfl rfl (Nat.le_of_ble_eq_true rfl) (by omega) (by omega) (fun C9 x9 h9 q9 => ?_) (fun r9 h9 q9 => ?_)
  · cases q9.1
  obtain ⟨e9, fx', o9⟩ := q9
  cases e9
  replace ft := (o9 _ hxt.symm).trans ft
  replace fx := fx'
  replace O1 := fun y hy => (o9 y hy).trans (O1 y hy)
  refine g_pop (pc := 4) dX12_word_4 rfl ?_
  have E1 : ∀ y o, y ≠ x → h0 y = some o → h9 y = some o := fun y o hy k => (O1 y hy).trans k
  have C1 : cFr h0 h9 := cFr.at hx9 O1
  refine n_new (pc := 5) (fs := [vN, vI 0, vI 0, vI 0]) 95 k_J8 q1019 q225 q110 dX12_word_5 (fun j hj => by match j, hj with | 0, _ => rfl | 1, _ => rfl | 2, _ => rfl | 3, _ => rfl | j + 4, hj => exact absurd hj (by omega)) (by omega) (by omega) (fun s h1 q8 n9 o8 => ?_)
  have n95 : ∀ k, h0 (k, s) = none := fun k => n0_ofx E1 n9 (ne_new fx n9)
  have hxs := ne_new (kd := 95) fx n9
  have hts := ne_new (kd := 95) ft n9
  have fx1 := (o8 _ hxs).trans fx
  have ft1 := (o8 _ hts).trans ft
  have E1b : ∀ y o, y ≠ x → h0 y = some o → h1 y = some o := fun y o hy k => (o8 _ (fun e => by rw [e, n95] at k; cases k)).trans (E1 y o hy k)
  refine g_dup (pc := 8) dX12_word_8 rfl ?_
  refine g_callI (pc := 9) (M' := mJ8_init) (as := []) i_X12_28 eJ8_init dX12_word_9 (k_snew (x := (95, s)) (by omega) (by show 95 ≠ 0; decide) (by show 95 < 900; decide) q8) (by omega) rfl rfl (Nat.le_of_ble_eq_true rfl) (by omega) (by omega) (fun C x h' q => by cases q.1) (fun r h2 q => ?_)
  obtain ⟨q1, b, q2, q3, m9, E9, C9⟩ := q
  cases q1
  have n96 : ∀ k, h0 (k, b) = none := fun k => n0_ofx E1b m9 (ne_new fx1 m9)
  have hxb := ne_new (kd := 96) fx1 m9
  have htb := ne_new (kd := 96) ft1 m9
  have fx2 := E9 _ _ hxs fx1
  have ft2 := E9 _ _ hts ft1
  have E2 : ∀ y o, y ≠ x → h0 y = some o → h2 y = some o := fun y o hy k => E9 _ _ (fun e => by rw [e, n95] at k; cases k) (E1b y o hy k)
  have C2 := cFr.tr C1 (cFr.tr (cFr.at (by show 95 < 900; decide) o8) C9)
  refine g_astore_n (pc := 12) (ls' := [_, _, _]) dX12_word_12 (by decide) rfl rfl ?_
  refine g_aload_n (pc := 13) dX12_word_13 rfl ?_
  refine g_getfield (pc := 14) f_X12_19_13 dX12_word_14 fx2 rfl ?_
  refine g_istore_n (pc := 17) (ls' := [_, _, _]) dX12_word_17 (by decide) rfl rfl ?_
  refine l_word13 (b0 := bl t n a) (by omega) hR hb.2 n95 n96 hxs hxb hts htb 10 0 h2 rfl (by decide) hb.2 (Nat.zero_add _).symm fx2 ft2 ⟨q2, _, q3, fun j hj => absurd hj (Nat.not_lt_zero j)⟩ E2 C2 (fun k hk => absurd hk (Nat.not_lt_zero k)) (fun h3 fx3 ft3 hS E3 C3 hlt => ?_)
  have hL : wL t n (bl t n a) ≤ 10 := Nat.min_le_right _ _
  refine g_aload_n (pc := 75) dX12_word_75 rfl ?_
  refine g_callV (pc := 76) (M' := mJ8_toString) (as := []) (ci := 36) rfl i_X12_36_36 eJ8_toString dX12_word_76 hS.1 (k_str (by omega) (by omega) hlt hS) (by omega) rfl rfl (Nat.le_of_ble_eq_true rfl) (by omega) (by omega) (fun C x h' q => by obtain ⟨a9, v9, e9, -⟩ := q; cases e9) (fun r h4 q => ?_)
  obtain ⟨a9, v9, e9, p1, p2, p3, E4, C4⟩ := q
  cases e9
  refine g_areturn (pc := 79) dX12_word_79 rfl (by first | exact Or.inl ⟨_, rfl⟩ | exact Or.inr ⟨_, rfl⟩) ?_
  exact ⟨a9, v9, rfl, p1, hlt, E4 _ _ fx3, fun k => n0_ofx E3 p2 (ne_new fx3 p2), fun k => n0_ofx E3 p3 (ne_new fx3 p3), fun y o hy k => E4 _ _ (E3 y o hy k), cFr.tr C3 C4⟩
end
section
variable {E : jE} {d : Nat} {h : jH} {t : Nat → Nat} {n a : Nat} {T : Nat → Int32} {tp x : jN} {fr op : Int32} {rest : List jV} {P : jN → Prop}
def wdQ17 (h : jH) (x tp : jN) (n b : Nat) (fr op : Int32) (rest : List jV) (t : Nat → Nat) : jR → jH → Prop := fun r h' => ∃ s v : Nat, r = .inl (some (vR (97, s))) ∧ sS h' (97, s) (98, v) (wL t n b) (fun k => t (b + k)) ∧ (∀ k, k < wL t n b → t (b + k) < 128) ∧ h' x = some (rdO 17 tp n b fr op rest) ∧ (∀ k, h (k, s) = none) ∧ (∀ k, h (k, v) = none) ∧ (∀ y o, y ≠ x → h y = some o → h' y = some o) ∧ cFr h h'
set_option maxHeartbeats 2000000 in
theorem l_word17 {bc bs b0 s b : Nat} {Q : jR → jH → Prop} {h0 : jH} (hd : 6 ≤ d) (hR : RH x tp n T t) (hb : b0 ≤ n) (n95 : ∀ k, h0 (k, s) = none) (n96 : ∀ k, h0 (k, b) = none) (hxs : x ≠ (95, s)) (hxb : x ≠ (96, b)) (hts : tp ≠ (95, s)) (htb : tp ≠ (96, b)) : ∀ (m j : Nat) (h : jH), 10 - j = m → j ≤ 10 → b0 + j ≤ n → wl t n b0 = j + wlF t (n - (b0 + j)) (b0 + j) → h x = some (rdO 17 tp n b0 fr op rest) → h tp = some (bA 600 T) → sbS h (95, s) (96, b) j (fun k => t (b0 + k)) → (∀ y o, y ≠ x → h0 y = some o → h y = some o) → cFr h0 h → (∀ k, k < j → t (b0 + k) < 128) → (∀ h', h' x = some (rdO 17 tp n b0 fr op rest) → h' tp = some (bA 600 T) → sbS h' (95, s) (96, b) (wL t n b0) (fun k => t (b0 + k)) → (∀ y o, y ≠ x → h0 y = some o → h' y = some o) → cFr h0 h' → (∀ k, k < (wL t n b0) → t (b0 + k) < 128) → G E d bc bs mX12_word 75 [some (vR x), some (vR (95, s)), some (vI (nI (b0 + (wL t n b0))))] [] h' Q) → G E d bc bs mX12_word 18 [some (vR x), some (vR (95, s)), some (vI (nI (b0 + j)))] [] h Q := by
  obtain ⟨hx, hx9, hxt, hn, hT⟩ := id hR
  intro m
  induction m with
  | zero =>
    intro j h hm hj hjn hw fx ft hS E1 C1 hlt kk
    have e : j = 10 := by omega
    have eL : wL t n b0 = j := by unfold wL; omega
    rw [eL] at kk
    clear hm
    refine g_iload_n (pc := 18) dX12_word_18 rfl ?_
    refine g_aload_n (pc := 19) dX12_word_19 rfl ?_
    refine g_getfield (pc := 20) f_X12_15_17 dX12_word_20 fx rfl ?_
    refine g_icmp_ge (pc := 23) 75 dX12_word_23 (by decide) (fun c_23 => ?_) (fun c_23 => ?_)
    · exact kk h fx ft hS E1 C1 hlt
    · have hin : b0 + j < n := Nat.not_le.mp (fun w => c_23 (nI_le w (by omega)))
      have h256 := (hT (b0 + j) (by omega)).2
      refine g_aload_n (pc := 26) dX12_word_26 rfl ?_
      refine g_getfield (pc := 27) f_X12_9_17 dX12_word_27 fx rfl ?_
      refine g_iload_n (pc := 30) dX12_word_30 rfl ?_
      refine g_baload (pc := 31) dX12_word_31 ft (j := b0 + j) rfl (by omega) (by first | decide | omega) rfl ?_
      rw [(hT (b0 + j) (by omega)).1]
      refine g_bipush (pc := 32) (v := 97) dX12_word_32 (by decide) ?_
      refine g_icmp_lt (pc := 34) 75 dX12_word_34 (by decide) (fun c_34 => ?_) (fun c_34 => ?_)
      · exact kk h fx ft hS E1 C1 hlt
      · refine g_aload_n (pc := 37) dX12_word_37 rfl ?_
        refine g_getfield (pc := 38) f_X12_9_17 dX12_word_38 fx rfl ?_
        refine g_iload_n (pc := 41) dX12_word_41 rfl ?_
        refine g_baload (pc := 42) dX12_word_42 ft (j := b0 + j) rfl (by omega) (by first | decide | omega) rfl ?_
        rw [(hT (b0 + j) (by omega)).1]
        refine g_bipush (pc := 43) (v := 122) dX12_word_43 (by decide) ?_
        refine g_icmp_gt (pc := 45) 75 dX12_word_45 (by decide) (fun c_45 => ?_) (fun c_45 => ?_)
        · exact kk h fx ft hS E1 C1 hlt
        · have hlet : 97 ≤ t (b0 + j) ∧ t (b0 + j) ≤ 122 := by
            have e1 : ¬ (t (b0 + j) < 97 ∨ 128 ≤ t (b0 + j)) := fun w => c_34 ((cb_lt h256 (c := 97) (by decide)).mpr w)
            have e2 : ¬ (122 < t (b0 + j) ∧ t (b0 + j) < 128) := fun w => c_45 ((cb_gt h256 (c := 122) (by decide)).mpr w)
            omega
          have h128 : t (b0 + j) < 128 := by omega
          refine g_aload_n (pc := 48) dX12_word_48 rfl ?_
          refine g_cV (pc := 49) (M' := mJ8_length) (as := []) (ci := 36) rfl i_X12_29_36 eJ8_length dX12_word_49 hS.1 (k_slen (by omega) hS.1) (by omega) rfl rfl (Nat.le_of_ble_eq_true rfl) ?_
          refine g_bipush (pc := 52) (v := 10) dX12_word_52 (by decide) ?_
          refine g_icmp_ge (pc := 54) 75 dX12_word_54 (by decide) (fun c_54 => ?_) (fun c_54 => absurd (nI_le (a := 10) (b := j) (by omega) (by omega)) c_54)
          exact kk h fx ft hS E1 C1 hlt
  | succ m ih =>
    intro j h hm hj hjn hw fx ft hS E1 C1 hlt kk
    refine g_iload_n (pc := 18) dX12_word_18 rfl ?_
    refine g_aload_n (pc := 19) dX12_word_19 rfl ?_
    refine g_getfield (pc := 20) f_X12_15_17 dX12_word_20 fx rfl ?_
    refine g_icmp_ge (pc := 23) 75 dX12_word_23 (by decide) (fun c_23 => ?_) (fun c_23 => ?_)
    · have eL : wL t n b0 = j := by
        have := wlF_n (t := t) (n := n) (a := b0 + j) (fun w => absurd w.1 (by have := (nI_leI (a := n) (b := b0 + j) (by omega) (by omega)).mp c_23; omega))
        unfold wL; omega
      rw [eL] at kk
      exact kk h fx ft hS E1 C1 hlt
    · have hin : b0 + j < n := Nat.not_le.mp (fun w => c_23 (nI_le w (by omega)))
      have h256 := (hT (b0 + j) (by omega)).2
      refine g_aload_n (pc := 26) dX12_word_26 rfl ?_
      refine g_getfield (pc := 27) f_X12_9_17 dX12_word_27 fx rfl ?_
      refine g_iload_n (pc := 30) dX12_word_30 rfl ?_
      refine g_baload (pc := 31) dX12_word_31 ft (j := b0 + j) rfl (by omega) (by first | decide | omega) rfl ?_
      rw [(hT (b0 + j) (by omega)).1]
      refine g_bipush (pc := 32) (v := 97) dX12_word_32 (by decide) ?_
      refine g_icmp_lt (pc := 34) 75 dX12_word_34 (by decide) (fun c_34 => ?_) (fun c_34 => ?_)
      · have eL : wL t n b0 = j := by
          have := wlF_n (t := t) (n := n) (a := b0 + j) (fun w => by have := (cb_lt h256 (c := 97) (by decide)).mp c_34; omega)
          unfold wL; omega
        rw [eL] at kk
        exact kk h fx ft hS E1 C1 hlt
      · refine g_aload_n (pc := 37) dX12_word_37 rfl ?_
        refine g_getfield (pc := 38) f_X12_9_17 dX12_word_38 fx rfl ?_
        refine g_iload_n (pc := 41) dX12_word_41 rfl ?_
        refine g_baload (pc := 42) dX12_word_42 ft (j := b0 + j) rfl (by omega) (by first | decide | omega) rfl ?_
        rw [(hT (b0 + j) (by omega)).1]
        refine g_bipush (pc := 43) (v := 122) dX12_word_43 (by decide) ?_
        refine g_icmp_gt (pc := 45) 75 dX12_word_45 (by decide) (fun c_45 => ?_) (fun c_45 => ?_)
        · have eL : wL t n b0 = j := by
            have := wlF_n (t := t) (n := n) (a := b0 + j) (fun w => by have := (cb_gt h256 (c := 122) (by decide)).mp c_45; omega)
            unfold wL; omega
          rw [eL] at kk
          exact kk h fx ft hS E1 C1 hlt
        · have hlet : 97 ≤ t (b0 + j) ∧ t (b0 + j) ≤ 122 := by
            have e1 : ¬ (t (b0 + j) < 97 ∨ 128 ≤ t (b0 + j)) := fun w => c_34 ((cb_lt h256 (c := 97) (by decide)).mpr w)
            have e2 : ¬ (122 < t (b0 + j) ∧ t (b0 + j) < 128) := fun w => c_45 ((cb_gt h256 (c := 122) (by decide)).mpr w)
            omega
          have h128 : t (b0 + j) < 128 := by omega
          refine g_aload_n (pc := 48) dX12_word_48 rfl ?_
          refine g_cV (pc := 49) (M' := mJ8_length) (as := []) (ci := 36) rfl i_X12_29_36 eJ8_length dX12_word_49 hS.1 (k_slen (by omega) hS.1) (by omega) rfl rfl (Nat.le_of_ble_eq_true rfl) ?_
          refine g_bipush (pc := 52) (v := 10) dX12_word_52 (by decide) ?_
          refine g_icmp_ge (pc := 54) 75 dX12_word_54 (by decide) (fun c_54 => absurd c_54 (by intro w; have := (nI_leI (a := 10) (b := j) (by decide) (by omega)).mp w; omega)) (fun c_54 => ?_)
          refine g_aload_n (pc := 57) dX12_word_57 rfl ?_
          refine g_aload_n (pc := 58) dX12_word_58 rfl ?_
          refine g_getfield (pc := 59) f_X12_9_17 dX12_word_59 fx rfl ?_
          refine g_iload_n (pc := 62) dX12_word_62 rfl ?_
          refine g_baload (pc := 63) dX12_word_63 ft (j := b0 + j) rfl (by omega) (by first | decide | omega) rfl ?_
          rw [(hT (b0 + j) (by omega)).1, cb_n h128]
          refine g_i2c (pc := 64) dX12_word_64 ?_
          rw [b8_i2c ⟨_, h128⟩]
          refine g_callV (pc := 65) (M' := mJ8_append_3) (as := [_]) (ci := 36) rfl i_X12_32_36 eJ8_append_3 dX12_word_65 hS.1 (k_app (t := (fun k => t (b0 + k))) (by omega) (by show 95 ≠ 0; decide) (by show 96 ≠ 0; decide) (fun e => by cases e) (by omega) h128 hS) (by omega) rfl rfl (Nat.le_of_ble_eq_true rfl) (by omega) (by omega) (fun C9 x9 h9 q9 => ?_) (fun r9 h9 q9 => ?_)
          · cases q9.1
          obtain ⟨e9, hS9, o9⟩ := q9
          cases e9
          refine g_pop (pc := 68) dX12_word_68 rfl ?_
          refine g_iinc (pc := 69) (ls' := [_, _, _]) dX12_word_69 rfl (by first | exact nI_1 _ | exact rfl) (by decide) rfl rfl ?_
          refine g_goto (pc := 72) 18 dX12_word_72 (by decide) ?_
          exact ih (j + 1) h9 (by omega) (by omega) (by omega) (by rw [hw, wlF_s hin hlet, Nat.add_assoc b0 j 1]; omega) ((o9 _ hxs hxb).trans fx) ((o9 _ hts htb).trans ft) hS9 (fun y o hy k => (o9 _ (fun e => by rw [e, n95] at k; cases k) (fun e => by rw [e, n96] at k; cases k)).trans (E1 y o hy k)) (cFr.tr C1 (cFr.at2 (by show 95 < 900; decide) (by show 96 < 900; decide) o9)) (fun k hk => by
            by_cases w : k = j
            · rw [w]; exact h128
            · exact hlt k (by omega)) kk
set_option maxHeartbeats 2000000 in
theorem k_word17 (hd : 10 ≤ d) (hR : RH x tp n T t) (ha : a ≤ n) (fx : h x = some (rdO 17 tp n a fr op rest)) (ft : h tp = some (bA 600 T)) : Ct E d 4 34 mX12_word [vR x] h (wdQ17 h x tp n (bl t n a) fr op rest t) := by
  refine ct_of (by decide) (Nat.le_of_ble_eq_true rfl) rfl ?_
  obtain ⟨hx, hx9, hxt, hn, hT⟩ := id hR
  have hb := bl_le (t := t) ha
  obtain ⟨h0, hh0⟩ : ∃ h0, h0 = h := ⟨_, rfl⟩
  have O1 : ∀ y, y ≠ x → h y = h0 y := fun y _ => by rw [hh0]
  suffices hsuf : G E d 4 34 mX12_word 0 _ [] h (wdQ17 h0 x tp n (bl t n a) fr op rest t) by rw [hh0] at hsuf; exact hsuf
  clear hh0
  refine g_aload_n (pc := 0) dX12_word_0 rfl ?_
  refine g_callV (pc := 1) (M' := mX12_sign) (as := []) (ci := 17) rfl i_X12_22_17 eX12_sign dX12_word_1 fx (k_sign17 hR ha fx ft) (by omega) rfl rfl (Nat.le_of_ble_eq_true rfl) (by omega) (by omega) (fun C9 x9 h9 q9 => ?_) (fun r9 h9 q9 => ?_)
  · cases q9.1
  obtain ⟨e9, fx', o9⟩ := q9
  cases e9
  replace ft := (o9 _ hxt.symm).trans ft
  replace fx := fx'
  replace O1 := fun y hy => (o9 y hy).trans (O1 y hy)
  refine g_pop (pc := 4) dX12_word_4 rfl ?_
  have E1 : ∀ y o, y ≠ x → h0 y = some o → h9 y = some o := fun y o hy k => (O1 y hy).trans k
  have C1 : cFr h0 h9 := cFr.at hx9 O1
  refine n_new (pc := 5) (fs := [vN, vI 0, vI 0, vI 0]) 95 k_J8 q1019 q225 q110 dX12_word_5 (fun j hj => by match j, hj with | 0, _ => rfl | 1, _ => rfl | 2, _ => rfl | 3, _ => rfl | j + 4, hj => exact absurd hj (by omega)) (by omega) (by omega) (fun s h1 q8 n9 o8 => ?_)
  have n95 : ∀ k, h0 (k, s) = none := fun k => n0_ofx E1 n9 (ne_new fx n9)
  have hxs := ne_new (kd := 95) fx n9
  have hts := ne_new (kd := 95) ft n9
  have fx1 := (o8 _ hxs).trans fx
  have ft1 := (o8 _ hts).trans ft
  have E1b : ∀ y o, y ≠ x → h0 y = some o → h1 y = some o := fun y o hy k => (o8 _ (fun e => by rw [e, n95] at k; cases k)).trans (E1 y o hy k)
  refine g_dup (pc := 8) dX12_word_8 rfl ?_
  refine g_callI (pc := 9) (M' := mJ8_init) (as := []) i_X12_28 eJ8_init dX12_word_9 (k_snew (x := (95, s)) (by omega) (by show 95 ≠ 0; decide) (by show 95 < 900; decide) q8) (by omega) rfl rfl (Nat.le_of_ble_eq_true rfl) (by omega) (by omega) (fun C x h' q => by cases q.1) (fun r h2 q => ?_)
  obtain ⟨q1, b, q2, q3, m9, E9, C9⟩ := q
  cases q1
  have n96 : ∀ k, h0 (k, b) = none := fun k => n0_ofx E1b m9 (ne_new fx1 m9)
  have hxb := ne_new (kd := 96) fx1 m9
  have htb := ne_new (kd := 96) ft1 m9
  have fx2 := E9 _ _ hxs fx1
  have ft2 := E9 _ _ hts ft1
  have E2 : ∀ y o, y ≠ x → h0 y = some o → h2 y = some o := fun y o hy k => E9 _ _ (fun e => by rw [e, n95] at k; cases k) (E1b y o hy k)
  have C2 := cFr.tr C1 (cFr.tr (cFr.at (by show 95 < 900; decide) o8) C9)
  refine g_astore_n (pc := 12) (ls' := [_, _, _]) dX12_word_12 (by decide) rfl rfl ?_
  refine g_aload_n (pc := 13) dX12_word_13 rfl ?_
  refine g_getfield (pc := 14) f_X12_19_17 dX12_word_14 fx2 rfl ?_
  refine g_istore_n (pc := 17) (ls' := [_, _, _]) dX12_word_17 (by decide) rfl rfl ?_
  refine l_word17 (b0 := bl t n a) (by omega) hR hb.2 n95 n96 hxs hxb hts htb 10 0 h2 rfl (by decide) hb.2 (Nat.zero_add _).symm fx2 ft2 ⟨q2, _, q3, fun j hj => absurd hj (Nat.not_lt_zero j)⟩ E2 C2 (fun k hk => absurd hk (Nat.not_lt_zero k)) (fun h3 fx3 ft3 hS E3 C3 hlt => ?_)
  have hL : wL t n (bl t n a) ≤ 10 := Nat.min_le_right _ _
  refine g_aload_n (pc := 75) dX12_word_75 rfl ?_
  refine g_callV (pc := 76) (M' := mJ8_toString) (as := []) (ci := 36) rfl i_X12_36_36 eJ8_toString dX12_word_76 hS.1 (k_str (by omega) (by omega) hlt hS) (by omega) rfl rfl (Nat.le_of_ble_eq_true rfl) (by omega) (by omega) (fun C x h' q => by obtain ⟨a9, v9, e9, -⟩ := q; cases e9) (fun r h4 q => ?_)
  obtain ⟨a9, v9, e9, p1, p2, p3, E4, C4⟩ := q
  cases e9
  refine g_areturn (pc := 79) dX12_word_79 rfl (by first | exact Or.inl ⟨_, rfl⟩ | exact Or.inr ⟨_, rfl⟩) ?_
  exact ⟨a9, v9, rfl, p1, hlt, E4 _ _ fx3, fun k => n0_ofx E3 p2 (ne_new fx3 p2), fun k => n0_ofx E3 p3 (ne_new fx3 p3), fun y o hy k => E4 _ _ (E3 y o hy k), cFr.tr C3 C4⟩
end
section
variable {E : jE} {d : Nat} {h : jH} {t : Nat → Nat} {n a : Nat} {T : Nat → Int32} {tp x : jN} {fr op : Int32} {rest : List jV} {P : jN → Prop}
def wdQ22 (h : jH) (x tp : jN) (n b : Nat) (fr op : Int32) (rest : List jV) (t : Nat → Nat) : jR → jH → Prop := fun r h' => ∃ s v : Nat, r = .inl (some (vR (97, s))) ∧ sS h' (97, s) (98, v) (wL t n b) (fun k => t (b + k)) ∧ (∀ k, k < wL t n b → t (b + k) < 128) ∧ h' x = some (rdO 22 tp n b fr op rest) ∧ (∀ k, h (k, s) = none) ∧ (∀ k, h (k, v) = none) ∧ (∀ y o, y ≠ x → h y = some o → h' y = some o) ∧ cFr h h'
set_option maxHeartbeats 2000000 in
theorem l_word22 {bc bs b0 s b : Nat} {Q : jR → jH → Prop} {h0 : jH} (hd : 6 ≤ d) (hR : RH x tp n T t) (hb : b0 ≤ n) (n95 : ∀ k, h0 (k, s) = none) (n96 : ∀ k, h0 (k, b) = none) (hxs : x ≠ (95, s)) (hxb : x ≠ (96, b)) (hts : tp ≠ (95, s)) (htb : tp ≠ (96, b)) : ∀ (m j : Nat) (h : jH), 10 - j = m → j ≤ 10 → b0 + j ≤ n → wl t n b0 = j + wlF t (n - (b0 + j)) (b0 + j) → h x = some (rdO 22 tp n b0 fr op rest) → h tp = some (bA 600 T) → sbS h (95, s) (96, b) j (fun k => t (b0 + k)) → (∀ y o, y ≠ x → h0 y = some o → h y = some o) → cFr h0 h → (∀ k, k < j → t (b0 + k) < 128) → (∀ h', h' x = some (rdO 22 tp n b0 fr op rest) → h' tp = some (bA 600 T) → sbS h' (95, s) (96, b) (wL t n b0) (fun k => t (b0 + k)) → (∀ y o, y ≠ x → h0 y = some o → h' y = some o) → cFr h0 h' → (∀ k, k < (wL t n b0) → t (b0 + k) < 128) → G E d bc bs mX12_word 75 [some (vR x), some (vR (95, s)), some (vI (nI (b0 + (wL t n b0))))] [] h' Q) → G E d bc bs mX12_word 18 [some (vR x), some (vR (95, s)), some (vI (nI (b0 + j)))] [] h Q := by
  obtain ⟨hx, hx9, hxt, hn, hT⟩ := id hR
  intro m
  induction m with
  | zero =>
    intro j h hm hj hjn hw fx ft hS E1 C1 hlt kk
    have e : j = 10 := by omega
    have eL : wL t n b0 = j := by unfold wL; omega
    rw [eL] at kk
    clear hm
    refine g_iload_n (pc := 18) dX12_word_18 rfl ?_
    refine g_aload_n (pc := 19) dX12_word_19 rfl ?_
    refine g_getfield (pc := 20) f_X12_15_22 dX12_word_20 fx rfl ?_
    refine g_icmp_ge (pc := 23) 75 dX12_word_23 (by decide) (fun c_23 => ?_) (fun c_23 => ?_)
    · exact kk h fx ft hS E1 C1 hlt
    · have hin : b0 + j < n := Nat.not_le.mp (fun w => c_23 (nI_le w (by omega)))
      have h256 := (hT (b0 + j) (by omega)).2
      refine g_aload_n (pc := 26) dX12_word_26 rfl ?_
      refine g_getfield (pc := 27) f_X12_9_22 dX12_word_27 fx rfl ?_
      refine g_iload_n (pc := 30) dX12_word_30 rfl ?_
      refine g_baload (pc := 31) dX12_word_31 ft (j := b0 + j) rfl (by omega) (by first | decide | omega) rfl ?_
      rw [(hT (b0 + j) (by omega)).1]
      refine g_bipush (pc := 32) (v := 97) dX12_word_32 (by decide) ?_
      refine g_icmp_lt (pc := 34) 75 dX12_word_34 (by decide) (fun c_34 => ?_) (fun c_34 => ?_)
      · exact kk h fx ft hS E1 C1 hlt
      · refine g_aload_n (pc := 37) dX12_word_37 rfl ?_
        refine g_getfield (pc := 38) f_X12_9_22 dX12_word_38 fx rfl ?_
        refine g_iload_n (pc := 41) dX12_word_41 rfl ?_
        refine g_baload (pc := 42) dX12_word_42 ft (j := b0 + j) rfl (by omega) (by first | decide | omega) rfl ?_
        rw [(hT (b0 + j) (by omega)).1]
        refine g_bipush (pc := 43) (v := 122) dX12_word_43 (by decide) ?_
        refine g_icmp_gt (pc := 45) 75 dX12_word_45 (by decide) (fun c_45 => ?_) (fun c_45 => ?_)
        · exact kk h fx ft hS E1 C1 hlt
        · have hlet : 97 ≤ t (b0 + j) ∧ t (b0 + j) ≤ 122 := by
            have e1 : ¬ (t (b0 + j) < 97 ∨ 128 ≤ t (b0 + j)) := fun w => c_34 ((cb_lt h256 (c := 97) (by decide)).mpr w)
            have e2 : ¬ (122 < t (b0 + j) ∧ t (b0 + j) < 128) := fun w => c_45 ((cb_gt h256 (c := 122) (by decide)).mpr w)
            omega
          have h128 : t (b0 + j) < 128 := by omega
          refine g_aload_n (pc := 48) dX12_word_48 rfl ?_
          refine g_cV (pc := 49) (M' := mJ8_length) (as := []) (ci := 36) rfl i_X12_29_36 eJ8_length dX12_word_49 hS.1 (k_slen (by omega) hS.1) (by omega) rfl rfl (Nat.le_of_ble_eq_true rfl) ?_
          refine g_bipush (pc := 52) (v := 10) dX12_word_52 (by decide) ?_
          refine g_icmp_ge (pc := 54) 75 dX12_word_54 (by decide) (fun c_54 => ?_) (fun c_54 => absurd (nI_le (a := 10) (b := j) (by omega) (by omega)) c_54)
          exact kk h fx ft hS E1 C1 hlt
  | succ m ih =>
    intro j h hm hj hjn hw fx ft hS E1 C1 hlt kk
    refine g_iload_n (pc := 18) dX12_word_18 rfl ?_
    refine g_aload_n (pc := 19) dX12_word_19 rfl ?_
    refine g_getfield (pc := 20) f_X12_15_22 dX12_word_20 fx rfl ?_
    refine g_icmp_ge (pc := 23) 75 dX12_word_23 (by decide) (fun c_23 => ?_) (fun c_23 => ?_)
    · have eL : wL t n b0 = j := by
        have := wlF_n (t := t) (n := n) (a := b0 + j) (fun w => absurd w.1 (by have := (nI_leI (a := n) (b := b0 + j) (by omega) (by omega)).mp c_23; omega))
        unfold wL; omega
      rw [eL] at kk
      exact kk h fx ft hS E1 C1 hlt
    · have hin : b0 + j < n := Nat.not_le.mp (fun w => c_23 (nI_le w (by omega)))
      have h256 := (hT (b0 + j) (by omega)).2
      refine g_aload_n (pc := 26) dX12_word_26 rfl ?_
      refine g_getfield (pc := 27) f_X12_9_22 dX12_word_27 fx rfl ?_
      refine g_iload_n (pc := 30) dX12_word_30 rfl ?_
      refine g_baload (pc := 31) dX12_word_31 ft (j := b0 + j) rfl (by omega) (by first | decide | omega) rfl ?_
      rw [(hT (b0 + j) (by omega)).1]
      refine g_bipush (pc := 32) (v := 97) dX12_word_32 (by decide) ?_
      refine g_icmp_lt (pc := 34) 75 dX12_word_34 (by decide) (fun c_34 => ?_) (fun c_34 => ?_)
      · have eL : wL t n b0 = j := by
          have := wlF_n (t := t) (n := n) (a := b0 + j) (fun w => by have := (cb_lt h256 (c := 97) (by decide)).mp c_34; omega)
          unfold wL; omega
        rw [eL] at kk
        exact kk h fx ft hS E1 C1 hlt
      · refine g_aload_n (pc := 37) dX12_word_37 rfl ?_
        refine g_getfield (pc := 38) f_X12_9_22 dX12_word_38 fx rfl ?_
        refine g_iload_n (pc := 41) dX12_word_41 rfl ?_
        refine g_baload (pc := 42) dX12_word_42 ft (j := b0 + j) rfl (by omega) (by first | decide | omega) rfl ?_
        rw [(hT (b0 + j) (by omega)).1]
        refine g_bipush (pc := 43) (v := 122) dX12_word_43 (by decide) ?_
        refine g_icmp_gt (pc := 45) 75 dX12_word_45 (by decide) (fun c_45 => ?_) (fun c_45 => ?_)
        · have eL : wL t n b0 = j := by
            have := wlF_n (t := t) (n := n) (a := b0 + j) (fun w => by have := (cb_gt h256 (c := 122) (by decide)).mp c_45; omega)
            unfold wL; omega
          rw [eL] at kk
          exact kk h fx ft hS E1 C1 hlt
        · have hlet : 97 ≤ t (b0 + j) ∧ t (b0 + j) ≤ 122 := by
            have e1 : ¬ (t (b0 + j) < 97 ∨ 128 ≤ t (b0 + j)) := fun w => c_34 ((cb_lt h256 (c := 97) (by decide)).mpr w)
            have e2 : ¬ (122 < t (b0 + j) ∧ t (b0 + j) < 128) := fun w => c_45 ((cb_gt h256 (c := 122) (by decide)).mpr w)
            omega
          have h128 : t (b0 + j) < 128 := by omega
          refine g_aload_n (pc := 48) dX12_word_48 rfl ?_
          refine g_cV (pc := 49) (M' := mJ8_length) (as := []) (ci := 36) rfl i_X12_29_36 eJ8_length dX12_word_49 hS.1 (k_slen (by omega) hS.1) (by omega) rfl rfl (Nat.le_of_ble_eq_true rfl) ?_
          refine g_bipush (pc := 52) (v := 10) dX12_word_52 (by decide) ?_
          refine g_icmp_ge (pc := 54) 75 dX12_word_54 (by decide) (fun c_54 => absurd c_54 (by intro w; have := (nI_leI (a := 10) (b := j) (by decide) (by omega)).mp w; omega)) (fun c_54 => ?_)
          refine g_aload_n (pc := 57) dX12_word_57 rfl ?_
          refine g_aload_n (pc := 58) dX12_word_58 rfl ?_
          refine g_getfield (pc := 59) f_X12_9_22 dX12_word_59 fx rfl ?_
          refine g_iload_n (pc := 62) dX12_word_62 rfl ?_
          refine g_baload (pc := 63) dX12_word_63 ft (j := b0 + j) rfl (by omega) (by first | decide | omega) rfl ?_
          rw [(hT (b0 + j) (by omega)).1, cb_n h128]
          refine g_i2c (pc := 64) dX12_word_64 ?_
          rw [b8_i2c ⟨_, h128⟩]
          refine g_callV (pc := 65) (M' := mJ8_append_3) (as := [_]) (ci := 36) rfl i_X12_32_36 eJ8_append_3 dX12_word_65 hS.1 (k_app (t := (fun k => t (b0 + k))) (by omega) (by show 95 ≠ 0; decide) (by show 96 ≠ 0; decide) (fun e => by cases e) (by omega) h128 hS) (by omega) rfl rfl (Nat.le_of_ble_eq_true rfl) (by omega) (by omega) (fun C9 x9 h9 q9 => ?_) (fun r9 h9 q9 => ?_)
          · cases q9.1
          obtain ⟨e9, hS9, o9⟩ := q9
          cases e9
          refine g_pop (pc := 68) dX12_word_68 rfl ?_
          refine g_iinc (pc := 69) (ls' := [_, _, _]) dX12_word_69 rfl (by first | exact nI_1 _ | exact rfl) (by decide) rfl rfl ?_
          refine g_goto (pc := 72) 18 dX12_word_72 (by decide) ?_
          exact ih (j + 1) h9 (by omega) (by omega) (by omega) (by rw [hw, wlF_s hin hlet, Nat.add_assoc b0 j 1]; omega) ((o9 _ hxs hxb).trans fx) ((o9 _ hts htb).trans ft) hS9 (fun y o hy k => (o9 _ (fun e => by rw [e, n95] at k; cases k) (fun e => by rw [e, n96] at k; cases k)).trans (E1 y o hy k)) (cFr.tr C1 (cFr.at2 (by show 95 < 900; decide) (by show 96 < 900; decide) o9)) (fun k hk => by
            by_cases w : k = j
            · rw [w]; exact h128
            · exact hlt k (by omega)) kk
set_option maxHeartbeats 2000000 in
theorem k_word22 (hd : 10 ≤ d) (hR : RH x tp n T t) (ha : a ≤ n) (fx : h x = some (rdO 22 tp n a fr op rest)) (ft : h tp = some (bA 600 T)) : Ct E d 4 34 mX12_word [vR x] h (wdQ22 h x tp n (bl t n a) fr op rest t) := by
  refine ct_of (by decide) (Nat.le_of_ble_eq_true rfl) rfl ?_
  obtain ⟨hx, hx9, hxt, hn, hT⟩ := id hR
  have hb := bl_le (t := t) ha
  obtain ⟨h0, hh0⟩ : ∃ h0, h0 = h := ⟨_, rfl⟩
  have O1 : ∀ y, y ≠ x → h y = h0 y := fun y _ => by rw [hh0]
  suffices hsuf : G E d 4 34 mX12_word 0 _ [] h (wdQ22 h0 x tp n (bl t n a) fr op rest t) by rw [hh0] at hsuf; exact hsuf
  clear hh0
  refine g_aload_n (pc := 0) dX12_word_0 rfl ?_
  refine g_callV (pc := 1) (M' := mX12_sign) (as := []) (ci := 22) rfl i_X12_22_22 eX12_sign dX12_word_1 fx (k_sign22 hR ha fx ft) (by omega) rfl rfl (Nat.le_of_ble_eq_true rfl) (by omega) (by omega) (fun C9 x9 h9 q9 => ?_) (fun r9 h9 q9 => ?_)
  · cases q9.1
  obtain ⟨e9, fx', o9⟩ := q9
  cases e9
  replace ft := (o9 _ hxt.symm).trans ft
  replace fx := fx'
  replace O1 := fun y hy => (o9 y hy).trans (O1 y hy)
  refine g_pop (pc := 4) dX12_word_4 rfl ?_
  have E1 : ∀ y o, y ≠ x → h0 y = some o → h9 y = some o := fun y o hy k => (O1 y hy).trans k
  have C1 : cFr h0 h9 := cFr.at hx9 O1
  refine n_new (pc := 5) (fs := [vN, vI 0, vI 0, vI 0]) 95 k_J8 q1019 q225 q110 dX12_word_5 (fun j hj => by match j, hj with | 0, _ => rfl | 1, _ => rfl | 2, _ => rfl | 3, _ => rfl | j + 4, hj => exact absurd hj (by omega)) (by omega) (by omega) (fun s h1 q8 n9 o8 => ?_)
  have n95 : ∀ k, h0 (k, s) = none := fun k => n0_ofx E1 n9 (ne_new fx n9)
  have hxs := ne_new (kd := 95) fx n9
  have hts := ne_new (kd := 95) ft n9
  have fx1 := (o8 _ hxs).trans fx
  have ft1 := (o8 _ hts).trans ft
  have E1b : ∀ y o, y ≠ x → h0 y = some o → h1 y = some o := fun y o hy k => (o8 _ (fun e => by rw [e, n95] at k; cases k)).trans (E1 y o hy k)
  refine g_dup (pc := 8) dX12_word_8 rfl ?_
  refine g_callI (pc := 9) (M' := mJ8_init) (as := []) i_X12_28 eJ8_init dX12_word_9 (k_snew (x := (95, s)) (by omega) (by show 95 ≠ 0; decide) (by show 95 < 900; decide) q8) (by omega) rfl rfl (Nat.le_of_ble_eq_true rfl) (by omega) (by omega) (fun C x h' q => by cases q.1) (fun r h2 q => ?_)
  obtain ⟨q1, b, q2, q3, m9, E9, C9⟩ := q
  cases q1
  have n96 : ∀ k, h0 (k, b) = none := fun k => n0_ofx E1b m9 (ne_new fx1 m9)
  have hxb := ne_new (kd := 96) fx1 m9
  have htb := ne_new (kd := 96) ft1 m9
  have fx2 := E9 _ _ hxs fx1
  have ft2 := E9 _ _ hts ft1
  have E2 : ∀ y o, y ≠ x → h0 y = some o → h2 y = some o := fun y o hy k => E9 _ _ (fun e => by rw [e, n95] at k; cases k) (E1b y o hy k)
  have C2 := cFr.tr C1 (cFr.tr (cFr.at (by show 95 < 900; decide) o8) C9)
  refine g_astore_n (pc := 12) (ls' := [_, _, _]) dX12_word_12 (by decide) rfl rfl ?_
  refine g_aload_n (pc := 13) dX12_word_13 rfl ?_
  refine g_getfield (pc := 14) f_X12_19_22 dX12_word_14 fx2 rfl ?_
  refine g_istore_n (pc := 17) (ls' := [_, _, _]) dX12_word_17 (by decide) rfl rfl ?_
  refine l_word22 (b0 := bl t n a) (by omega) hR hb.2 n95 n96 hxs hxb hts htb 10 0 h2 rfl (by decide) hb.2 (Nat.zero_add _).symm fx2 ft2 ⟨q2, _, q3, fun j hj => absurd hj (Nat.not_lt_zero j)⟩ E2 C2 (fun k hk => absurd hk (Nat.not_lt_zero k)) (fun h3 fx3 ft3 hS E3 C3 hlt => ?_)
  have hL : wL t n (bl t n a) ≤ 10 := Nat.min_le_right _ _
  refine g_aload_n (pc := 75) dX12_word_75 rfl ?_
  refine g_callV (pc := 76) (M' := mJ8_toString) (as := []) (ci := 36) rfl i_X12_36_36 eJ8_toString dX12_word_76 hS.1 (k_str (by omega) (by omega) hlt hS) (by omega) rfl rfl (Nat.le_of_ble_eq_true rfl) (by omega) (by omega) (fun C x h' q => by obtain ⟨a9, v9, e9, -⟩ := q; cases e9) (fun r h4 q => ?_)
  obtain ⟨a9, v9, e9, p1, p2, p3, E4, C4⟩ := q
  cases e9
  refine g_areturn (pc := 79) dX12_word_79 rfl (by first | exact Or.inl ⟨_, rfl⟩ | exact Or.inr ⟨_, rfl⟩) ?_
  exact ⟨a9, v9, rfl, p1, hlt, E4 _ _ fx3, fun k => n0_ofx E3 p2 (ne_new fx3 p2), fun k => n0_ofx E3 p3 (ne_new fx3 p3), fun y o hy k => E4 _ _ (E3 y o hy k), cFr.tr C3 C4⟩
end
