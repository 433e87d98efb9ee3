/-! THE COMPONENT: numbers, what opens. Printed by m_c24.py -/
set_option maxRecDepth 100000
theorem sg_d {t : Nat → Nat} {n a : Nat} (hn : n ≤ 600) (ht : ∀ k, k < 600 → t k < 256) : (¬ sgC t n a < 48 ∧ sgC t n a ≤ 57) ↔ isD t n (bl t n a) = true := by
  unfold sgC isD
  by_cases q : bl t n a < n
  · have h := ht (bl t n a) (by omega)
    rw [if_pos q, show (48 : Int32) = nI 48 from rfl, show (57 : Int32) = nI 57 from rfl, cb_lt h (by decide), ← Int32.not_lt, cb_gt h (by decide), decide_eq_true_iff]
    omega
  · rw [if_neg q, decide_eq_true_iff]
    constructor
    · intro e; exact absurd e.1 (by decide)
    · intro e; exact absurd e.1 q
theorem nuP_1 {t : Nat → Nat} {n a : Nat} {lo hi : Int32} (h : ¬ isD t n (bl t n a) = true) : nuP t n lo hi a = .inl (1, bl t n a) := by
  unfold nuP nuK
  rw [if_neg h, if_neg (by decide)]
theorem nuP_2 {t : Nat → Nat} {n a : Nat} {lo hi : Int32} (h : isD t n (bl t n a) = true) (q : ¬ inR (nI (nuE t n a).2) lo hi = true) : nuP t n lo hi a = .inl (2, bl t n a) := by
  unfold nuP nuK
  rw [if_pos h, if_neg q, if_neg (by decide)]
theorem nuP_0 {t : Nat → Nat} {n a : Nat} {lo hi : Int32} (h : isD t n (bl t n a) = true) (q : inR (nI (nuE t n a).2) lo hi = true) : nuP t n lo hi a = .inr (nuE t n a) := by
  unfold nuP nuK
  rw [if_pos h, if_pos q, if_pos rfl]
theorem inR_y {v lo hi : Int32} (h1 : ¬ v < lo) (h2 : v ≤ hi) : inR v lo hi = true := by
  unfold inR
  rw [decide_eq_false h1, decide_eq_false (Int32.not_lt.mpr h2)]
  rfl
theorem inR_l {v lo hi : Int32} (h1 : v < lo) : ¬ inR v lo hi = true := by
  unfold inR
  rw [decide_eq_true h1]
  exact fun w => by cases w
theorem inR_h {v lo hi : Int32} (h1 : ¬ v ≤ hi) : ¬ inR v lo hi = true := by
  unfold inR
  rw [decide_eq_true (Int32.not_le.mp h1), Bool.not_true, Bool.and_false]
  exact fun w => by cases w
theorem num_s {v k : Nat} (hv : v ≤ 100000) (h1 : 48 ≤ k) (h2 : k ≤ 57) : (if (100000 : Int32) < 10 * nI v + nI k - 48 then (100000 : Int32) else 10 * nI v + nI k - 48) = nI (min (10 * v + (k - 48)) 100000) := by
  rw [show (10 : Int32) * nI v = nI (10 * v) from pk_mul 10 v, nI_add, show nI (10 * v + k) - 48 = nI (10 * v + k - 48) from pk_sub (b := 48) (by omega), show (100000 : Int32) = nI 100000 from rfl]
  by_cases q : 100000 < 10 * v + k - 48
  · rw [if_pos (nI_lt q (by omega)), Nat.min_eq_right (by omega)]
  · rw [if_neg (nI_nlt (by omega) (by omega)), Nat.min_eq_left (by omega)]
    congr 1
    omega
section
variable {E : jE} {d : Nat} {h : jH} {t : Nat → Nat} {n a : Nat} {T : Nat → Int32} {tp x : jN} {fr op : Int32} {rest : List jV} {P : jN → Prop}
def opQ13 (P : jN → Prop) (h : jH) (x tp : jN) (n a k m : Nat) (fr : Int32) (rest : List jV) : jR → jH → Prop := fun r h' => if m = 6 then wrX P h (3, a) r h' else rqQ h x (rdO 13 tp n (a + k) fr (nI (m + 1)) rest) none r h'
set_option maxHeartbeats 2000000 in
theorem k_opens13 {k m : Nat} (hd : 5 ≤ d) (hR : RH x tp n T t) (hP : P x) (hm : m ≤ 6) (fx : h x = some (rdO 13 tp n a fr (nI m) rest)) (ft : h tp = some (bA 600 T)) : Ct E d 1 8 mX12_opens [vR x, vI (nI k)] h (opQ13 P h x tp n a k m fr rest) := by
  refine ct_of (by decide) (Nat.le_of_ble_eq_true rfl) rfl ?_
  obtain ⟨hx, hx9, hxt, hn, hT⟩ := id hR
  obtain ⟨h0, hh0⟩ : ∃ h0, h0 = h := ⟨_, rfl⟩
  have O1 : ∀ y, y ≠ x → h y = h0 y := fun y _ => by rw [hh0]
  suffices hsuf : G E d 1 8 mX12_opens 0 _ [] h (opQ13 P h0 x tp n a k m fr rest) by rw [hh0] at hsuf; exact hsuf
  clear hh0
  refine g_aload_n (pc := 0) dX12_opens_0 rfl ?_
  refine g_getfield (pc := 1) f_X12_49_13 dX12_opens_1 fx rfl ?_
  refine g_bipush (pc := 4) (v := 6) dX12_opens_4 (by decide) ?_
  refine g_icmp_ne (pc := 6) 22 dX12_opens_6 (by decide) (fun c_6 => ?_) (fun c_6 => ?_)
  · refine g_aload_n (pc := 22) dX12_opens_22 rfl ?_
    refine g_dup (pc := 23) dX12_opens_23 rfl ?_
    refine g_getfield (pc := 24) f_X12_19_13 dX12_opens_24 fx rfl ?_
    refine g_iload_n (pc := 27) dX12_opens_27 rfl ?_
    refine g_iadd (pc := 28) dX12_opens_28 ?_
    rw [show nI a + nI k = nI (a + k) from nI_add a k]
    refine n_put (pc := 29) w_X12_19_13 dX12_opens_29 fx (Nat.le_of_ble_eq_true rfl) hx (j_fit_int _) rfl (fun h q9 o9 => ?_)
    replace ft := (o9 _ (hxt).symm).trans ft
    replace fx := q9
    replace O1 := fun y hy => (o9 y hy).trans (O1 y hy)
    refine g_aload_n (pc := 32) dX12_opens_32 rfl ?_
    refine g_dup (pc := 33) dX12_opens_33 rfl ?_
    refine g_getfield (pc := 34) f_X12_49_13 dX12_opens_34 fx rfl ?_
    refine g_iconst (pc := 37) (v := 1) dX12_opens_37 (by decide) ?_
    refine g_iadd (pc := 38) dX12_opens_38 ?_
    rw [nI_1]
    refine n_put (pc := 39) w_X12_49_13 dX12_opens_39 fx (Nat.le_of_ble_eq_true rfl) hx (j_fit_int _) rfl (fun h q9 o9 => ?_)
    replace ft := (o9 _ (hxt).symm).trans ft
    replace fx := q9
    replace O1 := fun y hy => (o9 y hy).trans (O1 y hy)
    refine g_return (pc := 42) dX12_opens_42 rfl ?_
    have e : ¬ m = 6 := fun w => c_6 (by rw [w]; rfl)
    unfold opQ13
    rw [if_neg e]
    exact ⟨rfl, fx, O1⟩
  · refine n_new (pc := 9) (fs := [vN, vN, vN, vN, vN, vI 0, vI 0, vI 0]) 92 k_X14 q1126 q1127 q132 dX12_opens_9 (fun j hj => by match j, hj with | 0, _ => rfl | 1, _ => rfl | 2, _ => rfl | 3, _ => rfl | 4, _ => rfl | 5, _ => rfl | 6, _ => rfl | 7, _ => rfl | j + 8, hj => exact absurd hj (by omega)) (by omega) (by omega) (fun b9 h9 q8 n9 o8 => ?_)
    refine g_dup (pc := 12) dX12_opens_12 rfl ?_
    refine g_iconst (pc := 13) (v := 3) dX12_opens_13 (by decide) ?_
    refine g_aload_n (pc := 14) dX12_opens_14 rfl ?_
    refine g_getfield (pc := 15) f_X12_19_13 dX12_opens_15 ((o8 _ (ne_new fx n9)).trans fx) rfl ?_
    refine n_init (pc := 18) (M' := mX14_init) (as := [_, _]) i_X12_42 eX14_init dX12_opens_18 (k_Wrong (x := (92, b9)) (by omega) (by show 92 ≠ 0; decide) q8 _ _) (by omega) rfl rfl (Nat.le_of_ble_eq_true rfl) (fun h2 w9 o9 => ?_)
    have E9 : ∀ y o, h y = some o → h2 y = some o := fun y o k => (o9 _ (ne_new k n9)).trans ((o8 _ (ne_new k n9)).trans k)
    have C9 : cFr h h2 := cFr.tr (cFr.at (by show 92 < 900; decide) o8) (cFr.at (by show 92 < 900; decide) o9)
    refine g_athrow (pc := 21) (ci := 14) rfl dX12_opens_21 w9 (gx_out (fun z hz => absurd hz List.not_mem_nil) ?_)
    have e : m = 6 := (nI_eq (a := m) (b := 6) (by omega) (by decide)).mp c_6
    unfold opQ13
    rw [if_pos e]
    exact ⟨b9, rfl, w9, (kp.at hP hx9 O1).tr (kp.ex E9 C9)⟩
def nuQ13 (P : jN → Prop) (h : jH) (x tp : jN) (n b : Nat) (op : Int32) (rest : List jV) (q : pR Nat) : jR → jH → Prop := fun r h' => match q with
  | .inl e => wrX P h e r h'
  | .inr p => rqQ h x (rdO 13 tp n p.1 (nI b) op rest) (some (vI (nI p.2))) r h'
set_option maxHeartbeats 2000000 in
theorem l_num13 {bc bs : Nat} {Q : jR → jH → Prop} {h0 : jH} {lo hi sg : Int32} (hd : 2 ≤ d) (hR : RH x tp n T t) : ∀ (m a v : Nat) (h : jH), n - a = m → a ≤ n → v ≤ 100000 → h x = some (rdO 13 tp n a fr op rest) → h tp = some (bA 600 T) → (∀ y, y ≠ x → h y = h0 y) → (∀ h', h' x = some (rdO 13 tp n (nuF t m a v).1 fr op rest) → (∀ y, y ≠ x → h' y = h0 y) → G E d bc bs mX12_number 110 [some (vR x), some (vI lo), some (vI hi), some (vI sg), some (vI (nI (nuF t m a v).2))] [] h' Q) → G E d bc bs mX12_number 33 [some (vR x), some (vI lo), some (vI hi), some (vI sg), some (vI (nI v))] [] h Q := by
  obtain ⟨hx, hx9, hxt, hn, hT⟩ := id hR
  intro m
  induction m with
  | zero =>
    intro a v h hm ha hv fx ft O1 kk
    have e : a = n := by omega
    subst e
    refine g_aload_n (pc := 33) dX12_number_33 rfl ?_
    refine g_getfield (pc := 34) f_X12_19_13 dX12_number_34 fx rfl ?_
    refine g_aload_n (pc := 37) dX12_number_37 rfl ?_
    refine g_getfield (pc := 38) f_X12_15_13 dX12_number_38 fx rfl ?_
    refine g_icmp_ge (pc := 41) 110 dX12_number_41 (by decide) (fun c_41 => ?_) (fun c_41 => absurd (nI_le (Nat.le_refl _) (by omega)) c_41)
    exact kk h fx O1
  | succ m ih =>
    intro a v h hm ha hv fx ft O1 kk
    have hl : ¬ nI n ≤ nI a := fun w => by have := (nI_leI (by omega) (by omega)).mp w; omega
    have h256 := (hT a (by omega)).2
    refine g_aload_n (pc := 33) dX12_number_33 rfl ?_
    refine g_getfield (pc := 34) f_X12_19_13 dX12_number_34 fx rfl ?_
    refine g_aload_n (pc := 37) dX12_number_37 rfl ?_
    refine g_getfield (pc := 38) f_X12_15_13 dX12_number_38 fx rfl ?_
    refine g_icmp_ge (pc := 41) 110 dX12_number_41 (by decide) (fun c_41 => absurd c_41 hl) (fun c_41 => ?_)
    refine g_aload_n (pc := 44) dX12_number_44 rfl ?_
    refine g_getfield (pc := 45) f_X12_9_13 dX12_number_45 fx rfl ?_
    refine g_aload_n (pc := 48) dX12_number_48 rfl ?_
    refine g_getfield (pc := 49) f_X12_19_13 dX12_number_49 fx rfl ?_
    refine g_baload (pc := 52) dX12_number_52 ft (j := a) rfl (by omega) (by first | decide | omega) rfl ?_
    rw [(hT a (by omega)).1]
    refine g_bipush (pc := 53) (v := 48) dX12_number_53 (by decide) ?_
    refine g_icmp_lt (pc := 55) 110 dX12_number_55 (by decide) (fun c_55 => ?_) (fun c_55 => ?_)
    · have e : nuF t (m + 1) a v = (a, v) := if_neg (fun w => by have := (cb_lt h256 (c := 48) (by decide)).mp c_55; omega)
      rw [e] at kk
      exact kk h fx O1
    · refine g_aload_n (pc := 58) dX12_number_58 rfl ?_
      refine g_getfield (pc := 59) f_X12_9_13 dX12_number_59 fx rfl ?_
      refine g_aload_n (pc := 62) dX12_number_62 rfl ?_
      refine g_getfield (pc := 63) f_X12_19_13 dX12_number_63 fx rfl ?_
      refine g_baload (pc := 66) dX12_number_66 ft (j := a) rfl (by omega) (by first | decide | omega) rfl ?_
      rw [(hT a (by omega)).1]
      refine g_bipush (pc := 67) (v := 57) dX12_number_67 (by decide) ?_
      refine g_icmp_gt (pc := 69) 110 dX12_number_69 (by decide) (fun c_69 => ?_) (fun c_69 => ?_)
      · have e : nuF t (m + 1) a v = (a, v) := if_neg (fun w => by have := (cb_gt h256 (c := 57) (by decide)).mp c_69; omega)
        rw [e] at kk
        exact kk h fx O1
      · have hdg : 48 ≤ t a ∧ t a ≤ 57 := by
          have e1 : ¬ (t a < 48 ∨ 128 ≤ t a) := fun w => c_55 ((cb_lt h256 (c := 48) (by decide)).mpr w)
          have e2 : ¬ (57 < t a ∧ t a < 128) := fun w => c_69 ((cb_gt h256 (c := 57) (by decide)).mpr w)
          omega
        refine g_bipush (pc := 72) (v := 10) dX12_number_72 (by decide) ?_
        refine g_iload (pc := 74) dX12_number_74 rfl ?_
        refine g_imul (pc := 76) dX12_number_76 ?_
        refine g_aload_n (pc := 77) dX12_number_77 rfl ?_
        refine g_getfield (pc := 78) f_X12_9_13 dX12_number_78 fx rfl ?_
        refine g_aload_n (pc := 81) dX12_number_81 rfl ?_
        refine g_getfield (pc := 82) f_X12_19_13 dX12_number_82 fx rfl ?_
        refine g_baload (pc := 85) dX12_number_85 ft (j := a) rfl (by omega) (by first | decide | omega) rfl ?_
        rw [(hT a (by omega)).1, cb_n (by omega)]
        refine g_iadd (pc := 86) dX12_number_86 ?_
        refine g_bipush (pc := 87) (v := 48) dX12_number_87 (by decide) ?_
        refine g_isub (pc := 89) dX12_number_89 ?_
        refine g_ldc (pc := 90) (v := 100000) dX12_number_90 q1169 ?_
        refine g_cS (pc := 92) (M' := mJ12_min) (as := [_, _]) i_X12_56 eJ12_min dX12_number_92 (k_min _ _) (by omega) rfl rfl (Nat.le_of_ble_eq_true rfl) ?_
        rw [num_s hv hdg.1 hdg.2]
        refine g_istore (pc := 95) (ls' := [_, _, _, _, _]) dX12_number_95 (by decide) rfl rfl ?_
        refine g_aload_n (pc := 97) dX12_number_97 rfl ?_
        refine g_dup (pc := 98) dX12_number_98 rfl ?_
        refine g_getfield (pc := 99) f_X12_19_13 dX12_number_99 fx rfl ?_
        refine g_iconst (pc := 102) (v := 1) dX12_number_102 (by decide) ?_
        refine g_iadd (pc := 103) dX12_number_103 ?_
        rw [nI_1]
        refine n_put (pc := 104) w_X12_19_13 dX12_number_104 fx (Nat.le_of_ble_eq_true rfl) hx (j_fit_int _) rfl (fun h q9 o9 => ?_)
        replace ft := (o9 _ (hxt).symm).trans ft
        replace fx := q9
        replace O1 := fun y hy => (o9 y hy).trans (O1 y hy)
        refine g_goto (pc := 107) 33 dX12_number_107 (by decide) ?_
        have e : nuF t (m + 1) a v = nuF t m (a + 1) (min (10 * v + (t a - 48)) 100000) := if_pos hdg
        rw [e] at kk
        exact ih (a + 1) _ h (by omega) (by omega) (by omega) fx ft O1 kk
set_option maxHeartbeats 2000000 in
theorem k_number13 {lo hi : Int32} (hd : 7 ≤ d) (hR : RH x tp n T t) (hP : P x) (ha : a ≤ n) (fx : h x = some (rdO 13 tp n a fr op rest)) (ft : h tp = some (bA 600 T)) : Ct E d 1 8 mX12_number [vR x, vI lo, vI hi] h (nuQ13 P h x tp n (bl t n a) op rest (nuP t n lo hi a)) := by
  refine ct_of (by decide) (Nat.le_of_ble_eq_true rfl) rfl ?_
  obtain ⟨hx, hx9, hxt, hn, hT⟩ := id hR
  have hb := bl_le (t := t) ha
  obtain ⟨h0, hh0⟩ : ∃ h0, h0 = h := ⟨_, rfl⟩
  have O1 : ∀ y, y ≠ x → h y = h0 y := fun y _ => by rw [hh0]
  suffices hsuf : G E d 1 8 mX12_number 0 _ [] h (nuQ13 P h0 x tp n (bl t n a) op rest (nuP t n lo hi a)) by rw [hh0] at hsuf; exact hsuf
  clear hh0
  have ft0 : h0 tp = some (bA 600 T) := (O1 _ hxt.symm).symm.trans ft
  refine g_aload_n (pc := 0) dX12_number_0 rfl ?_
  refine g_callV (pc := 1) (M' := mX12_sign) (as := []) (ci := 13) rfl i_X12_22_13 eX12_sign dX12_number_1 fx (k_sign13 hR ha fx ft) (by omega) rfl rfl (Nat.le_of_ble_eq_true rfl) (by omega) (by omega) (fun C9 x9 h9 q9 => ?_) (fun r9 h9 q9 => ?_)
  · cases q9.1
  obtain ⟨e9, fx', o9⟩ := q9
  cases e9
  replace ft := (o9 _ hxt.symm).trans ft
  replace fx := fx'
  replace O1 := fun y hy => (o9 y hy).trans (O1 y hy)
  refine g_istore_n (pc := 4) (ls' := [_, _, _, _, _]) dX12_number_4 (by decide) rfl rfl ?_
  refine g_iload_n (pc := 5) dX12_number_5 rfl ?_
  refine g_bipush (pc := 6) (v := 48) dX12_number_6 (by decide) ?_
  refine g_icmp_lt (pc := 8) 17 dX12_number_8 (by decide) (fun c_8 => ?_) (fun c_8 => ?_)
  · refine g_aload_n (pc := 17) dX12_number_17 rfl ?_
    refine g_callV (pc := 18) (M' := mX12_wrong) (as := []) (ci := 13) rfl i_X12_45_13 eX12_wrong dX12_number_18 fx (k_wrong13 (by omega) fx) (by omega) rfl rfl (Nat.le_of_ble_eq_true rfl) (by omega) (by omega) (fun C9 x9 h9 q9 => ?_) (fun r9 h9 q9 => ?_)
    · obtain ⟨b9, e9, -⟩ := q9
      cases e9
    obtain ⟨b9, e9, w9, n9, E9, C9⟩ := q9
    cases e9
    refine g_athrow (pc := 21) (ci := 14) rfl dX12_number_21 w9 (gx_out (fun z hz => absurd hz List.not_mem_nil) ?_)
    rw [nuP_1 (fun w => ((sg_d hn hR.t).mpr w).1 c_8)]
    exact ⟨b9, rfl, w9, (kp.at hP hx9 O1).tr (kp.ex E9 C9)⟩
  · refine g_iload_n (pc := 11) dX12_number_11 rfl ?_
    refine g_bipush (pc := 12) (v := 57) dX12_number_12 (by decide) ?_
    refine g_icmp_le (pc := 14) 22 dX12_number_14 (by decide) (fun c_14 => ?_) (fun c_14 => ?_)
    · refine g_aload_n (pc := 22) dX12_number_22 rfl ?_
      refine g_aload_n (pc := 23) dX12_number_23 rfl ?_
      refine g_getfield (pc := 24) f_X12_19_13 dX12_number_24 fx rfl ?_
      refine n_put (pc := 27) w_X12_52_13 dX12_number_27 fx (Nat.le_of_ble_eq_true rfl) hx (j_fit_int _) rfl (fun h q9 o9 => ?_)
      replace ft := (o9 _ (hxt).symm).trans ft
      replace fx := q9
      replace O1 := fun y hy => (o9 y hy).trans (O1 y hy)
      refine g_iconst (pc := 30) (v := 0) dX12_number_30 (by decide) ?_
      refine g_istore (pc := 31) (ls' := [_, _, _, _, _]) dX12_number_31 (by decide) rfl rfl ?_
      have hdg : isD t n (bl t n a) = true := (sg_d hn hR.t).mp ⟨c_8, c_14⟩
      refine l_num13 (by omega) hR (n - bl t n a) (bl t n a) 0 h rfl hb.2 (by decide) fx ft O1 (fun h fx O1 => ?_)
      have ft : h tp = some (bA 600 T) := (O1 _ hxt.symm).trans ft0
      refine g_iload (pc := 110) dX12_number_110 rfl ?_
      refine g_iload_n (pc := 112) dX12_number_112 rfl ?_
      refine g_icmp_lt (pc := 113) 122 dX12_number_113 (by decide) (fun c_113 => ?_) (fun c_113 => ?_)
      · refine n_new (pc := 122) (fs := [vN, vN, vN, vN, vN, vI 0, vI 0, vI 0]) 92 k_X14 q1126 q1127 q132 dX12_number_122 (fun j hj => by match j, hj with | 0, _ => rfl | 1, _ => rfl | 2, _ => rfl | 3, _ => rfl | 4, _ => rfl | 5, _ => rfl | 6, _ => rfl | 7, _ => rfl | j + 8, hj => exact absurd hj (by omega)) (by omega) (by omega) (fun b9 h9 q8 n9 o8 => ?_)
        refine g_dup (pc := 125) dX12_number_125 rfl ?_
        refine g_iconst (pc := 126) (v := 2) dX12_number_126 (by decide) ?_
        refine g_aload_n (pc := 127) dX12_number_127 rfl ?_
        refine g_getfield (pc := 128) f_X12_52_13 dX12_number_128 ((o8 _ (ne_new fx n9)).trans fx) rfl ?_
        refine n_init (pc := 131) (M' := mX14_init) (as := [_, _]) i_X12_42 eX14_init dX12_number_131 (k_Wrong (x := (92, b9)) (by omega) (by show 92 ≠ 0; decide) q8 _ _) (by omega) rfl rfl (Nat.le_of_ble_eq_true rfl) (fun h2 w9 o9 => ?_)
        have E9 : ∀ y o, h y = some o → h2 y = some o := fun y o k => (o9 _ (ne_new k n9)).trans ((o8 _ (ne_new k n9)).trans k)
        have C9 : cFr h h2 := cFr.tr (cFr.at (by show 92 < 900; decide) o8) (cFr.at (by show 92 < 900; decide) o9)
        refine g_athrow (pc := 134) (ci := 14) rfl dX12_number_134 w9 (gx_out (fun z hz => absurd hz List.not_mem_nil) ?_)
        rw [nuP_2 hdg (inR_l c_113)]
        exact ⟨b9, rfl, w9, (kp.at hP hx9 O1).tr (kp.ex E9 C9)⟩
      · refine g_iload (pc := 116) dX12_number_116 rfl ?_
        refine g_iload_n (pc := 118) dX12_number_118 rfl ?_
        refine g_icmp_le (pc := 119) 135 dX12_number_119 (by decide) (fun c_119 => ?_) (fun c_119 => ?_)
        · refine g_iload (pc := 135) dX12_number_135 rfl ?_
          refine g_ireturn (pc := 137) dX12_number_137 rfl (by first | exact rfl | exact j_nb _) ?_
          rw [nuP_0 hdg (inR_y c_113 c_119)]
          exact ⟨rfl, fx, O1⟩
        · refine n_new (pc := 122) (fs := [vN, vN, vN, vN, vN, vI 0, vI 0, vI 0]) 92 k_X14 q1126 q1127 q132 dX12_number_122 (fun j hj => by match j, hj with | 0, _ => rfl | 1, _ => rfl | 2, _ => rfl | 3, _ => rfl | 4, _ => rfl | 5, _ => rfl | 6, _ => rfl | 7, _ => rfl | j + 8, hj => exact absurd hj (by omega)) (by omega) (by omega) (fun b9 h9 q8 n9 o8 => ?_)
          refine g_dup (pc := 125) dX12_number_125 rfl ?_
          refine g_iconst (pc := 126) (v := 2) dX12_number_126 (by decide) ?_
          refine g_aload_n (pc := 127) dX12_number_127 rfl ?_
          refine g_getfield (pc := 128) f_X12_52_13 dX12_number_128 ((o8 _ (ne_new fx n9)).trans fx) rfl ?_
          refine n_init (pc := 131) (M' := mX14_init) (as := [_, _]) i_X12_42 eX14_init dX12_number_131 (k_Wrong (x := (92, b9)) (by omega) (by show 92 ≠ 0; decide) q8 _ _) (by omega) rfl rfl (Nat.le_of_ble_eq_true rfl) (fun h2 w9 o9 => ?_)
          have E9 : ∀ y o, h y = some o → h2 y = some o := fun y o k => (o9 _ (ne_new k n9)).trans ((o8 _ (ne_new k n9)).trans k)
          have C9 : cFr h h2 := cFr.tr (cFr.at (by show 92 < 900; decide) o8) (cFr.at (by show 92 < 900; decide) o9)
          refine g_athrow (pc := 134) (ci := 14) rfl dX12_number_134 w9 (gx_out (fun z hz => absurd hz List.not_mem_nil) ?_)
          rw [nuP_2 hdg (inR_h c_119)]
          exact ⟨b9, rfl, w9, (kp.at hP hx9 O1).tr (kp.ex E9 C9)⟩
    · refine g_aload_n (pc := 17) dX12_number_17 rfl ?_
      refine g_callV (pc := 18) (M' := mX12_wrong) (as := []) (ci := 13) rfl i_X12_45_13 eX12_wrong dX12_number_18 fx (k_wrong13 (by omega) fx) (by omega) rfl rfl (Nat.le_of_ble_eq_true rfl) (by omega) (by omega) (fun C9 x9 h9 q9 => ?_) (fun r9 h9 q9 => ?_)
      · obtain ⟨b9, e9, -⟩ := q9
        cases e9
      obtain ⟨b9, e9, w9, n9, E9, C9⟩ := q9
      cases e9
      refine g_athrow (pc := 21) (ci := 14) rfl dX12_number_21 w9 (gx_out (fun z hz => absurd hz List.not_mem_nil) ?_)
      rw [nuP_1 (fun w => c_14 ((sg_d hn hR.t).mpr w).2)]
      exact ⟨b9, rfl, w9, (kp.at hP hx9 O1).tr (kp.ex E9 C9)⟩
end
section
variable {E : jE} {d : Nat} {h : jH} {t : Nat → Nat} {n a : Nat} {T : Nat → Int32} {tp x : jN} {fr op : Int32} {rest : List jV} {P : jN → Prop}
def opQ17 (P : jN → Prop) (h : jH) (x tp : jN) (n a k m : Nat) (fr : Int32) (rest : List jV) : jR → jH → Prop := fun r h' => if m = 6 then wrX P h (3, a) r h' else rqQ h x (rdO 17 tp n (a + k) fr (nI (m + 1)) rest) none r h'
set_option maxHeartbeats 2000000 in
theorem k_opens17 {k m : Nat} (hd : 5 ≤ d) (hR : RH x tp n T t) (hP : P x) (hm : m ≤ 6) (fx : h x = some (rdO 17 tp n a fr (nI m) rest)) (ft : h tp = some (bA 600 T)) : Ct E d 1 8 mX12_opens [vR x, vI (nI k)] h (opQ17 P h x tp n a k m fr rest) := by
  refine ct_of (by decide) (Nat.le_of_ble_eq_true rfl) rfl ?_
  obtain ⟨hx, hx9, hxt, hn, hT⟩ := id hR
  obtain ⟨h0, hh0⟩ : ∃ h0, h0 = h := ⟨_, rfl⟩
  have O1 : ∀ y, y ≠ x → h y = h0 y := fun y _ => by rw [hh0]
  suffices hsuf : G E d 1 8 mX12_opens 0 _ [] h (opQ17 P h0 x tp n a k m fr rest) by rw [hh0] at hsuf; exact hsuf
  clear hh0
  refine g_aload_n (pc := 0) dX12_opens_0 rfl ?_
  refine g_getfield (pc := 1) f_X12_49_17 dX12_opens_1 fx rfl ?_
  refine g_bipush (pc := 4) (v := 6) dX12_opens_4 (by decide) ?_
  refine g_icmp_ne (pc := 6) 22 dX12_opens_6 (by decide) (fun c_6 => ?_) (fun c_6 => ?_)
  · refine g_aload_n (pc := 22) dX12_opens_22 rfl ?_
    refine g_dup (pc := 23) dX12_opens_23 rfl ?_
    refine g_getfield (pc := 24) f_X12_19_17 dX12_opens_24 fx rfl ?_
    refine g_iload_n (pc := 27) dX12_opens_27 rfl ?_
    refine g_iadd (pc := 28) dX12_opens_28 ?_
    rw [show nI a + nI k = nI (a + k) from nI_add a k]
    refine n_put (pc := 29) w_X12_19_17 dX12_opens_29 fx (Nat.le_of_ble_eq_true rfl) hx (j_fit_int _) rfl (fun h q9 o9 => ?_)
    replace ft := (o9 _ (hxt).symm).trans ft
    replace fx := q9
    replace O1 := fun y hy => (o9 y hy).trans (O1 y hy)
    refine g_aload_n (pc := 32) dX12_opens_32 rfl ?_
    refine g_dup (pc := 33) dX12_opens_33 rfl ?_
    refine g_getfield (pc := 34) f_X12_49_17 dX12_opens_34 fx rfl ?_
    refine g_iconst (pc := 37) (v := 1) dX12_opens_37 (by decide) ?_
    refine g_iadd (pc := 38) dX12_opens_38 ?_
    rw [nI_1]
    refine n_put (pc := 39) w_X12_49_17 dX12_opens_39 fx (Nat.le_of_ble_eq_true rfl) hx (j_fit_int _) rfl (fun h q9 o9 => ?_)
    replace ft := (o9 _ (hxt).symm).trans ft
    replace fx := q9
    replace O1 := fun y hy => (o9 y hy).trans (O1 y hy)
    refine g_return (pc := 42) dX12_opens_42 rfl ?_
    have e : ¬ m = 6 := fun w => c_6 (by rw [w]; rfl)
    unfold opQ17
    rw [if_neg e]
    exact ⟨rfl, fx, O1⟩
  · refine n_new (pc := 9) (fs := [vN, vN, vN, vN, vN, vI 0, vI 0, vI 0]) 92 k_X14 q1126 q1127 q132 dX12_opens_9 (fun j hj => by match j, hj with | 0, _ => rfl | 1, _ => rfl | 2, _ => rfl | 3, _ => rfl | 4, _ => rfl | 5, _ => rfl | 6, _ => rfl | 7, _ => rfl | j + 8, hj => exact absurd hj (by omega)) (by omega) (by omega) (fun b9 h9 q8 n9 o8 => ?_)
    refine g_dup (pc := 12) dX12_opens_12 rfl ?_
    refine g_iconst (pc := 13) (v := 3) dX12_opens_13 (by decide) ?_
    refine g_aload_n (pc := 14) dX12_opens_14 rfl ?_
    refine g_getfield (pc := 15) f_X12_19_17 dX12_opens_15 ((o8 _ (ne_new fx n9)).trans fx) rfl ?_
    refine n_init (pc := 18) (M' := mX14_init) (as := [_, _]) i_X12_42 eX14_init dX12_opens_18 (k_Wrong (x := (92, b9)) (by omega) (by show 92 ≠ 0; decide) q8 _ _) (by omega) rfl rfl (Nat.le_of_ble_eq_true rfl) (fun h2 w9 o9 => ?_)
    have E9 : ∀ y o, h y = some o → h2 y = some o := fun y o k => (o9 _ (ne_new k n9)).trans ((o8 _ (ne_new k n9)).trans k)
    have C9 : cFr h h2 := cFr.tr (cFr.at (by show 92 < 900; decide) o8) (cFr.at (by show 92 < 900; decide) o9)
    refine g_athrow (pc := 21) (ci := 14) rfl dX12_opens_21 w9 (gx_out (fun z hz => absurd hz List.not_mem_nil) ?_)
    have e : m = 6 := (nI_eq (a := m) (b := 6) (by omega) (by decide)).mp c_6
    unfold opQ17
    rw [if_pos e]
    exact ⟨b9, rfl, w9, (kp.at hP hx9 O1).tr (kp.ex E9 C9)⟩
def nuQ17 (P : jN → Prop) (h : jH) (x tp : jN) (n b : Nat) (op : Int32) (rest : List jV) (q : pR Nat) : jR → jH → Prop := fun r h' => match q with
  | .inl e => wrX P h e r h'
  | .inr p => rqQ h x (rdO 17 tp n p.1 (nI b) op rest) (some (vI (nI p.2))) r h'
set_option maxHeartbeats 2000000 in
theorem l_num17 {bc bs : Nat} {Q : jR → jH → Prop} {h0 : jH} {lo hi sg : Int32} (hd : 2 ≤ d) (hR : RH x tp n T t) : ∀ (m a v : Nat) (h : jH), n - a = m → a ≤ n → v ≤ 100000 → h x = some (rdO 17 tp n a fr op rest) → h tp = some (bA 600 T) → (∀ y, y ≠ x → h y = h0 y) → (∀ h', h' x = some (rdO 17 tp n (nuF t m a v).1 fr op rest) → (∀ y, y ≠ x → h' y = h0 y) → G E d bc bs mX12_number 110 [some (vR x), some (vI lo), some (vI hi), some (vI sg), some (vI (nI (nuF t m a v).2))] [] h' Q) → G E d bc bs mX12_number 33 [some (vR x), some (vI lo), some (vI hi), some (vI sg), some (vI (nI v))] [] h Q := by
  obtain ⟨hx, hx9, hxt, hn, hT⟩ := id hR
  intro m
  induction m with
  | zero =>
    intro a v h hm ha hv fx ft O1 kk
    have e : a = n := by omega
    subst e
    refine g_aload_n (pc := 33) dX12_number_33 rfl ?_
    refine g_getfield (pc := 34) f_X12_19_17 dX12_number_34 fx rfl ?_
    refine g_aload_n (pc := 37) dX12_number_37 rfl ?_
    refine g_getfield (pc := 38) f_X12_15_17 dX12_number_38 fx rfl ?_
    refine g_icmp_ge (pc := 41) 110 dX12_number_41 (by decide) (fun c_41 => ?_) (fun c_41 => absurd (nI_le (Nat.le_refl _) (by omega)) c_41)
    exact kk h fx O1
  | succ m ih =>
    intro a v h hm ha hv fx ft O1 kk
    have hl : ¬ nI n ≤ nI a := fun w => by have := (nI_leI (by omega) (by omega)).mp w; omega
    have h256 := (hT a (by omega)).2
    refine g_aload_n (pc := 33) dX12_number_33 rfl ?_
    refine g_getfield (pc := 34) f_X12_19_17 dX12_number_34 fx rfl ?_
    refine g_aload_n (pc := 37) dX12_number_37 rfl ?_
    refine g_getfield (pc := 38) f_X12_15_17 dX12_number_38 fx rfl ?_
    refine g_icmp_ge (pc := 41) 110 dX12_number_41 (by decide) (fun c_41 => absurd c_41 hl) (fun c_41 => ?_)
    refine g_aload_n (pc := 44) dX12_number_44 rfl ?_
    refine g_getfield (pc := 45) f_X12_9_17 dX12_number_45 fx rfl ?_
    refine g_aload_n (pc := 48) dX12_number_48 rfl ?_
    refine g_getfield (pc := 49) f_X12_19_17 dX12_number_49 fx rfl ?_
    refine g_baload (pc := 52) dX12_number_52 ft (j := a) rfl (by omega) (by first | decide | omega) rfl ?_
    rw [(hT a (by omega)).1]
    refine g_bipush (pc := 53) (v := 48) dX12_number_53 (by decide) ?_
    refine g_icmp_lt (pc := 55) 110 dX12_number_55 (by decide) (fun c_55 => ?_) (fun c_55 => ?_)
    · have e : nuF t (m + 1) a v = (a, v) := if_neg (fun w => by have := (cb_lt h256 (c := 48) (by decide)).mp c_55; omega)
      rw [e] at kk
      exact kk h fx O1
    · refine g_aload_n (pc := 58) dX12_number_58 rfl ?_
      refine g_getfield (pc := 59) f_X12_9_17 dX12_number_59 fx rfl ?_
      refine g_aload_n (pc := 62) dX12_number_62 rfl ?_
      refine g_getfield (pc := 63) f_X12_19_17 dX12_number_63 fx rfl ?_
      refine g_baload (pc := 66) dX12_number_66 ft (j := a) rfl (by omega) (by first | decide | omega) rfl ?_
      rw [(hT a (by omega)).1]
      refine g_bipush (pc := 67) (v := 57) dX12_number_67 (by decide) ?_
      refine g_icmp_gt (pc := 69) 110 dX12_number_69 (by decide) (fun c_69 => ?_) (fun c_69 => ?_)
      · have e : nuF t (m + 1) a v = (a, v) := if_neg (fun w => by have := (cb_gt h256 (c := 57) (by decide)).mp c_69; omega)
        rw [e] at kk
        exact kk h fx O1
      · have hdg : 48 ≤ t a ∧ t a ≤ 57 := by
          have e1 : ¬ (t a < 48 ∨ 128 ≤ t a) := fun w => c_55 ((cb_lt h256 (c := 48) (by decide)).mpr w)
          have e2 : ¬ (57 < t a ∧ t a < 128) := fun w => c_69 ((cb_gt h256 (c := 57) (by decide)).mpr w)
          omega
        refine g_bipush (pc := 72) (v := 10) dX12_number_72 (by decide) ?_
        refine g_iload (pc := 74) dX12_number_74 rfl ?_
        refine g_imul (pc := 76) dX12_number_76 ?_
        refine g_aload_n (pc := 77) dX12_number_77 rfl ?_
        refine g_getfield (pc := 78) f_X12_9_17 dX12_number_78 fx rfl ?_
        refine g_aload_n (pc := 81) dX12_number_81 rfl ?_
        refine g_getfield (pc := 82) f_X12_19_17 dX12_number_82 fx rfl ?_
        refine g_baload (pc := 85) dX12_number_85 ft (j := a) rfl (by omega) (by first | decide | omega) rfl ?_
        rw [(hT a (by omega)).1, cb_n (by omega)]
        refine g_iadd (pc := 86) dX12_number_86 ?_
        refine g_bipush (pc := 87) (v := 48) dX12_number_87 (by decide) ?_
        refine g_isub (pc := 89) dX12_number_89 ?_
        refine g_ldc (pc := 90) (v := 100000) dX12_number_90 q1169 ?_
        refine g_cS (pc := 92) (M' := mJ12_min) (as := [_, _]) i_X12_56 eJ12_min dX12_number_92 (k_min _ _) (by omega) rfl rfl (Nat.le_of_ble_eq_true rfl) ?_
        rw [num_s hv hdg.1 hdg.2]
        refine g_istore (pc := 95) (ls' := [_, _, _, _, _]) dX12_number_95 (by decide) rfl rfl ?_
        refine g_aload_n (pc := 97) dX12_number_97 rfl ?_
        refine g_dup (pc := 98) dX12_number_98 rfl ?_
        refine g_getfield (pc := 99) f_X12_19_17 dX12_number_99 fx rfl ?_
        refine g_iconst (pc := 102) (v := 1) dX12_number_102 (by decide) ?_
        refine g_iadd (pc := 103) dX12_number_103 ?_
        rw [nI_1]
        refine n_put (pc := 104) w_X12_19_17 dX12_number_104 fx (Nat.le_of_ble_eq_true rfl) hx (j_fit_int _) rfl (fun h q9 o9 => ?_)
        replace ft := (o9 _ (hxt).symm).trans ft
        replace fx := q9
        replace O1 := fun y hy => (o9 y hy).trans (O1 y hy)
        refine g_goto (pc := 107) 33 dX12_number_107 (by decide) ?_
        have e : nuF t (m + 1) a v = nuF t m (a + 1) (min (10 * v + (t a - 48)) 100000) := if_pos hdg
        rw [e] at kk
        exact ih (a + 1) _ h (by omega) (by omega) (by omega) fx ft O1 kk
set_option maxHeartbeats 2000000 in
theorem k_number17 {lo hi : Int32} (hd : 7 ≤ d) (hR : RH x tp n T t) (hP : P x) (ha : a ≤ n) (fx : h x = some (rdO 17 tp n a fr op rest)) (ft : h tp = some (bA 600 T)) : Ct E d 1 8 mX12_number [vR x, vI lo, vI hi] h (nuQ17 P h x tp n (bl t n a) op rest (nuP t n lo hi a)) := by
  refine ct_of (by decide) (Nat.le_of_ble_eq_true rfl) rfl ?_
  obtain ⟨hx, hx9, hxt, hn, hT⟩ := id hR
  have hb := bl_le (t := t) ha
  obtain ⟨h0, hh0⟩ : ∃ h0, h0 = h := ⟨_, rfl⟩
  have O1 : ∀ y, y ≠ x → h y = h0 y := fun y _ => by rw [hh0]
  suffices hsuf : G E d 1 8 mX12_number 0 _ [] h (nuQ17 P h0 x tp n (bl t n a) op rest (nuP t n lo hi a)) by rw [hh0] at hsuf; exact hsuf
  clear hh0
  have ft0 : h0 tp = some (bA 600 T) := (O1 _ hxt.symm).symm.trans ft
  refine g_aload_n (pc := 0) dX12_number_0 rfl ?_
  refine g_callV (pc := 1) (M' := mX12_sign) (as := []) (ci := 17) rfl i_X12_22_17 eX12_sign dX12_number_1 fx (k_sign17 hR ha fx ft) (by omega) rfl rfl (Nat.le_of_ble_eq_true rfl) (by omega) (by omega) (fun C9 x9 h9 q9 => ?_) (fun r9 h9 q9 => ?_)
  · cases q9.1
  obtain ⟨e9, fx', o9⟩ := q9
  cases e9
  replace ft := (o9 _ hxt.symm).trans ft
  replace fx := fx'
  replace O1 := fun y hy => (o9 y hy).trans (O1 y hy)
  refine g_istore_n (pc := 4) (ls' := [_, _, _, _, _]) dX12_number_4 (by decide) rfl rfl ?_
  refine g_iload_n (pc := 5) dX12_number_5 rfl ?_
  refine g_bipush (pc := 6) (v := 48) dX12_number_6 (by decide) ?_
  refine g_icmp_lt (pc := 8) 17 dX12_number_8 (by decide) (fun c_8 => ?_) (fun c_8 => ?_)
  · refine g_aload_n (pc := 17) dX12_number_17 rfl ?_
    refine g_callV (pc := 18) (M' := mX12_wrong) (as := []) (ci := 17) rfl i_X12_45_17 eX12_wrong dX12_number_18 fx (k_wrong17 (by omega) fx) (by omega) rfl rfl (Nat.le_of_ble_eq_true rfl) (by omega) (by omega) (fun C9 x9 h9 q9 => ?_) (fun r9 h9 q9 => ?_)
    · obtain ⟨b9, e9, -⟩ := q9
      cases e9
    obtain ⟨b9, e9, w9, n9, E9, C9⟩ := q9
    cases e9
    refine g_athrow (pc := 21) (ci := 14) rfl dX12_number_21 w9 (gx_out (fun z hz => absurd hz List.not_mem_nil) ?_)
    rw [nuP_1 (fun w => ((sg_d hn hR.t).mpr w).1 c_8)]
    exact ⟨b9, rfl, w9, (kp.at hP hx9 O1).tr (kp.ex E9 C9)⟩
  · refine g_iload_n (pc := 11) dX12_number_11 rfl ?_
    refine g_bipush (pc := 12) (v := 57) dX12_number_12 (by decide) ?_
    refine g_icmp_le (pc := 14) 22 dX12_number_14 (by decide) (fun c_14 => ?_) (fun c_14 => ?_)
    · refine g_aload_n (pc := 22) dX12_number_22 rfl ?_
      refine g_aload_n (pc := 23) dX12_number_23 rfl ?_
      refine g_getfield (pc := 24) f_X12_19_17 dX12_number_24 fx rfl ?_
      refine n_put (pc := 27) w_X12_52_17 dX12_number_27 fx (Nat.le_of_ble_eq_true rfl) hx (j_fit_int _) rfl (fun h q9 o9 => ?_)
      replace ft := (o9 _ (hxt).symm).trans ft
      replace fx := q9
      replace O1 := fun y hy => (o9 y hy).trans (O1 y hy)
      refine g_iconst (pc := 30) (v := 0) dX12_number_30 (by decide) ?_
      refine g_istore (pc := 31) (ls' := [_, _, _, _, _]) dX12_number_31 (by decide) rfl rfl ?_
      have hdg : isD t n (bl t n a) = true := (sg_d hn hR.t).mp ⟨c_8, c_14⟩
      refine l_num17 (by omega) hR (n - bl t n a) (bl t n a) 0 h rfl hb.2 (by decide) fx ft O1 (fun h fx O1 => ?_)
      have ft : h tp = some (bA 600 T) := (O1 _ hxt.symm).trans ft0
      refine g_iload (pc := 110) dX12_number_110 rfl ?_
      refine g_iload_n (pc := 112) dX12_number_112 rfl ?_
      refine g_icmp_lt (pc := 113) 122 dX12_number_113 (by decide) (fun c_113 => ?_) (fun c_113 => ?_)
      · refine n_new (pc := 122) (fs := [vN, vN, vN, vN, vN, vI 0, vI 0, vI 0]) 92 k_X14 q1126 q1127 q132 dX12_number_122 (fun j hj => by match j, hj with | 0, _ => rfl | 1, _ => rfl | 2, _ => rfl | 3, _ => rfl | 4, _ => rfl | 5, _ => rfl | 6, _ => rfl | 7, _ => rfl | j + 8, hj => exact absurd hj (by omega)) (by omega) (by omega) (fun b9 h9 q8 n9 o8 => ?_)
        refine g_dup (pc := 125) dX12_number_125 rfl ?_
        refine g_iconst (pc := 126) (v := 2) dX12_number_126 (by decide) ?_
        refine g_aload_n (pc := 127) dX12_number_127 rfl ?_
        refine g_getfield (pc := 128) f_X12_52_17 dX12_number_128 ((o8 _ (ne_new fx n9)).trans fx) rfl ?_
        refine n_init (pc := 131) (M' := mX14_init) (as := [_, _]) i_X12_42 eX14_init dX12_number_131 (k_Wrong (x := (92, b9)) (by omega) (by show 92 ≠ 0; decide) q8 _ _) (by omega) rfl rfl (Nat.le_of_ble_eq_true rfl) (fun h2 w9 o9 => ?_)
        have E9 : ∀ y o, h y = some o → h2 y = some o := fun y o k => (o9 _ (ne_new k n9)).trans ((o8 _ (ne_new k n9)).trans k)
        have C9 : cFr h h2 := cFr.tr (cFr.at (by show 92 < 900; decide) o8) (cFr.at (by show 92 < 900; decide) o9)
        refine g_athrow (pc := 134) (ci := 14) rfl dX12_number_134 w9 (gx_out (fun z hz => absurd hz List.not_mem_nil) ?_)
        rw [nuP_2 hdg (inR_l c_113)]
        exact ⟨b9, rfl, w9, (kp.at hP hx9 O1).tr (kp.ex E9 C9)⟩
      · refine g_iload (pc := 116) dX12_number_116 rfl ?_
        refine g_iload_n (pc := 118) dX12_number_118 rfl ?_
        refine g_icmp_le (pc := 119) 135 dX12_number_119 (by decide) (fun c_119 => ?_) (fun c_119 => ?_)
        · refine g_iload (pc := 135) dX12_number_135 rfl ?_
          refine g_ireturn (pc := 137) dX12_number_137 rfl (by first | exact rfl | exact j_nb _) ?_
          rw [nuP_0 hdg (inR_y c_113 c_119)]
          exact ⟨rfl, fx, O1⟩
        · refine n_new (pc := 122) (fs := [vN, vN, vN, vN, vN, vI 0, vI 0, vI 0]) 92 k_X14 q1126 q1127 q132 dX12_number_122 (fun j hj => by match j, hj with | 0, _ => rfl | 1, _ => rfl | 2, _ => rfl | 3, _ => rfl | 4, _ => rfl | 5, _ => rfl | 6, _ => rfl | 7, _ => rfl | j + 8, hj => exact absurd hj (by omega)) (by omega) (by omega) (fun b9 h9 q8 n9 o8 => ?_)
          refine g_dup (pc := 125) dX12_number_125 rfl ?_
          refine g_iconst (pc := 126) (v := 2) dX12_number_126 (by decide) ?_
          refine g_aload_n (pc := 127) dX12_number_127 rfl ?_
          refine g_getfield (pc := 128) f_X12_52_17 dX12_number_128 ((o8 _ (ne_new fx n9)).trans fx) rfl ?_
          refine n_init (pc := 131) (M' := mX14_init) (as := [_, _]) i_X12_42 eX14_init dX12_number_131 (k_Wrong (x := (92, b9)) (by omega) (by show 92 ≠ 0; decide) q8 _ _) (by omega) rfl rfl (Nat.le_of_ble_eq_true rfl) (fun h2 w9 o9 => ?_)
          have E9 : ∀ y o, h y = some o → h2 y = some o := fun y o k => (o9 _ (ne_new k n9)).trans ((o8 _ (ne_new k n9)).trans k)
          have C9 : cFr h h2 := cFr.tr (cFr.at (by show 92 < 900; decide) o8) (cFr.at (by show 92 < 900; decide) o9)
          refine g_athrow (pc := 134) (ci := 14) rfl dX12_number_134 w9 (gx_out (fun z hz => absurd hz List.not_mem_nil) ?_)
          rw [nuP_2 hdg (inR_h c_119)]
          exact ⟨b9, rfl, w9, (kp.at hP hx9 O1).tr (kp.ex E9 C9)⟩
    · refine g_aload_n (pc := 17) dX12_number_17 rfl ?_
      refine g_callV (pc := 18) (M' := mX12_wrong) (as := []) (ci := 17) rfl i_X12_45_17 eX12_wrong dX12_number_18 fx (k_wrong17 (by omega) fx) (by omega) rfl rfl (Nat.le_of_ble_eq_true rfl) (by omega) (by omega) (fun C9 x9 h9 q9 => ?_) (fun r9 h9 q9 => ?_)
      · obtain ⟨b9, e9, -⟩ := q9
        cases e9
      obtain ⟨b9, e9, w9, n9, E9, C9⟩ := q9
      cases e9
      refine g_athrow (pc := 21) (ci := 14) rfl dX12_number_21 w9 (gx_out (fun z hz => absurd hz List.not_mem_nil) ?_)
      rw [nuP_1 (fun w => c_14 ((sg_d hn hR.t).mpr w).2)]
      exact ⟨b9, rfl, w9, (kp.at hP hx9 O1).tr (kp.ex E9 C9)⟩
end
section
variable {E : jE} {d : Nat} {h : jH} {t : Nat → Nat} {n a : Nat} {T : Nat → Int32} {tp x : jN} {fr op : Int32} {rest : List jV} {P : jN → Prop}
def opQ22 (P : jN → Prop) (h : jH) (x tp : jN) (n a k m : Nat) (fr : Int32) (rest : List jV) : jR → jH → Prop := fun r h' => if m = 6 then wrX P h (3, a) r h' else rqQ h x (rdO 22 tp n (a + k) fr (nI (m + 1)) rest) none r h'
set_option maxHeartbeats 2000000 in
theorem k_opens22 {k m : Nat} (hd : 5 ≤ d) (hR : RH x tp n T t) (hP : P x) (hm : m ≤ 6) (fx : h x = some (rdO 22 tp n a fr (nI m) rest)) (ft : h tp = some (bA 600 T)) : Ct E d 1 8 mX12_opens [vR x, vI (nI k)] h (opQ22 P h x tp n a k m fr rest) := by
  refine ct_of (by decide) (Nat.le_of_ble_eq_true rfl) rfl ?_
  obtain ⟨hx, hx9, hxt, hn, hT⟩ := id hR
  obtain ⟨h0, hh0⟩ : ∃ h0, h0 = h := ⟨_, rfl⟩
  have O1 : ∀ y, y ≠ x → h y = h0 y := fun y _ => by rw [hh0]
  suffices hsuf : G E d 1 8 mX12_opens 0 _ [] h (opQ22 P h0 x tp n a k m fr rest) by rw [hh0] at hsuf; exact hsuf
  clear hh0
  refine g_aload_n (pc := 0) dX12_opens_0 rfl ?_
  refine g_getfield (pc := 1) f_X12_49_22 dX12_opens_1 fx rfl ?_
  refine g_bipush (pc := 4) (v := 6) dX12_opens_4 (by decide) ?_
  refine g_icmp_ne (pc := 6) 22 dX12_opens_6 (by decide) (fun c_6 => ?_) (fun c_6 => ?_)
  · refine g_aload_n (pc := 22) dX12_opens_22 rfl ?_
    refine g_dup (pc := 23) dX12_opens_23 rfl ?_
    refine g_getfield (pc := 24) f_X12_19_22 dX12_opens_24 fx rfl ?_
    refine g_iload_n (pc := 27) dX12_opens_27 rfl ?_
    refine g_iadd (pc := 28) dX12_opens_28 ?_
    rw [show nI a + nI k = nI (a + k) from nI_add a k]
    refine n_put (pc := 29) w_X12_19_22 dX12_opens_29 fx (Nat.le_of_ble_eq_true rfl) hx (j_fit_int _) rfl (fun h q9 o9 => ?_)
    replace ft := (o9 _ (hxt).symm).trans ft
    replace fx := q9
    replace O1 := fun y hy => (o9 y hy).trans (O1 y hy)
    refine g_aload_n (pc := 32) dX12_opens_32 rfl ?_
    refine g_dup (pc := 33) dX12_opens_33 rfl ?_
    refine g_getfield (pc := 34) f_X12_49_22 dX12_opens_34 fx rfl ?_
    refine g_iconst (pc := 37) (v := 1) dX12_opens_37 (by decide) ?_
    refine g_iadd (pc := 38) dX12_opens_38 ?_
    rw [nI_1]
    refine n_put (pc := 39) w_X12_49_22 dX12_opens_39 fx (Nat.le_of_ble_eq_true rfl) hx (j_fit_int _) rfl (fun h q9 o9 => ?_)
    replace ft := (o9 _ (hxt).symm).trans ft
    replace fx := q9
    replace O1 := fun y hy => (o9 y hy).trans (O1 y hy)
    refine g_return (pc := 42) dX12_opens_42 rfl ?_
    have e : ¬ m = 6 := fun w => c_6 (by rw [w]; rfl)
    unfold opQ22
    rw [if_neg e]
    exact ⟨rfl, fx, O1⟩
  · refine n_new (pc := 9) (fs := [vN, vN, vN, vN, vN, vI 0, vI 0, vI 0]) 92 k_X14 q1126 q1127 q132 dX12_opens_9 (fun j hj => by match j, hj with | 0, _ => rfl | 1, _ => rfl | 2, _ => rfl | 3, _ => rfl | 4, _ => rfl | 5, _ => rfl | 6, _ => rfl | 7, _ => rfl | j + 8, hj => exact absurd hj (by omega)) (by omega) (by omega) (fun b9 h9 q8 n9 o8 => ?_)
    refine g_dup (pc := 12) dX12_opens_12 rfl ?_
    refine g_iconst (pc := 13) (v := 3) dX12_opens_13 (by decide) ?_
    refine g_aload_n (pc := 14) dX12_opens_14 rfl ?_
    refine g_getfield (pc := 15) f_X12_19_22 dX12_opens_15 ((o8 _ (ne_new fx n9)).trans fx) rfl ?_
    refine n_init (pc := 18) (M' := mX14_init) (as := [_, _]) i_X12_42 eX14_init dX12_opens_18 (k_Wrong (x := (92, b9)) (by omega) (by show 92 ≠ 0; decide) q8 _ _) (by omega) rfl rfl (Nat.le_of_ble_eq_true rfl) (fun h2 w9 o9 => ?_)
    have E9 : ∀ y o, h y = some o → h2 y = some o := fun y o k => (o9 _ (ne_new k n9)).trans ((o8 _ (ne_new k n9)).trans k)
    have C9 : cFr h h2 := cFr.tr (cFr.at (by show 92 < 900; decide) o8) (cFr.at (by show 92 < 900; decide) o9)
    refine g_athrow (pc := 21) (ci := 14) rfl dX12_opens_21 w9 (gx_out (fun z hz => absurd hz List.not_mem_nil) ?_)
    have e : m = 6 := (nI_eq (a := m) (b := 6) (by omega) (by decide)).mp c_6
    unfold opQ22
    rw [if_pos e]
    exact ⟨b9, rfl, w9, (kp.at hP hx9 O1).tr (kp.ex E9 C9)⟩
def nuQ22 (P : jN → Prop) (h : jH) (x tp : jN) (n b : Nat) (op : Int32) (rest : List jV) (q : pR Nat) : jR → jH → Prop := fun r h' => match q with
  | .inl e => wrX P h e r h'
  | .inr p => rqQ h x (rdO 22 tp n p.1 (nI b) op rest) (some (vI (nI p.2))) r h'
set_option maxHeartbeats 2000000 in
theorem l_num22 {bc bs : Nat} {Q : jR → jH → Prop} {h0 : jH} {lo hi sg : Int32} (hd : 2 ≤ d) (hR : RH x tp n T t) : ∀ (m a v : Nat) (h : jH), n - a = m → a ≤ n → v ≤ 100000 → h x = some (rdO 22 tp n a fr op rest) → h tp = some (bA 600 T) → (∀ y, y ≠ x → h y = h0 y) → (∀ h', h' x = some (rdO 22 tp n (nuF t m a v).1 fr op rest) → (∀ y, y ≠ x → h' y = h0 y) → G E d bc bs mX12_number 110 [some (vR x), some (vI lo), some (vI hi), some (vI sg), some (vI (nI (nuF t m a v).2))] [] h' Q) → G E d bc bs mX12_number 33 [some (vR x), some (vI lo), some (vI hi), some (vI sg), some (vI (nI v))] [] h Q := by
  obtain ⟨hx, hx9, hxt, hn, hT⟩ := id hR
  intro m
  induction m with
  | zero =>
    intro a v h hm ha hv fx ft O1 kk
    have e : a = n := by omega
    subst e
    refine g_aload_n (pc := 33) dX12_number_33 rfl ?_
    refine g_getfield (pc := 34) f_X12_19_22 dX12_number_34 fx rfl ?_
    refine g_aload_n (pc := 37) dX12_number_37 rfl ?_
    refine g_getfield (pc := 38) f_X12_15_22 dX12_number_38 fx rfl ?_
    refine g_icmp_ge (pc := 41) 110 dX12_number_41 (by decide) (fun c_41 => ?_) (fun c_41 => absurd (nI_le (Nat.le_refl _) (by omega)) c_41)
    exact kk h fx O1
  | succ m ih =>
    intro a v h hm ha hv fx ft O1 kk
    have hl : ¬ nI n ≤ nI a := fun w => by have := (nI_leI (by omega) (by omega)).mp w; omega
    have h256 := (hT a (by omega)).2
    refine g_aload_n (pc := 33) dX12_number_33 rfl ?_
    refine g_getfield (pc := 34) f_X12_19_22 dX12_number_34 fx rfl ?_
    refine g_aload_n (pc := 37) dX12_number_37 rfl ?_
    refine g_getfield (pc := 38) f_X12_15_22 dX12_number_38 fx rfl ?_
    refine g_icmp_ge (pc := 41) 110 dX12_number_41 (by decide) (fun c_41 => absurd c_41 hl) (fun c_41 => ?_)
    refine g_aload_n (pc := 44) dX12_number_44 rfl ?_
    refine g_getfield (pc := 45) f_X12_9_22 dX12_number_45 fx rfl ?_
    refine g_aload_n (pc := 48) dX12_number_48 rfl ?_
    refine g_getfield (pc := 49) f_X12_19_22 dX12_number_49 fx rfl ?_
    refine g_baload (pc := 52) dX12_number_52 ft (j := a) rfl (by omega) (by first | decide | omega) rfl ?_
    rw [(hT a (by omega)).1]
    refine g_bipush (pc := 53) (v := 48) dX12_number_53 (by decide) ?_
    refine g_icmp_lt (pc := 55) 110 dX12_number_55 (by decide) (fun c_55 => ?_) (fun c_55 => ?_)
    · have e : nuF t (m + 1) a v = (a, v) := if_neg (fun w => by have := (cb_lt h256 (c := 48) (by decide)).mp c_55; omega)
      rw [e] at kk
      exact kk h fx O1
    · refine g_aload_n (pc := 58) dX12_number_58 rfl ?_
      refine g_getfield (pc := 59) f_X12_9_22 dX12_number_59 fx rfl ?_
      refine g_aload_n (pc := 62) dX12_number_62 rfl ?_
      refine g_getfield (pc := 63) f_X12_19_22 dX12_number_63 fx rfl ?_
      refine g_baload (pc := 66) dX12_number_66 ft (j := a) rfl (by omega) (by first | decide | omega) rfl ?_
      rw [(hT a (by omega)).1]
      refine g_bipush (pc := 67) (v := 57) dX12_number_67 (by decide) ?_
      refine g_icmp_gt (pc := 69) 110 dX12_number_69 (by decide) (fun c_69 => ?_) (fun c_69 => ?_)
      · have e : nuF t (m + 1) a v = (a, v) := if_neg (fun w => by have := (cb_gt h256 (c := 57) (by decide)).mp c_69; omega)
        rw [e] at kk
        exact kk h fx O1
      · have hdg : 48 ≤ t a ∧ t a ≤ 57 := by
          have e1 : ¬ (t a < 48 ∨ 128 ≤ t a) := fun w => c_55 ((cb_lt h256 (c := 48) (by decide)).mpr w)
          have e2 : ¬ (57 < t a ∧ t a < 128) := fun w => c_69 ((cb_gt h256 (c := 57) (by decide)).mpr w)
          omega
        refine g_bipush (pc := 72) (v := 10) dX12_number_72 (by decide) ?_
        refine g_iload (pc := 74) dX12_number_74 rfl ?_
        refine g_imul (pc := 76) dX12_number_76 ?_
        refine g_aload_n (pc := 77) dX12_number_77 rfl ?_
        refine g_getfield (pc := 78) f_X12_9_22 dX12_number_78 fx rfl ?_
        refine g_aload_n (pc := 81) dX12_number_81 rfl ?_
        refine g_getfield (pc := 82) f_X12_19_22 dX12_number_82 fx rfl ?_
        refine g_baload (pc := 85) dX12_number_85 ft (j := a) rfl (by omega) (by first | decide | omega) rfl ?_
        rw [(hT a (by omega)).1, cb_n (by omega)]
        refine g_iadd (pc := 86) dX12_number_86 ?_
        refine g_bipush (pc := 87) (v := 48) dX12_number_87 (by decide) ?_
        refine g_isub (pc := 89) dX12_number_89 ?_
        refine g_ldc (pc := 90) (v := 100000) dX12_number_90 q1169 ?_
        refine g_cS (pc := 92) (M' := mJ12_min) (as := [_, _]) i_X12_56 eJ12_min dX12_number_92 (k_min _ _) (by omega) rfl rfl (Nat.le_of_ble_eq_true rfl) ?_
        rw [num_s hv hdg.1 hdg.2]
        refine g_istore (pc := 95) (ls' := [_, _, _, _, _]) dX12_number_95 (by decide) rfl rfl ?_
        refine g_aload_n (pc := 97) dX12_number_97 rfl ?_
        refine g_dup (pc := 98) dX12_number_98 rfl ?_
        refine g_getfield (pc := 99) f_X12_19_22 dX12_number_99 fx rfl ?_
        refine g_iconst (pc := 102) (v := 1) dX12_number_102 (by decide) ?_
        refine g_iadd (pc := 103) dX12_number_103 ?_
        rw [nI_1]
        refine n_put (pc := 104) w_X12_19_22 dX12_number_104 fx (Nat.le_of_ble_eq_true rfl) hx (j_fit_int _) rfl (fun h q9 o9 => ?_)
        replace ft := (o9 _ (hxt).symm).trans ft
        replace fx := q9
        replace O1 := fun y hy => (o9 y hy).trans (O1 y hy)
        refine g_goto (pc := 107) 33 dX12_number_107 (by decide) ?_
        have e : nuF t (m + 1) a v = nuF t m (a + 1) (min (10 * v + (t a - 48)) 100000) := if_pos hdg
        rw [e] at kk
        exact ih (a + 1) _ h (by omega) (by omega) (by omega) fx ft O1 kk
set_option maxHeartbeats 2000000 in
theorem k_number22 {lo hi : Int32} (hd : 7 ≤ d) (hR : RH x tp n T t) (hP : P x) (ha : a ≤ n) (fx : h x = some (rdO 22 tp n a fr op rest)) (ft : h tp = some (bA 600 T)) : Ct E d 1 8 mX12_number [vR x, vI lo, vI hi] h (nuQ22 P h x tp n (bl t n a) op rest (nuP t n lo hi a)) := by
  refine ct_of (by decide) (Nat.le_of_ble_eq_true rfl) rfl ?_
  obtain ⟨hx, hx9, hxt, hn, hT⟩ := id hR
  have hb := bl_le (t := t) ha
  obtain ⟨h0, hh0⟩ : ∃ h0, h0 = h := ⟨_, rfl⟩
  have O1 : ∀ y, y ≠ x → h y = h0 y := fun y _ => by rw [hh0]
  suffices hsuf : G E d 1 8 mX12_number 0 _ [] h (nuQ22 P h0 x tp n (bl t n a) op rest (nuP t n lo hi a)) by rw [hh0] at hsuf; exact hsuf
  clear hh0
  have ft0 : h0 tp = some (bA 600 T) := (O1 _ hxt.symm).symm.trans ft
  refine g_aload_n (pc := 0) dX12_number_0 rfl ?_
  refine g_callV (pc := 1) (M' := mX12_sign) (as := []) (ci := 22) rfl i_X12_22_22 eX12_sign dX12_number_1 fx (k_sign22 hR ha fx ft) (by omega) rfl rfl (Nat.le_of_ble_eq_true rfl) (by omega) (by omega) (fun C9 x9 h9 q9 => ?_) (fun r9 h9 q9 => ?_)
  · cases q9.1
  obtain ⟨e9, fx', o9⟩ := q9
  cases e9
  replace ft := (o9 _ hxt.symm).trans ft
  replace fx := fx'
  replace O1 := fun y hy => (o9 y hy).trans (O1 y hy)
  refine g_istore_n (pc := 4) (ls' := [_, _, _, _, _]) dX12_number_4 (by decide) rfl rfl ?_
  refine g_iload_n (pc := 5) dX12_number_5 rfl ?_
  refine g_bipush (pc := 6) (v := 48) dX12_number_6 (by decide) ?_
  refine g_icmp_lt (pc := 8) 17 dX12_number_8 (by decide) (fun c_8 => ?_) (fun c_8 => ?_)
  · refine g_aload_n (pc := 17) dX12_number_17 rfl ?_
    refine g_callV (pc := 18) (M' := mX12_wrong) (as := []) (ci := 22) rfl i_X12_45_22 eX12_wrong dX12_number_18 fx (k_wrong22 (by omega) fx) (by omega) rfl rfl (Nat.le_of_ble_eq_true rfl) (by omega) (by omega) (fun C9 x9 h9 q9 => ?_) (fun r9 h9 q9 => ?_)
    · obtain ⟨b9, e9, -⟩ := q9
      cases e9
    obtain ⟨b9, e9, w9, n9, E9, C9⟩ := q9
    cases e9
    refine g_athrow (pc := 21) (ci := 14) rfl dX12_number_21 w9 (gx_out (fun z hz => absurd hz List.not_mem_nil) ?_)
    rw [nuP_1 (fun w => ((sg_d hn hR.t).mpr w).1 c_8)]
    exact ⟨b9, rfl, w9, (kp.at hP hx9 O1).tr (kp.ex E9 C9)⟩
  · refine g_iload_n (pc := 11) dX12_number_11 rfl ?_
    refine g_bipush (pc := 12) (v := 57) dX12_number_12 (by decide) ?_
    refine g_icmp_le (pc := 14) 22 dX12_number_14 (by decide) (fun c_14 => ?_) (fun c_14 => ?_)
    · refine g_aload_n (pc := 22) dX12_number_22 rfl ?_
      refine g_aload_n (pc := 23) dX12_number_23 rfl ?_
      refine g_getfield (pc := 24) f_X12_19_22 dX12_number_24 fx rfl ?_
      refine n_put (pc := 27) w_X12_52_22 dX12_number_27 fx (Nat.le_of_ble_eq_true rfl) hx (j_fit_int _) rfl (fun h q9 o9 => ?_)
      replace ft := (o9 _ (hxt).symm).trans ft
      replace fx := q9
      replace O1 := fun y hy => (o9 y hy).trans (O1 y hy)
      refine g_iconst (pc := 30) (v := 0) dX12_number_30 (by decide) ?_
      refine g_istore (pc := 31) (ls' := [_, _, _, _, _]) dX12_number_31 (by decide) rfl rfl ?_
      have hdg : isD t n (bl t n a) = true := (sg_d hn hR.t).mp ⟨c_8, c_14⟩
      refine l_num22 (by omega) hR (n - bl t n a) (bl t n a) 0 h rfl hb.2 (by decide) fx ft O1 (fun h fx O1 => ?_)
      have ft : h tp = some (bA 600 T) := (O1 _ hxt.symm).trans ft0
      refine g_iload (pc := 110) dX12_number_110 rfl ?_
      refine g_iload_n (pc := 112) dX12_number_112 rfl ?_
      refine g_icmp_lt (pc := 113) 122 dX12_number_113 (by decide) (fun c_113 => ?_) (fun c_113 => ?_)
      · refine n_new (pc := 122) (fs := [vN, vN, vN, vN, vN, vI 0, vI 0, vI 0]) 92 k_X14 q1126 q1127 q132 dX12_number_122 (fun j hj => by match j, hj with | 0, _ => rfl | 1, _ => rfl | 2, _ => rfl | 3, _ => rfl | 4, _ => rfl | 5, _ => rfl | 6, _ => rfl | 7, _ => rfl | j + 8, hj => exact absurd hj (by omega)) (by omega) (by omega) (fun b9 h9 q8 n9 o8 => ?_)
        refine g_dup (pc := 125) dX12_number_125 rfl ?_
        refine g_iconst (pc := 126) (v := 2) dX12_number_126 (by decide) ?_
        refine g_aload_n (pc := 127) dX12_number_127 rfl ?_
        refine g_getfield (pc := 128) f_X12_52_22 dX12_number_128 ((o8 _ (ne_new fx n9)).trans fx) rfl ?_
        refine n_init (pc := 131) (M' := mX14_init) (as := [_, _]) i_X12_42 eX14_init dX12_number_131 (k_Wrong (x := (92, b9)) (by omega) (by show 92 ≠ 0; decide) q8 _ _) (by omega) rfl rfl (Nat.le_of_ble_eq_true rfl) (fun h2 w9 o9 => ?_)
        have E9 : ∀ y o, h y = some o → h2 y = some o := fun y o k => (o9 _ (ne_new k n9)).trans ((o8 _ (ne_new k n9)).trans k)
        have C9 : cFr h h2 := cFr.tr (cFr.at (by show 92 < 900; decide) o8) (cFr.at (by show 92 < 900; decide) o9)
        refine g_athrow (pc := 134) (ci := 14) rfl dX12_number_134 w9 (gx_out (fun z hz => absurd hz List.not_mem_nil) ?_)
        rw [nuP_2 hdg (inR_l c_113)]
        exact ⟨b9, rfl, w9, (kp.at hP hx9 O1).tr (kp.ex E9 C9)⟩
      · refine g_iload (pc := 116) dX12_number_116 rfl ?_
        refine g_iload_n (pc := 118) dX12_number_118 rfl ?_
        refine g_icmp_le (pc := 119) 135 dX12_number_119 (by decide) (fun c_119 => ?_) (fun c_119 => ?_)
        · refine g_iload (pc := 135) dX12_number_135 rfl ?_
          refine g_ireturn (pc := 137) dX12_number_137 rfl (by first | exact rfl | exact j_nb _) ?_
          rw [nuP_0 hdg (inR_y c_113 c_119)]
          exact ⟨rfl, fx, O1⟩
        · refine n_new (pc := 122) (fs := [vN, vN, vN, vN, vN, vI 0, vI 0, vI 0]) 92 k_X14 q1126 q1127 q132 dX12_number_122 (fun j hj => by match j, hj with | 0, _ => rfl | 1, _ => rfl | 2, _ => rfl | 3, _ => rfl | 4, _ => rfl | 5, _ => rfl | 6, _ => rfl | 7, _ => rfl | j + 8, hj => exact absurd hj (by omega)) (by omega) (by omega) (fun b9 h9 q8 n9 o8 => ?_)
          refine g_dup (pc := 125) dX12_number_125 rfl ?_
          refine g_iconst (pc := 126) (v := 2) dX12_number_126 (by decide) ?_
          refine g_aload_n (pc := 127) dX12_number_127 rfl ?_
          refine g_getfield (pc := 128) f_X12_52_22 dX12_number_128 ((o8 _ (ne_new fx n9)).trans fx) rfl ?_
          refine n_init (pc := 131) (M' := mX14_init) (as := [_, _]) i_X12_42 eX14_init dX12_number_131 (k_Wrong (x := (92, b9)) (by omega) (by show 92 ≠ 0; decide) q8 _ _) (by omega) rfl rfl (Nat.le_of_ble_eq_true rfl) (fun h2 w9 o9 => ?_)
          have E9 : ∀ y o, h y = some o → h2 y = some o := fun y o k => (o9 _ (ne_new k n9)).trans ((o8 _ (ne_new k n9)).trans k)
          have C9 : cFr h h2 := cFr.tr (cFr.at (by show 92 < 900; decide) o8) (cFr.at (by show 92 < 900; decide) o9)
          refine g_athrow (pc := 134) (ci := 14) rfl dX12_number_134 w9 (gx_out (fun z hz => absurd hz List.not_mem_nil) ?_)
          rw [nuP_2 hdg (inR_h c_119)]
          exact ⟨b9, rfl, w9, (kp.at hP hx9 O1).tr (kp.ex E9 C9)⟩
    · refine g_aload_n (pc := 17) dX12_number_17 rfl ?_
      refine g_callV (pc := 18) (M' := mX12_wrong) (as := []) (ci := 22) rfl i_X12_45_22 eX12_wrong dX12_number_18 fx (k_wrong22 (by omega) fx) (by omega) rfl rfl (Nat.le_of_ble_eq_true rfl) (by omega) (by omega) (fun C9 x9 h9 q9 => ?_) (fun r9 h9 q9 => ?_)
      · obtain ⟨b9, e9, -⟩ := q9
        cases e9
      obtain ⟨b9, e9, w9, n9, E9, C9⟩ := q9
      cases e9
      refine g_athrow (pc := 21) (ci := 14) rfl dX12_number_21 w9 (gx_out (fun z hz => absurd hz List.not_mem_nil) ?_)
      rw [nuP_1 (fun w => c_14 ((sg_d hn hR.t).mpr w).2)]
      exact ⟨b9, rfl, w9, (kp.at hP hx9 O1).tr (kp.ex E9 C9)⟩
end
section
variable {E : jE} {d : Nat} {h : jH} {t : Nat → Nat} {n a : Nat} {T : Nat → Int32} {tp x : jN} {fr op : Int32} {rest : List jV} {P : jN → Prop}
def opQ32 (P : jN → Prop) (h : jH) (x tp : jN) (n a k m : Nat) (fr : Int32) (rest : List jV) : jR → jH → Prop := fun r h' => if m = 6 then wrX P h (3, a) r h' else rqQ h x (rdO 32 tp n (a + k) fr (nI (m + 1)) rest) none r h'
set_option maxHeartbeats 2000000 in
theorem k_opens32 {k m : Nat} (hd : 5 ≤ d) (hR : RH x tp n T t) (hP : P x) (hm : m ≤ 6) (fx : h x = some (rdO 32 tp n a fr (nI m) rest)) (ft : h tp = some (bA 600 T)) : Ct E d 1 8 mX12_opens [vR x, vI (nI k)] h (opQ32 P h x tp n a k m fr rest) := by
  refine ct_of (by decide) (Nat.le_of_ble_eq_true rfl) rfl ?_
  obtain ⟨hx, hx9, hxt, hn, hT⟩ := id hR
  obtain ⟨h0, hh0⟩ : ∃ h0, h0 = h := ⟨_, rfl⟩
  have O1 : ∀ y, y ≠ x → h y = h0 y := fun y _ => by rw [hh0]
  suffices hsuf : G E d 1 8 mX12_opens 0 _ [] h (opQ32 P h0 x tp n a k m fr rest) by rw [hh0] at hsuf; exact hsuf
  clear hh0
  refine g_aload_n (pc := 0) dX12_opens_0 rfl ?_
  refine g_getfield (pc := 1) f_X12_49_32 dX12_opens_1 fx rfl ?_
  refine g_bipush (pc := 4) (v := 6) dX12_opens_4 (by decide) ?_
  refine g_icmp_ne (pc := 6) 22 dX12_opens_6 (by decide) (fun c_6 => ?_) (fun c_6 => ?_)
  · refine g_aload_n (pc := 22) dX12_opens_22 rfl ?_
    refine g_dup (pc := 23) dX12_opens_23 rfl ?_
    refine g_getfield (pc := 24) f_X12_19_32 dX12_opens_24 fx rfl ?_
    refine g_iload_n (pc := 27) dX12_opens_27 rfl ?_
    refine g_iadd (pc := 28) dX12_opens_28 ?_
    rw [show nI a + nI k = nI (a + k) from nI_add a k]
    refine n_put (pc := 29) w_X12_19_32 dX12_opens_29 fx (Nat.le_of_ble_eq_true rfl) hx (j_fit_int _) rfl (fun h q9 o9 => ?_)
    replace ft := (o9 _ (hxt).symm).trans ft
    replace fx := q9
    replace O1 := fun y hy => (o9 y hy).trans (O1 y hy)
    refine g_aload_n (pc := 32) dX12_opens_32 rfl ?_
    refine g_dup (pc := 33) dX12_opens_33 rfl ?_
    refine g_getfield (pc := 34) f_X12_49_32 dX12_opens_34 fx rfl ?_
    refine g_iconst (pc := 37) (v := 1) dX12_opens_37 (by decide) ?_
    refine g_iadd (pc := 38) dX12_opens_38 ?_
    rw [nI_1]
    refine n_put (pc := 39) w_X12_49_32 dX12_opens_39 fx (Nat.le_of_ble_eq_true rfl) hx (j_fit_int _) rfl (fun h q9 o9 => ?_)
    replace ft := (o9 _ (hxt).symm).trans ft
    replace fx := q9
    replace O1 := fun y hy => (o9 y hy).trans (O1 y hy)
    refine g_return (pc := 42) dX12_opens_42 rfl ?_
    have e : ¬ m = 6 := fun w => c_6 (by rw [w]; rfl)
    unfold opQ32
    rw [if_neg e]
    exact ⟨rfl, fx, O1⟩
  · refine n_new (pc := 9) (fs := [vN, vN, vN, vN, vN, vI 0, vI 0, vI 0]) 92 k_X14 q1126 q1127 q132 dX12_opens_9 (fun j hj => by match j, hj with | 0, _ => rfl | 1, _ => rfl | 2, _ => rfl | 3, _ => rfl | 4, _ => rfl | 5, _ => rfl | 6, _ => rfl | 7, _ => rfl | j + 8, hj => exact absurd hj (by omega)) (by omega) (by omega) (fun b9 h9 q8 n9 o8 => ?_)
    refine g_dup (pc := 12) dX12_opens_12 rfl ?_
    refine g_iconst (pc := 13) (v := 3) dX12_opens_13 (by decide) ?_
    refine g_aload_n (pc := 14) dX12_opens_14 rfl ?_
    refine g_getfield (pc := 15) f_X12_19_32 dX12_opens_15 ((o8 _ (ne_new fx n9)).trans fx) rfl ?_
    refine n_init (pc := 18) (M' := mX14_init) (as := [_, _]) i_X12_42 eX14_init dX12_opens_18 (k_Wrong (x := (92, b9)) (by omega) (by show 92 ≠ 0; decide) q8 _ _) (by omega) rfl rfl (Nat.le_of_ble_eq_true rfl) (fun h2 w9 o9 => ?_)
    have E9 : ∀ y o, h y = some o → h2 y = some o := fun y o k => (o9 _ (ne_new k n9)).trans ((o8 _ (ne_new k n9)).trans k)
    have C9 : cFr h h2 := cFr.tr (cFr.at (by show 92 < 900; decide) o8) (cFr.at (by show 92 < 900; decide) o9)
    refine g_athrow (pc := 21) (ci := 14) rfl dX12_opens_21 w9 (gx_out (fun z hz => absurd hz List.not_mem_nil) ?_)
    have e : m = 6 := (nI_eq (a := m) (b := 6) (by omega) (by decide)).mp c_6
    unfold opQ32
    rw [if_pos e]
    exact ⟨b9, rfl, w9, (kp.at hP hx9 O1).tr (kp.ex E9 C9)⟩
def nuQ32 (P : jN → Prop) (h : jH) (x tp : jN) (n b : Nat) (op : Int32) (rest : List jV) (q : pR Nat) : jR → jH → Prop := fun r h' => match q with
  | .inl e => wrX P h e r h'
  | .inr p => rqQ h x (rdO 32 tp n p.1 (nI b) op rest) (some (vI (nI p.2))) r h'
set_option maxHeartbeats 2000000 in
theorem l_num32 {bc bs : Nat} {Q : jR → jH → Prop} {h0 : jH} {lo hi sg : Int32} (hd : 2 ≤ d) (hR : RH x tp n T t) : ∀ (m a v : Nat) (h : jH), n - a = m → a ≤ n → v ≤ 100000 → h x = some (rdO 32 tp n a fr op rest) → h tp = some (bA 600 T) → (∀ y, y ≠ x → h y = h0 y) → (∀ h', h' x = some (rdO 32 tp n (nuF t m a v).1 fr op rest) → (∀ y, y ≠ x → h' y = h0 y) → G E d bc bs mX12_number 110 [some (vR x), some (vI lo), some (vI hi), some (vI sg), some (vI (nI (nuF t m a v).2))] [] h' Q) → G E d bc bs mX12_number 33 [some (vR x), some (vI lo), some (vI hi), some (vI sg), some (vI (nI v))] [] h Q := by
  obtain ⟨hx, hx9, hxt, hn, hT⟩ := id hR
  intro m
  induction m with
  | zero =>
    intro a v h hm ha hv fx ft O1 kk
    have e : a = n := by omega
    subst e
    refine g_aload_n (pc := 33) dX12_number_33 rfl ?_
    refine g_getfield (pc := 34) f_X12_19_32 dX12_number_34 fx rfl ?_
    refine g_aload_n (pc := 37) dX12_number_37 rfl ?_
    refine g_getfield (pc := 38) f_X12_15_32 dX12_number_38 fx rfl ?_
    refine g_icmp_ge (pc := 41) 110 dX12_number_41 (by decide) (fun c_41 => ?_) (fun c_41 => absurd (nI_le (Nat.le_refl _) (by omega)) c_41)
    exact kk h fx O1
  | succ m ih =>
    intro a v h hm ha hv fx ft O1 kk
    have hl : ¬ nI n ≤ nI a := fun w => by have := (nI_leI (by omega) (by omega)).mp w; omega
    have h256 := (hT a (by omega)).2
    refine g_aload_n (pc := 33) dX12_number_33 rfl ?_
    refine g_getfield (pc := 34) f_X12_19_32 dX12_number_34 fx rfl ?_
    refine g_aload_n (pc := 37) dX12_number_37 rfl ?_
    refine g_getfield (pc := 38) f_X12_15_32 dX12_number_38 fx rfl ?_
    refine g_icmp_ge (pc := 41) 110 dX12_number_41 (by decide) (fun c_41 => absurd c_41 hl) (fun c_41 => ?_)
    refine g_aload_n (pc := 44) dX12_number_44 rfl ?_
    refine g_getfield (pc := 45) f_X12_9_32 dX12_number_45 fx rfl ?_
    refine g_aload_n (pc := 48) dX12_number_48 rfl ?_
    refine g_getfield (pc := 49) f_X12_19_32 dX12_number_49 fx rfl ?_
    refine g_baload (pc := 52) dX12_number_52 ft (j := a) rfl (by omega) (by first | decide | omega) rfl ?_
    rw [(hT a (by omega)).1]
    refine g_bipush (pc := 53) (v := 48) dX12_number_53 (by decide) ?_
    refine g_icmp_lt (pc := 55) 110 dX12_number_55 (by decide) (fun c_55 => ?_) (fun c_55 => ?_)
    · have e : nuF t (m + 1) a v = (a, v) := if_neg (fun w => by have := (cb_lt h256 (c := 48) (by decide)).mp c_55; omega)
      rw [e] at kk
      exact kk h fx O1
    · refine g_aload_n (pc := 58) dX12_number_58 rfl ?_
      refine g_getfield (pc := 59) f_X12_9_32 dX12_number_59 fx rfl ?_
      refine g_aload_n (pc := 62) dX12_number_62 rfl ?_
      refine g_getfield (pc := 63) f_X12_19_32 dX12_number_63 fx rfl ?_
      refine g_baload (pc := 66) dX12_number_66 ft (j := a) rfl (by omega) (by first | decide | omega) rfl ?_
      rw [(hT a (by omega)).1]
      refine g_bipush (pc := 67) (v := 57) dX12_number_67 (by decide) ?_
      refine g_icmp_gt (pc := 69) 110 dX12_number_69 (by decide) (fun c_69 => ?_) (fun c_69 => ?_)
      · have e : nuF t (m + 1) a v = (a, v) := if_neg (fun w => by have := (cb_gt h256 (c := 57) (by decide)).mp c_69; omega)
        rw [e] at kk
        exact kk h fx O1
      · have hdg : 48 ≤ t a ∧ t a ≤ 57 := by
          have e1 : ¬ (t a < 48 ∨ 128 ≤ t a) := fun w => c_55 ((cb_lt h256 (c := 48) (by decide)).mpr w)
          have e2 : ¬ (57 < t a ∧ t a < 128) := fun w => c_69 ((cb_gt h256 (c := 57) (by decide)).mpr w)
          omega
        refine g_bipush (pc := 72) (v := 10) dX12_number_72 (by decide) ?_
        refine g_iload (pc := 74) dX12_number_74 rfl ?_
        refine g_imul (pc := 76) dX12_number_76 ?_
        refine g_aload_n (pc := 77) dX12_number_77 rfl ?_
        refine g_getfield (pc := 78) f_X12_9_32 dX12_number_78 fx rfl ?_
        refine g_aload_n (pc := 81) dX12_number_81 rfl ?_
        refine g_getfield (pc := 82) f_X12_19_32 dX12_number_82 fx rfl ?_
        refine g_baload (pc := 85) dX12_number_85 ft (j := a) rfl (by omega) (by first | decide | omega) rfl ?_
        rw [(hT a (by omega)).1, cb_n (by omega)]
        refine g_iadd (pc := 86) dX12_number_86 ?_
        refine g_bipush (pc := 87) (v := 48) dX12_number_87 (by decide) ?_
        refine g_isub (pc := 89) dX12_number_89 ?_
        refine g_ldc (pc := 90) (v := 100000) dX12_number_90 q1169 ?_
        refine g_cS (pc := 92) (M' := mJ12_min) (as := [_, _]) i_X12_56 eJ12_min dX12_number_92 (k_min _ _) (by omega) rfl rfl (Nat.le_of_ble_eq_true rfl) ?_
        rw [num_s hv hdg.1 hdg.2]
        refine g_istore (pc := 95) (ls' := [_, _, _, _, _]) dX12_number_95 (by decide) rfl rfl ?_
        refine g_aload_n (pc := 97) dX12_number_97 rfl ?_
        refine g_dup (pc := 98) dX12_number_98 rfl ?_
        refine g_getfield (pc := 99) f_X12_19_32 dX12_number_99 fx rfl ?_
        refine g_iconst (pc := 102) (v := 1) dX12_number_102 (by decide) ?_
        refine g_iadd (pc := 103) dX12_number_103 ?_
        rw [nI_1]
        refine n_put (pc := 104) w_X12_19_32 dX12_number_104 fx (Nat.le_of_ble_eq_true rfl) hx (j_fit_int _) rfl (fun h q9 o9 => ?_)
        replace ft := (o9 _ (hxt).symm).trans ft
        replace fx := q9
        replace O1 := fun y hy => (o9 y hy).trans (O1 y hy)
        refine g_goto (pc := 107) 33 dX12_number_107 (by decide) ?_
        have e : nuF t (m + 1) a v = nuF t m (a + 1) (min (10 * v + (t a - 48)) 100000) := if_pos hdg
        rw [e] at kk
        exact ih (a + 1) _ h (by omega) (by omega) (by omega) fx ft O1 kk
set_option maxHeartbeats 2000000 in
theorem k_number32 {lo hi : Int32} (hd : 7 ≤ d) (hR : RH x tp n T t) (hP : P x) (ha : a ≤ n) (fx : h x = some (rdO 32 tp n a fr op rest)) (ft : h tp = some (bA 600 T)) : Ct E d 1 8 mX12_number [vR x, vI lo, vI hi] h (nuQ32 P h x tp n (bl t n a) op rest (nuP t n lo hi a)) := by
  refine ct_of (by decide) (Nat.le_of_ble_eq_true rfl) rfl ?_
  obtain ⟨hx, hx9, hxt, hn, hT⟩ := id hR
  have hb := bl_le (t := t) ha
  obtain ⟨h0, hh0⟩ : ∃ h0, h0 = h := ⟨_, rfl⟩
  have O1 : ∀ y, y ≠ x → h y = h0 y := fun y _ => by rw [hh0]
  suffices hsuf : G E d 1 8 mX12_number 0 _ [] h (nuQ32 P h0 x tp n (bl t n a) op rest (nuP t n lo hi a)) by rw [hh0] at hsuf; exact hsuf
  clear hh0
  have ft0 : h0 tp = some (bA 600 T) := (O1 _ hxt.symm).symm.trans ft
  refine g_aload_n (pc := 0) dX12_number_0 rfl ?_
  refine g_callV (pc := 1) (M' := mX12_sign) (as := []) (ci := 32) rfl i_X12_22_32 eX12_sign dX12_number_1 fx (k_sign32 hR ha fx ft) (by omega) rfl rfl (Nat.le_of_ble_eq_true rfl) (by omega) (by omega) (fun C9 x9 h9 q9 => ?_) (fun r9 h9 q9 => ?_)
  · cases q9.1
  obtain ⟨e9, fx', o9⟩ := q9
  cases e9
  replace ft := (o9 _ hxt.symm).trans ft
  replace fx := fx'
  replace O1 := fun y hy => (o9 y hy).trans (O1 y hy)
  refine g_istore_n (pc := 4) (ls' := [_, _, _, _, _]) dX12_number_4 (by decide) rfl rfl ?_
  refine g_iload_n (pc := 5) dX12_number_5 rfl ?_
  refine g_bipush (pc := 6) (v := 48) dX12_number_6 (by decide) ?_
  refine g_icmp_lt (pc := 8) 17 dX12_number_8 (by decide) (fun c_8 => ?_) (fun c_8 => ?_)
  · refine g_aload_n (pc := 17) dX12_number_17 rfl ?_
    refine g_callV (pc := 18) (M' := mX12_wrong) (as := []) (ci := 32) rfl i_X12_45_32 eX12_wrong dX12_number_18 fx (k_wrong32 (by omega) fx) (by omega) rfl rfl (Nat.le_of_ble_eq_true rfl) (by omega) (by omega) (fun C9 x9 h9 q9 => ?_) (fun r9 h9 q9 => ?_)
    · obtain ⟨b9, e9, -⟩ := q9
      cases e9
    obtain ⟨b9, e9, w9, n9, E9, C9⟩ := q9
    cases e9
    refine g_athrow (pc := 21) (ci := 14) rfl dX12_number_21 w9 (gx_out (fun z hz => absurd hz List.not_mem_nil) ?_)
    rw [nuP_1 (fun w => ((sg_d hn hR.t).mpr w).1 c_8)]
    exact ⟨b9, rfl, w9, (kp.at hP hx9 O1).tr (kp.ex E9 C9)⟩
  · refine g_iload_n (pc := 11) dX12_number_11 rfl ?_
    refine g_bipush (pc := 12) (v := 57) dX12_number_12 (by decide) ?_
    refine g_icmp_le (pc := 14) 22 dX12_number_14 (by decide) (fun c_14 => ?_) (fun c_14 => ?_)
    · refine g_aload_n (pc := 22) dX12_number_22 rfl ?_
      refine g_aload_n (pc := 23) dX12_number_23 rfl ?_
      refine g_getfield (pc := 24) f_X12_19_32 dX12_number_24 fx rfl ?_
      refine n_put (pc := 27) w_X12_52_32 dX12_number_27 fx (Nat.le_of_ble_eq_true rfl) hx (j_fit_int _) rfl (fun h q9 o9 => ?_)
      replace ft := (o9 _ (hxt).symm).trans ft
      replace fx := q9
      replace O1 := fun y hy => (o9 y hy).trans (O1 y hy)
      refine g_iconst (pc := 30) (v := 0) dX12_number_30 (by decide) ?_
      refine g_istore (pc := 31) (ls' := [_, _, _, _, _]) dX12_number_31 (by decide) rfl rfl ?_
      have hdg : isD t n (bl t n a) = true := (sg_d hn hR.t).mp ⟨c_8, c_14⟩
      refine l_num32 (by omega) hR (n - bl t n a) (bl t n a) 0 h rfl hb.2 (by decide) fx ft O1 (fun h fx O1 => ?_)
      have ft : h tp = some (bA 600 T) := (O1 _ hxt.symm).trans ft0
      refine g_iload (pc := 110) dX12_number_110 rfl ?_
      refine g_iload_n (pc := 112) dX12_number_112 rfl ?_
      refine g_icmp_lt (pc := 113) 122 dX12_number_113 (by decide) (fun c_113 => ?_) (fun c_113 => ?_)
      · refine n_new (pc := 122) (fs := [vN, vN, vN, vN, vN, vI 0, vI 0, vI 0]) 92 k_X14 q1126 q1127 q132 dX12_number_122 (fun j hj => by match j, hj with | 0, _ => rfl | 1, _ => rfl | 2, _ => rfl | 3, _ => rfl | 4, _ => rfl | 5, _ => rfl | 6, _ => rfl | 7, _ => rfl | j + 8, hj => exact absurd hj (by omega)) (by omega) (by omega) (fun b9 h9 q8 n9 o8 => ?_)
        refine g_dup (pc := 125) dX12_number_125 rfl ?_
        refine g_iconst (pc := 126) (v := 2) dX12_number_126 (by decide) ?_
        refine g_aload_n (pc := 127) dX12_number_127 rfl ?_
        refine g_getfield (pc := 128) f_X12_52_32 dX12_number_128 ((o8 _ (ne_new fx n9)).trans fx) rfl ?_
        refine n_init (pc := 131) (M' := mX14_init) (as := [_, _]) i_X12_42 eX14_init dX12_number_131 (k_Wrong (x := (92, b9)) (by omega) (by show 92 ≠ 0; decide) q8 _ _) (by omega) rfl rfl (Nat.le_of_ble_eq_true rfl) (fun h2 w9 o9 => ?_)
        have E9 : ∀ y o, h y = some o → h2 y = some o := fun y o k => (o9 _ (ne_new k n9)).trans ((o8 _ (ne_new k n9)).trans k)
        have C9 : cFr h h2 := cFr.tr (cFr.at (by show 92 < 900; decide) o8) (cFr.at (by show 92 < 900; decide) o9)
        refine g_athrow (pc := 134) (ci := 14) rfl dX12_number_134 w9 (gx_out (fun z hz => absurd hz List.not_mem_nil) ?_)
        rw [nuP_2 hdg (inR_l c_113)]
        exact ⟨b9, rfl, w9, (kp.at hP hx9 O1).tr (kp.ex E9 C9)⟩
      · refine g_iload (pc := 116) dX12_number_116 rfl ?_
        refine g_iload_n (pc := 118) dX12_number_118 rfl ?_
        refine g_icmp_le (pc := 119) 135 dX12_number_119 (by decide) (fun c_119 => ?_) (fun c_119 => ?_)
        · refine g_iload (pc := 135) dX12_number_135 rfl ?_
          refine g_ireturn (pc := 137) dX12_number_137 rfl (by first | exact rfl | exact j_nb _) ?_
          rw [nuP_0 hdg (inR_y c_113 c_119)]
          exact ⟨rfl, fx, O1⟩
        · refine n_new (pc := 122) (fs := [vN, vN, vN, vN, vN, vI 0, vI 0, vI 0]) 92 k_X14 q1126 q1127 q132 dX12_number_122 (fun j hj => by match j, hj with | 0, _ => rfl | 1, _ => rfl | 2, _ => rfl | 3, _ => rfl | 4, _ => rfl | 5, _ => rfl | 6, _ => rfl | 7, _ => rfl | j + 8, hj => exact absurd hj (by omega)) (by omega) (by omega) (fun b9 h9 q8 n9 o8 => ?_)
          refine g_dup (pc := 125) dX12_number_125 rfl ?_
          refine g_iconst (pc := 126) (v := 2) dX12_number_126 (by decide) ?_
          refine g_aload_n (pc := 127) dX12_number_127 rfl ?_
          refine g_getfield (pc := 128) f_X12_52_32 dX12_number_128 ((o8 _ (ne_new fx n9)).trans fx) rfl ?_
          refine n_init (pc := 131) (M' := mX14_init) (as := [_, _]) i_X12_42 eX14_init dX12_number_131 (k_Wrong (x := (92, b9)) (by omega) (by show 92 ≠ 0; decide) q8 _ _) (by omega) rfl rfl (Nat.le_of_ble_eq_true rfl) (fun h2 w9 o9 => ?_)
          have E9 : ∀ y o, h y = some o → h2 y = some o := fun y o k => (o9 _ (ne_new k n9)).trans ((o8 _ (ne_new k n9)).trans k)
          have C9 : cFr h h2 := cFr.tr (cFr.at (by show 92 < 900; decide) o8) (cFr.at (by show 92 < 900; decide) o9)
          refine g_athrow (pc := 134) (ci := 14) rfl dX12_number_134 w9 (gx_out (fun z hz => absurd hz List.not_mem_nil) ?_)
          rw [nuP_2 hdg (inR_h c_119)]
          exact ⟨b9, rfl, w9, (kp.at hP hx9 O1).tr (kp.ex E9 C9)⟩
    · refine g_aload_n (pc := 17) dX12_number_17 rfl ?_
      refine g_callV (pc := 18) (M' := mX12_wrong) (as := []) (ci := 32) rfl i_X12_45_32 eX12_wrong dX12_number_18 fx (k_wrong32 (by omega) fx) (by omega) rfl rfl (Nat.le_of_ble_eq_true rfl) (by omega) (by omega) (fun C9 x9 h9 q9 => ?_) (fun r9 h9 q9 => ?_)
      · obtain ⟨b9, e9, -⟩ := q9
        cases e9
      obtain ⟨b9, e9, w9, n9, E9, C9⟩ := q9
      cases e9
      refine g_athrow (pc := 21) (ci := 14) rfl dX12_number_21 w9 (gx_out (fun z hz => absurd hz List.not_mem_nil) ?_)
      rw [nuP_1 (fun w => c_14 ((sg_d hn hR.t).mpr w).2)]
      exact ⟨b9, rfl, w9, (kp.at hP hx9 O1).tr (kp.ex E9 C9)⟩
end
