/-! THE JDK: Strings. Printed by m_c21.py -/
set_option maxRecDepth 100000
theorem cpyI {f g : Nat → Int32} {a b n : Nat} : va_cpy (fun j => vI (f j)) (fun j => vI (g j)) a b n = fun j => vI (va_cpy f g a b n j) := by
  funext j
  unfold va_cpy
  split <;> rfl
def cpQ (h : jH) (m : Nat) (f : Nat → Int32) : jR → jH → Prop := fun r h' => ∃ a : Nat, r = .inl (some (vR (98, a))) ∧ (∃ f', h' (98, a) = some (bA m f') ∧ ∀ j, j < m → f' j = f j) ∧ (∀ k, h (k, a) = none) ∧ (∀ y o, h y = some o → h' y = some o) ∧ cFr h h'
section
theorem g_cSv {E : jE} {d bc bs : Nat} {M M' : jM} {pc i n0 : Nat} {ls : List (Option jV)} {st st0 as : List jV} {h : jH} {Q : jR → jH → Prop} (iv : jIS M.1.cls i M'.1 n0) (me : jMe M') (hd : decode M.2.1 pc = .ok (.invokestatic i, 3)) (hC : Ct E (d - 1) 0 0 M' as h (qR none h)) (hdp : 1 ≤ d) (hn : as.length = n0) (hst : as.reverse ++ st = st0) (hw : jW st ≤ 8) (kr : G E d bc bs M (pc + 3) ls st h Q) : G E d bc bs M pc ls st0 h Q :=
  g_callS iv me hd hC hdp hn hst hw (Nat.zero_le _) (Nat.zero_le _) (fun C x h' q => by cases q.1) (fun r h' q => by
    obtain ⟨e1, e2⟩ := q
    cases e1
    subst e2
    exact kr)
variable {E : jE} {d : Nat} {h : jH}
theorem k_chk (m : Nat) (hm : m ≤ 16) : Ct E d 0 0 mJ13_checkLength [vI 0, vI (nI m)] h (qR none h) := by
  refine ct_of (by decide) (Nat.le_of_ble_eq_true rfl) rfl ?_
  refine g_iload_n (pc := 0) dJ13_checkLength_0 rfl ?_
  refine g_iload_n (pc := 1) dJ13_checkLength_1 rfl ?_
  refine g_icmp_ge (pc := 2) 37 dJ13_checkLength_2 (by decide) (fun c_2 => ?_) (fun c_2 => absurd (nI_le (a := 0) (b := m) (Nat.zero_le _) (by omega)) c_2)
  refine g_return (pc := 37) dJ13_checkLength_37 rfl ?_
  exact ⟨rfl, rfl⟩
set_option maxHeartbeats 2000000 in
theorem k_cpB {b : jN} {f : Nat → Int32} {m : Nat} (hd : 3 ≤ d) (fb : h b = some (bA 16 f)) (hm : m < 16) (hfit : ∀ j, j < m → fits .byte (.int (f j)) = true) : Ct E d 1 m mJ13_copyOfRangeByte [vR b, vI 0, vI (nI m)] h (cpQ h m f) := by
  refine ct_of (by decide) (Nat.le_of_ble_eq_true rfl) rfl ?_
  obtain ⟨h0, hh0⟩ : ∃ h0, h0 = h := ⟨_, rfl⟩
  have fb0 : h0 b = some (bA 16 f) := by rw [hh0]; exact fb
  rw [← hh0]
  change G E d 1 m mJ13_copyOfRangeByte 0 _ [] h0 (cpQ h0 m f)
  clear fb hh0
  obtain ⟨h, hh1⟩ : ∃ h, h = h0 := ⟨_, rfl⟩
  have fb : h b = some (bA 16 f) := by rw [hh1]; exact fb0
  have E1 : ∀ y o, h0 y = some o → h y = some o := by rw [hh1]; exact fun _ _ q => q
  have C1 : cFr h0 h := by rw [hh1]; exact cFr.rf
  suffices hsuf : G E d 1 m mJ13_copyOfRangeByte 0 _ [] h (cpQ h0 m f) by rw [hh1] at hsuf; exact hsuf
  clear hh1
  refine g_iload_n (pc := 0) dJ13_copyOfRangeByte_0 rfl ?_
  refine g_iload_n (pc := 1) dJ13_copyOfRangeByte_1 rfl ?_
  refine g_cSv (pc := 2) (M' := mJ13_checkLength) (as := [_, _]) i_J13_343 eJ13_checkLength dJ13_copyOfRangeByte_2 (k_chk m (by omega)) (by omega) rfl rfl (Nat.le_of_ble_eq_true rfl) ?_
  refine g_iload_n (pc := 5) dJ13_copyOfRangeByte_5 rfl ?_
  refine g_iload_n (pc := 6) dJ13_copyOfRangeByte_6 rfl ?_
  refine g_isub (pc := 7) dJ13_copyOfRangeByte_7 ?_
  rw [show nI m - 0 = nI m from pk_sub (b := 0) (Nat.zero_le m)]
  refine g_istore_n (pc := 8) (ls' := [_, _, _, _, _]) dJ13_copyOfRangeByte_8 (by decide) rfl rfl ?_
  refine g_iload_n (pc := 9) dJ13_copyOfRangeByte_9 rfl ?_
  refine n_arrB (pc := 10) (N := m) 98 dJ13_copyOfRangeByte_10 rfl (by first | decide | omega) (by first | decide | omega) (by first | decide | omega) (fun a_A0 h q9 n9 o9 => ?_)
  have ne_fb_A0 := ne_new (kd := 98) fb n9
  have n0_A0 := fun k => n0_of E1 n9 (k := k)
  replace E1 := fun y o k => (o9 y (ne_new (E1 y o k) n9)).trans (E1 y o k)
  replace C1 := cFr.tr C1 (cFr.at (by show 98 < 900; omega) o9)
  replace fb := (o9 _ ne_fb_A0).trans fb
  have A0 := q9
  refine g_astore (pc := 12) (ls' := [_, _, _, _, _]) dJ13_copyOfRangeByte_12 (by decide) rfl rfl ?_
  refine g_aload_n (pc := 14) dJ13_copyOfRangeByte_14 rfl ?_
  refine g_iload_n (pc := 15) dJ13_copyOfRangeByte_15 rfl ?_
  refine g_aload (pc := 16) dJ13_copyOfRangeByte_16 rfl ?_
  refine g_iconst (pc := 18) (v := 0) dJ13_copyOfRangeByte_18 (by decide) ?_
  refine g_aload_n (pc := 19) dJ13_copyOfRangeByte_19 rfl ?_
  refine g_arraylength (pc := 20) (t := 1) rfl dJ13_copyOfRangeByte_20 fb ?_
  refine g_iload_n (pc := 21) dJ13_copyOfRangeByte_21 rfl ?_
  refine g_isub (pc := 22) dJ13_copyOfRangeByte_22 ?_
  rw [show nI 16 - (0 : Int32) = nI 16 from by decide]
  refine g_iload_n (pc := 23) dJ13_copyOfRangeByte_23 rfl ?_
  refine g_cS (pc := 24) (M' := mJ12_min) (as := [_, _]) i_J13_304 eJ12_min dJ13_copyOfRangeByte_24 (k_min _ _) (by omega) rfl rfl (Nat.le_of_ble_eq_true rfl) ?_
  rw [if_pos (nI_lt hm (by omega))]
  refine g_arraycopy (pc := 27) (t := 1) (ty := .byte) (a := 0) (b := 0) (len := m) (n0 := 16) (n1 := m) (f := fun j => vI (f j)) (g := fun _ => vI 0) rfl q301 q303 q302 q116 dJ13_copyOfRangeByte_27 fb A0 (by show 98 ≠ 0; decide) rfl rfl rfl (by omega) (by omega) (by decide) (by omega) (fun j hj => ⟨by rw [Nat.zero_add]; exact hfit j hj, trivial⟩) (by omega) (Nat.le_of_ble_eq_true rfl) ?_
  refine g_aload (pc := 30) dJ13_copyOfRangeByte_30 rfl ?_
  refine g_areturn (pc := 32) dJ13_copyOfRangeByte_32 rfl (by first | exact Or.inl ⟨_, rfl⟩ | exact Or.inr ⟨_, rfl⟩) ?_
  refine ⟨a_A0, rfl, ⟨va_cpy f (fun _ => 0) 0 0 m, by rw [hs_same, cpyI], fun j hj => ?_⟩, n0_A0, fun y o k => (hs_ne (fun e => by rw [e, n0_A0] at k; cases k)).trans (E1 y o k), cFr.tr C1 (cFr.set (by show 98 < 900; decide))⟩
  unfold va_cpy
  rw [if_pos ⟨Nat.zero_le _, by omega⟩, Nat.zero_add, Nat.sub_zero]
theorem k_cpR {b : jN} {f : Nat → Int32} {m : Nat} (hd : 4 ≤ d) (fb : h b = some (bA 16 f)) (hm : m < 16) (hfit : ∀ j, j < m → fits .byte (.int (f j)) = true) : Ct E d 1 m mJ13_copyOfRange [vR b, vI 0, vI (nI m)] h (cpQ h m f) := by
  refine ct_of (by decide) (Nat.le_of_ble_eq_true rfl) rfl ?_
  refine g_iload_n (pc := 0) dJ13_copyOfRange_0 rfl ?_
  refine g_if_ne (pc := 1) 10 dJ13_copyOfRange_1 (by decide) (fun c_1 => absurd c_1 (by decide)) (fun c_1 => ?_)
  refine g_iload_n (pc := 4) dJ13_copyOfRange_4 rfl ?_
  refine g_aload_n (pc := 5) dJ13_copyOfRange_5 rfl ?_
  refine g_arraylength (pc := 6) (t := 1) rfl dJ13_copyOfRange_6 fb ?_
  refine g_icmp_eq (pc := 7) 17 dJ13_copyOfRange_7 (by decide) (fun c_7 => absurd c_7 (by intro w; have := (nI_eq (by omega) (by omega)).mp w; omega)) (fun c_7 => ?_)
  refine g_aload_n (pc := 10) dJ13_copyOfRange_10 rfl ?_
  refine g_iload_n (pc := 11) dJ13_copyOfRange_11 rfl ?_
  refine g_iload_n (pc := 12) dJ13_copyOfRange_12 rfl ?_
  refine g_callS (pc := 13) (M' := mJ13_copyOfRangeByte) (as := [_, _, _]) i_J13_339 eJ13_copyOfRangeByte dJ13_copyOfRange_13 (k_cpB (by omega) fb hm hfit) (by omega) rfl rfl (Nat.le_of_ble_eq_true rfl) (by omega) (by omega) (fun C9 x9 h9 q9 => ?_) (fun r9 h9 q9 => ?_)
  · obtain ⟨a9, e9, -⟩ := q9
    cases e9
  obtain ⟨a9, e9, q9⟩ := q9
  cases e9
  refine g_areturn (pc := 16) dJ13_copyOfRange_16 rfl (by first | exact Or.inl ⟨_, rfl⟩ | exact Or.inr ⟨_, rfl⟩) ?_
  exact ⟨a9, rfl, q9⟩
/-- a new text -/
def stQ (h : jH) (x : jN) (n : Nat) (t : Nat → Nat) : jR → jH → Prop := fun r h' => r = .inl none ∧ ∃ v : Nat, sS h' x (98, v) n t ∧ (∀ k, h (k, v) = none) ∧ (∀ y o, y ≠ x → h y = some o → h' y = some o) ∧ cFr h h'
theorem k_getv {x b : jN} {n : Int32} (fx : h x = some (oO 36 [vR b, vI 0, vI 0, vI n])) : Ct E d 0 0 mJ7_getValue [vR x] h (qR (some (vR b)) h) := by
  refine ct_of (by decide) (Nat.le_of_ble_eq_true rfl) rfl ?_
  refine g_aload_n (pc := 0) dJ7_getValue_0 rfl ?_
  refine g_getfield (pc := 1) f_J7_15_36 dJ7_getValue_1 fx rfl ?_
  refine g_areturn (pc := 4) dJ7_getValue_4 rfl (by first | exact Or.inl ⟨_, rfl⟩ | exact Or.inr ⟨_, rfl⟩) ?_
  exact ⟨rfl, rfl⟩
set_option maxHeartbeats 2000000 in
theorem k_tx2 {x s b : jN} {n : Nat} {t : Nat → Nat} (hd : 6 ≤ d) (hro : x.1 ≠ 0) (hx9 : x.1 < 900) (hxs : x ≠ s) (hn : n < 16) (ht : ∀ j, j < n → t j < 128) (hS : sbS h s b n t) (fx : h x = some (oO 37 [vN, vI 0, vI 0, vI 0])) : Ct E d 1 n mJ9_init_2 [vR x, vR s, vN] h (stQ h x n t) := by
  refine ct_of (by decide) (Nat.le_of_ble_eq_true rfl) rfl ?_
  obtain ⟨fs, f, fb, hf⟩ := hS
  have hxb : x ≠ b := fun e => by rw [e] at fx; rw [fx] at fb; cases fb
  have hsb : s ≠ b := fun e => by rw [e] at fs; rw [fs] at fb; cases fb
  obtain ⟨h0, hh0⟩ : ∃ h0, h0 = h := ⟨_, rfl⟩
  have fx0 : h0 x = some (oO 37 [vN, vI 0, vI 0, vI 0]) := by rw [hh0]; exact fx
  rw [← hh0]
  change G E d 1 n mJ9_init_2 0 _ [] h0 (stQ h0 x n t)
  rw [← hh0] at fs fb
  have fs0 := fs
  have fb0 := fb
  clear fx fs fb hh0
  obtain ⟨h, hh1⟩ : ∃ h, h = h0 := ⟨_, rfl⟩
  have fx : h x = some (oO 37 [vN, vI 0, vI 0, vI 0]) := by rw [hh1]; exact fx0
  have fs : h s = some (oO 36 [vR b, vI 0, vI 0, vI (nI n)]) := by rw [hh1]; exact fs0
  have fb : h b = some (bA 16 f) := by rw [hh1]; exact fb0
  have E1 : ∀ y o, y ≠ x → h0 y = some o → h y = some o := by rw [hh1]; exact fun _ _ _ q => q
  have C1 : cFr h0 h := by rw [hh1]; exact cFr.rf
  suffices hsuf : G E d 1 n mJ9_init_2 0 _ [] h (stQ h0 x n t) by rw [hh1] at hsuf; exact hsuf
  clear hh1
  refine g_aload_n (pc := 0) dJ9_init_2_0 rfl ?_
  refine g_obj (pc := 1) q415 dJ9_init_2_1 (by omega) (Nat.le_of_ble_eq_true rfl) ?_
  refine g_aload_n (pc := 4) dJ9_init_2_4 rfl ?_
  refine g_cV (pc := 5) (M' := mJ7_getValue) (as := []) (ci := 36) rfl i_J9_552_36 eJ7_getValue dJ9_init_2_5 fs (k_getv fs) (by omega) rfl rfl (Nat.le_of_ble_eq_true rfl) ?_
  refine g_astore_n (pc := 8) (ls' := [_, _, _, _, _]) dJ9_init_2_8 (by decide) rfl rfl ?_
  refine g_aload_n (pc := 9) dJ9_init_2_9 rfl ?_
  refine g_cV (pc := 10) (M' := mJ8_length) (as := []) (ci := 36) rfl i_J9_549_36 eJ8_length dJ9_init_2_10 fs (k_slen (by omega) fs) (by omega) rfl rfl (Nat.le_of_ble_eq_true rfl) ?_
  refine g_istore (pc := 13) (ls' := [_, _, _, _, _]) dJ9_init_2_13 (by decide) rfl rfl ?_
  refine g_aload_n (pc := 15) dJ9_init_2_15 rfl ?_
  refine g_cV (pc := 16) (M' := mJ7_isLatin1) (as := []) (ci := 36) rfl i_J9_1047_36 eJ7_isLatin1 dJ9_init_2_16 fs (k_isLat fs) (by omega) rfl rfl (Nat.le_of_ble_eq_true rfl) ?_
  refine g_if_eq (pc := 19) 41 dJ9_init_2_19 (by decide) (fun c_19 => absurd c_19 (by decide)) (fun c_19 => ?_)
  refine g_aload_n (pc := 22) dJ9_init_2_22 rfl ?_
  refine g_iconst (pc := 23) (v := 0) dJ9_init_2_23 (by decide) ?_
  refine n_putF (pc := 24) w_J9_15_37 dJ9_init_2_24 fx (Nat.le_of_ble_eq_true rfl) hro ⟨rfl, by decide⟩ rfl rfl (fun h q9 o9 => ?_)
  replace fs := (o9 _ (hxs).symm).trans fs
  replace fb := (o9 _ (hxb).symm).trans fb
  replace fx := q9
  replace C1 := cFr.tr C1 (cFr.at hx9 o9)
  replace E1 := fun y o hy k => (o9 y hy).trans (E1 y o hy k)
  refine g_aload_n (pc := 27) dJ9_init_2_27 rfl ?_
  refine g_aload_n (pc := 28) dJ9_init_2_28 rfl ?_
  refine g_iconst (pc := 29) (v := 0) dJ9_init_2_29 (by decide) ?_
  refine g_iload (pc := 30) dJ9_init_2_30 rfl ?_
  refine g_callS (pc := 32) (M' := mJ13_copyOfRange) (as := [_, _, _]) i_J9_54 eJ13_copyOfRange dJ9_init_2_32 (k_cpR (by omega) fb hn (fun j hj => by rw [hf j hj]; exact b8_fit ⟨_, ht j hj⟩)) (by omega) rfl rfl (Nat.le_of_ble_eq_true rfl) (by omega) (by omega) (fun C9 x9 h9 q9 => ?_) (fun r9 h9 q9 => ?_)
  · obtain ⟨a9, e9, -⟩ := q9
    cases e9
  obtain ⟨a9, e9, ⟨f9, g1, g2⟩, g3, E9, C9⟩ := q9
  cases e9
  have n0x := fun k => ne_new (kd := k) fx g3
  have n09 := fun k => n0_ofx E1 g3 (n0x k) (k := k)
  replace fx := E9 _ _ fx
  replace E1 := fun y o hy k => E9 y o (E1 y o hy k)
  replace C1 := cFr.tr C1 C9
  refine n_putF (pc := 35) w_J9_9_37 dJ9_init_2_35 fx (Nat.le_of_ble_eq_true rfl) hro (j_fit_arr _ _) rfl rfl (fun h q9 o9 => ?_)
  have g4 := (o9 _ (n0x 98).symm).trans g1
  refine g_goto (pc := 38) 97 dJ9_init_2_38 (by decide) ?_
  refine g_return (pc := 97) dJ9_init_2_97 rfl ?_
  exact ⟨rfl, a9, ⟨⟨f9, g4, fun j hj => (g2 j hj).trans (hf j hj)⟩, 0, 0, q9, Or.inl rfl, Or.inl rfl⟩, n09, fun y o hy k => (o9 y hy).trans (E1 y o hy k), cFr.tr C1 (cFr.at hx9 o9)⟩
theorem k_tx1 {x s b : jN} {n : Nat} {t : Nat → Nat} (hd : 7 ≤ d) (hro : x.1 ≠ 0) (hx9 : x.1 < 900) (hxs : x ≠ s) (hn : n < 16) (ht : ∀ j, j < n → t j < 128) (hS : sbS h s b n t) (fx : h x = some (oO 37 [vN, vI 0, vI 0, vI 0])) : Ct E d 1 n mJ9_init [vR x, vR s] h (stQ h x n t) := by
  refine ct_of (by decide) (Nat.le_of_ble_eq_true rfl) rfl ?_
  refine g_aload_n (pc := 0) dJ9_init_0 rfl ?_
  refine g_aload_n (pc := 1) dJ9_init_1 rfl ?_
  refine g_null (pc := 2) dJ9_init_2 ?_
  refine g_callI (pc := 3) (M' := mJ9_init_2) (as := [_, _]) i_J9_489 eJ9_init_2 dJ9_init_3 (k_tx2 (by omega) hro hx9 hxs hn ht hS fx) (by omega) rfl rfl (Nat.le_of_ble_eq_true rfl) (by omega) (by omega) (fun C x h' q => by cases q.1) (fun r h' q => ?_)
  obtain ⟨q1, q2⟩ := q
  cases q1
  refine g_return (pc := 6) dJ9_init_6 rfl ?_
  exact ⟨rfl, q2⟩
def tsQ (h : jH) (n : Nat) (t : Nat → Nat) : jR → jH → Prop := fun r h' => ∃ a v : Nat, r = .inl (some (vR (97, a))) ∧ sS h' (97, a) (98, v) n t ∧ (∀ k, h (k, a) = none) ∧ (∀ k, h (k, v) = none) ∧ (∀ y o, h y = some o → h' y = some o) ∧ cFr h h'
set_option maxHeartbeats 2000000 in
theorem k_str {s b : jN} {n : Nat} {t : Nat → Nat} (hd : 8 ≤ d) (hn : n < 16) (ht : ∀ j, j < n → t j < 128) (hS : sbS h s b n t) : Ct E d 2 (4 + n) mJ8_toString [vR s] h (tsQ h n t) := by
  refine ct_of (by decide) (Nat.le_of_ble_eq_true rfl) rfl ?_
  refine n_new (pc := 0) (fs := [vN, vI 0, vI 0, vI 0]) 97 k_J9 q407 q408 q111 dJ8_toString_0 (fun j hj => by match j, hj with | 0, _ => rfl | 1, _ => rfl | 2, _ => rfl | 3, _ => rfl | j + 4, hj => exact absurd hj (by omega)) (by omega) (by omega) (fun a h' q9 n9 o9 => ?_)
  refine g_dup (pc := 3) dJ8_toString_3 rfl ?_
  refine g_aload_n (pc := 4) dJ8_toString_4 rfl ?_
  have hS9 : sbS h' s b n t := ⟨(o9 _ (ne_new hS.1 n9)).trans hS.1, by obtain ⟨f, fb, hf⟩ := hS.2; exact ⟨f, (o9 _ (ne_new fb n9)).trans fb, hf⟩⟩
  refine g_callI (pc := 5) (M' := mJ9_init) (as := [_]) i_J8_137 eJ9_init dJ8_toString_5 (k_tx1 (x := (97, a)) (by omega) (by show 97 ≠ 0; decide) (by show 97 < 900; decide) (ne_new hS.1 n9).symm hn ht hS9 q9) (by omega) rfl rfl (Nat.le_of_ble_eq_true rfl) (by omega) (by omega) (fun C x h' q => by cases q.1) (fun r h2 q => ?_)
  obtain ⟨q1, v, q2, q3, q4, q5⟩ := q
  cases q1
  refine g_areturn (pc := 8) dJ8_toString_8 rfl (by first | exact Or.inl ⟨_, rfl⟩ | exact Or.inr ⟨_, rfl⟩) ?_
  refine ⟨a, v, rfl, q2, n9, fun k => ?_, fun y o k => q4 y o (ne_new k n9) ((o9 y (ne_new k n9)).trans k), cFr.tr (cFr.at (by show 97 < 900; decide) o9) q5⟩
  by_cases e : (k, v) = ((97, a) : jN)
  · rw [e]; exact n9 97
  · rw [← o9 _ e]; exact q3 k
end
