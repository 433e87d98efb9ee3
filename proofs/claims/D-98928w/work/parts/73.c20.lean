/-! THE JDK: StringBuilder, String. Printed by m_c20.py -/
set_option maxRecDepth 100000
theorem z_cs {E : jE} (K : jOK E) : va_Z "java/lang/String" "COMPACT_STRINGS" "Z" (j_v (vI 1)) (eN E) (eS E) (eS E).heap :=
  va_Zof (K.2.1 _ q234) (K.2.1 _ (List.mem_filter.mp q111).1) (va_eqi (nw_of K [false, false, false, false, false, false, true, false, false, false] rfl)) eN_old
theorem b8_fit : ∀ k : Fin 128, fits .byte (.int (nI k.1)) = true := by decide +kernel
theorem b8_nar : ∀ k : Fin 128, (nI k.1).toInt8.toInt32 = nI k.1 := by decide +kernel
theorem b8_and : ∀ k : Fin 128, nI k.1 &&& 255 = nI k.1 := by decide +kernel
/-- a hash -/
def hsN (t : Nat → Nat) : Nat → Int32
  | 0 => 0
  | n + 1 => 31 * hsN t n + nI (t n)
/-- a builder of n letters t -/
def sbS (h : jH) (x b : jN) (n : Nat) (t : Nat → Nat) : Prop := h x = some (oO 36 [vR b, vI 0, vI 0, vI (nI n)]) ∧ ∃ f, h b = some (bA 16 f) ∧ ∀ j, j < n → f j = nI (t j)
/-- a text of n letters t -/
def sS (h : jH) (s v : jN) (n : Nat) (t : Nat → Nat) : Prop := (∃ f, h v = some (bA n f) ∧ ∀ j, j < n → f j = nI (t j)) ∧ ∃ hh z, h s = some (oO 37 [vR v, vI 0, vI hh, vI z]) ∧ (hh = 0 ∨ hh = hsN t n) ∧ (z = 0 ∨ hsN t n = 0)
theorem su_J8_343 : jSU RJ8 343 yJ7_length 0 := jsu_S q427 q423 q254 q422 q428 (by decide +kernel) (by decide +kernel)
theorem su_J8_50 : jSU RJ8 50 yJ7_append_3 1 := jsu_S q1026 q2592 q254 q1027 q1028 (by decide +kernel) (by decide +kernel)
theorem i_J7_100_36 : jIV RJ7 100 RJ8 yJ7_ensureCapacityInternal 1 := jiv_P q269 q271 q270 q307 rfl q272 ⟨by decide +kernel, by decide +kernel⟩ (by decide +kernel)
section
variable {E : jE} {d : Nat} {h : jH}
theorem k_isLat {x b : jN} {n : Int32} (fx : h x = some (oO 36 [vR b, vI 0, vI 0, vI n])) : Ct E d 0 0 mJ7_isLatin1 [vR x] h (qR (some (vI 1)) h) := by
  refine ct_of (by decide) (Nat.le_of_ble_eq_true rfl) rfl ?_
  refine g_getstatic (pc := 0) (v := vI 1) q233 (Or.inl rfl) z_cs dJ7_isLatin1_0 ?_
  refine g_if_eq (pc := 3) 17 dJ7_isLatin1_3 (by decide) (fun c_3 => absurd c_3 (by decide)) (fun c_3 => ?_)
  refine g_aload_n (pc := 6) dJ7_isLatin1_6 rfl ?_
  refine g_getfield (pc := 7) f_J7_22_36 dJ7_isLatin1_7 fx rfl ?_
  refine g_if_ne (pc := 10) 17 dJ7_isLatin1_10 (by decide) (fun c_10 => absurd rfl c_10) (fun c_10 => ?_)
  refine g_iconst (pc := 13) (v := 1) dJ7_isLatin1_13 (by decide) ?_
  refine g_goto (pc := 14) 18 dJ7_isLatin1_14 (by decide) ?_
  refine g_ireturn (pc := 18) dJ7_isLatin1_18 rfl (by first | exact rfl | exact j_nb _) ?_
  exact ⟨rfl, rfl⟩
theorem k_jlen {x b : jN} {n : Int32} (fx : h x = some (oO 36 [vR b, vI 0, vI 0, vI n])) : Ct E d 0 0 mJ7_length [vR x] h (qR (some (vI n)) h) := by
  refine ct_of (by decide) (Nat.le_of_ble_eq_true rfl) rfl ?_
  refine g_aload_n (pc := 0) dJ7_length_0 rfl ?_
  refine g_getfield (pc := 1) f_J7_79_36 dJ7_length_1 fx rfl ?_
  refine g_ireturn (pc := 4) dJ7_length_4 rfl (by first | exact rfl | exact j_nb _) ?_
  exact ⟨rfl, rfl⟩
theorem k_slen {x b : jN} {n : Int32} (hd : 1 ≤ d) (fx : h x = some (oO 36 [vR b, vI 0, vI 0, vI n])) : Ct E d 0 0 mJ8_length [vR x] h (qR (some (vI n)) h) := by
  refine ct_of (by decide) (Nat.le_of_ble_eq_true rfl) rfl ?_
  refine g_aload_n (pc := 0) dJ8_length_0 rfl ?_
  refine g_callSU (pc := 1) (M' := mJ7_length) (as := []) (ci := 36) rfl su_J8_343 eJ7_length dJ8_length_1 fx (k_jlen fx) (by omega) rfl rfl (Nat.le_of_ble_eq_true rfl) (Nat.zero_le _) (Nat.zero_le _) (fun C x h' q => by cases q.1) (fun r h' q => ?_)
  cases q.1
  rw [q.2]
  refine g_ireturn (pc := 4) dJ8_length_4 rfl (by first | exact rfl | exact j_nb _) ?_
  exact ⟨rfl, rfl⟩
theorem k_ens {x b : jN} {n : Int32} {f : Nat → Int32} (fx : h x = some (oO 36 [vR b, vI 0, vI 0, vI n])) (fb : h b = some (bA 16 f)) (m : Nat) (hm : m ≤ 16) : Ct E d 0 0 mJ7_ensureCapacityInternal [vR x, vI (nI m)] h (qR none h) := by
  refine ct_of (by decide) (Nat.le_of_ble_eq_true rfl) rfl ?_
  refine g_aload_n (pc := 0) dJ7_ensureCapacityInternal_0 rfl ?_
  refine g_getfield (pc := 1) f_J7_15_36 dJ7_ensureCapacityInternal_1 fx rfl ?_
  refine g_arraylength (pc := 4) (t := 1) rfl dJ7_ensureCapacityInternal_4 fb ?_
  refine g_aload_n (pc := 5) dJ7_ensureCapacityInternal_5 rfl ?_
  refine g_getfield (pc := 6) f_J7_22_36 dJ7_ensureCapacityInternal_6 fx rfl ?_
  refine g_ishr (pc := 9) dJ7_ensureCapacityInternal_9 ?_
  rw [show nI 16 >>> ((0 : Int32) &&& 31) = nI 16 from by decide]
  refine g_istore_n (pc := 10) (ls' := [_, _, _]) dJ7_ensureCapacityInternal_10 (by decide) rfl rfl ?_
  refine g_iload_n (pc := 11) dJ7_ensureCapacityInternal_11 rfl ?_
  refine g_iload_n (pc := 12) dJ7_ensureCapacityInternal_12 rfl ?_
  refine g_isub (pc := 13) dJ7_ensureCapacityInternal_13 ?_
  refine g_if_le (pc := 14) 38 dJ7_ensureCapacityInternal_14 (by decide) (fun c_14 => ?_) (fun c_14 => absurd (by rw [Int32.le_iff_toInt_le, pk_sub_toInt (by omega) (by omega), Int32.toInt_zero]; omega) c_14)
  refine g_return (pc := 38) dJ7_ensureCapacityInternal_38 rfl ?_
  exact ⟨rfl, rfl⟩
theorem k_canEnc {c : Int32} (hc : ¬ (255 : Int32) < c) : Ct E d 0 0 mJ15_canEncode [vI c] h (qR (some (vI 1)) h) := by
  refine ct_of (by decide) (Nat.le_of_ble_eq_true rfl) rfl ?_
  refine g_iload_n (pc := 0) dJ15_canEncode_0 rfl ?_
  refine g_sipush (pc := 1) (v := 255) dJ15_canEncode_1 (by decide) ?_
  refine g_icmp_gt (pc := 4) 11 dJ15_canEncode_4 (by decide) (fun c_4 => absurd c_4 hc) (fun c_4 => ?_)
  refine g_iconst (pc := 7) (v := 1) dJ15_canEncode_7 (by decide) ?_
  refine g_goto (pc := 8) 12 dJ15_canEncode_8 (by decide) ?_
  refine g_ireturn (pc := 12) dJ15_canEncode_12 rfl (by first | exact rfl | exact j_nb _) ?_
  exact ⟨rfl, rfl⟩
def apQ (h : jH) (x b : jN) (n : Nat) (t : Nat → Nat) : jR → jH → Prop := fun r h' => r = .inl (some (vR x)) ∧ sbS h' x b (n + 1) t ∧ ∀ y, y ≠ x → y ≠ b → h' y = h y
set_option maxHeartbeats 2000000 in
theorem k_jap {x b : jN} {n : Nat} {t : Nat → Nat} (hd : 2 ≤ d) (hx : x.1 ≠ 0) (hb : b.1 ≠ 0) (hne : x ≠ b) (hn : n < 16) (ht : t n < 128) (hS : sbS h x b n t) : Ct E d 0 0 mJ7_append_3 [vR x, vI (nI (t n))] h (apQ h x b n t) := by
  refine ct_of (by decide) (Nat.le_of_ble_eq_true rfl) rfl ?_
  obtain ⟨fx, f, fb, hf⟩ := hS
  have hc : ¬ (255 : Int32) < nI (t n) := fun w => by have := (nI_ltI (a := 255) (b := t n) (by decide) (by omega)).mp w; omega
  refine g_aload_n (pc := 0) dJ7_append_3_0 rfl ?_
  refine g_aload_n (pc := 1) dJ7_append_3_1 rfl ?_
  refine g_getfield (pc := 2) f_J7_79_36 dJ7_append_3_2 fx rfl ?_
  refine g_iconst (pc := 5) (v := 1) dJ7_append_3_5 (by decide) ?_
  refine g_iadd (pc := 6) dJ7_append_3_6 ?_
  rw [nI_1]
  refine g_cVv (pc := 7) (M' := mJ7_ensureCapacityInternal) (as := [_]) (ci := 36) rfl i_J7_100_36 eJ7_ensureCapacityInternal dJ7_append_3_7 fx (k_ens fx fb (n + 1) (by omega)) (by omega) rfl rfl (Nat.le_of_ble_eq_true rfl) ?_
  refine g_aload_n (pc := 10) dJ7_append_3_10 rfl ?_
  refine g_cV (pc := 11) (M' := mJ7_isLatin1) (as := []) (ci := 36) rfl i_J7_83_36 eJ7_isLatin1 dJ7_append_3_11 fx (k_isLat fx) (by omega) rfl rfl (Nat.le_of_ble_eq_true rfl) ?_
  refine g_if_eq (pc := 14) 45 dJ7_append_3_14 (by decide) (fun c_14 => absurd c_14 (by decide)) (fun c_14 => ?_)
  refine g_iload_n (pc := 17) dJ7_append_3_17 rfl ?_
  refine g_cS (pc := 18) (M' := mJ15_canEncode) (as := [_]) i_J7_191 eJ15_canEncode dJ7_append_3_18 (k_canEnc hc) (by omega) rfl rfl (Nat.le_of_ble_eq_true rfl) ?_
  refine g_if_eq (pc := 21) 45 dJ7_append_3_21 (by decide) (fun c_21 => absurd c_21 (by decide)) (fun c_21 => ?_)
  refine g_aload_n (pc := 24) dJ7_append_3_24 rfl ?_
  refine g_getfield (pc := 25) f_J7_15_36 dJ7_append_3_25 fx rfl ?_
  refine g_aload_n (pc := 28) dJ7_append_3_28 rfl ?_
  refine g_dup (pc := 29) dJ7_append_3_29 rfl ?_
  refine g_getfield (pc := 30) f_J7_79_36 dJ7_append_3_30 fx rfl ?_
  refine g_dup_x1 (pc := 33) dJ7_append_3_33 rfl rfl ?_
  refine g_iconst (pc := 34) (v := 1) dJ7_append_3_34 (by decide) ?_
  refine g_iadd (pc := 35) dJ7_append_3_35 ?_
  rw [nI_1]
  refine n_put (pc := 36) w_J7_79_36 dJ7_append_3_36 fx (Nat.le_of_ble_eq_true rfl) hx (j_fit_int _) rfl (fun h q9 o9 => ?_)
  replace fx := q9
  refine g_iload_n (pc := 39) dJ7_append_3_39 rfl ?_
  refine g_i2b (pc := 40) dJ7_append_3_40 ?_
  replace fb := (o9 _ hne.symm).trans fb
  refine g_bastore (pc := 41) dJ7_append_3_41 fb hb (j := n) rfl (by omega) (by decide) ?_
  refine g_goto (pc := 42) 75 dJ7_append_3_42 (by decide) ?_
  refine g_aload_n (pc := 75) dJ7_append_3_75 rfl ?_
  refine g_areturn (pc := 76) dJ7_append_3_76 rfl (by first | exact Or.inl ⟨_, rfl⟩ | exact Or.inr ⟨_, rfl⟩) ?_
  refine ⟨rfl, ⟨(hs_ne hne).trans fx, _, hs_same, fun j hj => ?_⟩, fun y h1 h2 => (hs_ne h2).trans (o9 y h1)⟩
  unfold j_up
  by_cases w : j = n
  · subst w
    rw [if_pos rfl, b8_nar ⟨_, ht⟩, b8_nar ⟨_, ht⟩]
  · rw [if_neg w]
    exact hf j (by omega)
theorem k_app {x b : jN} {n : Nat} {t : Nat → Nat} (hd : 3 ≤ d) (hx : x.1 ≠ 0) (hb : b.1 ≠ 0) (hne : x ≠ b) (hn : n < 16) (ht : t n < 128) (hS : sbS h x b n t) : Ct E d 0 0 mJ8_append_3 [vR x, vI (nI (t n))] h (apQ h x b n t) := by
  refine ct_of (by decide) (Nat.le_of_ble_eq_true rfl) rfl ?_
  refine g_aload_n (pc := 0) dJ8_append_3_0 rfl ?_
  refine g_iload_n (pc := 1) dJ8_append_3_1 rfl ?_
  refine g_callSU (pc := 2) (M' := mJ7_append_3) (as := [_]) (ci := 36) rfl su_J8_50 eJ7_append_3 dJ8_append_3_2 hS.1 (k_jap (by omega) hx hb hne hn ht hS) (by omega) rfl rfl (Nat.le_of_ble_eq_true rfl) (Nat.zero_le _) (Nat.zero_le _) (fun C x h' q => by cases q.1) (fun r h' q => ?_)
  obtain ⟨q1, q2, q3⟩ := q
  cases q1
  refine g_pop (pc := 5) dJ8_append_3_5 rfl ?_
  refine g_aload_n (pc := 6) dJ8_append_3_6 rfl ?_
  refine g_areturn (pc := 7) dJ8_append_3_7 rfl (by first | exact Or.inl ⟨_, rfl⟩ | exact Or.inr ⟨_, rfl⟩) ?_
  exact ⟨rfl, q2, q3⟩
def sbQ (h : jH) (x : jN) : jR → jH → Prop := fun r h' => r = .inl none ∧ ∃ b : Nat, h' x = some (oO 36 [vR (96, b), vI 0, vI 0, vI 0]) ∧ h' (96, b) = some (bA 16 (fun _ => 0)) ∧ (∀ k, h (k, b) = none) ∧ (∀ y o, y ≠ x → h y = some o → h' y = some o) ∧ cFr h h'
set_option maxHeartbeats 2000000 in
theorem k_jnew {x : jN} (hd : 2 ≤ d) (hro : x.1 ≠ 0) (hx9 : x.1 < 900) (fx : h x = some (oO 36 [vN, vI 0, vI 0, vI 0])) : Ct E d 1 16 mJ7_init [vR x, vI 16] h (sbQ h x) := by
  refine ct_of (by decide) (Nat.le_of_ble_eq_true rfl) rfl ?_
  obtain ⟨h0, hh0⟩ : ∃ h0, h0 = h := ⟨_, rfl⟩
  have fx0 : h0 x = some (oO 36 [vN, vI 0, vI 0, vI 0]) := by rw [hh0]; exact fx
  rw [← hh0]
  change G E d 1 16 mJ7_init 0 _ [] h0 (sbQ h0 x)
  clear fx hh0
  obtain ⟨h, hh1⟩ : ∃ h, h = h0 := ⟨_, rfl⟩
  have fx : h x = some (oO 36 [vN, vI 0, vI 0, vI 0]) := by rw [hh1]; exact fx0
  have E1 : ∀ y o, y ≠ x → h0 y = some o → h y = some o := by rw [hh1]; exact fun _ _ _ q => q
  have C1 : cFr h0 h := by rw [hh1]; exact cFr.rf
  suffices hsuf : G E d 1 16 mJ7_init 0 _ [] h (sbQ h0 x) by rw [hh1] at hsuf; exact hsuf
  clear hh1
  refine g_aload_n (pc := 0) dJ7_init_0 rfl ?_
  refine g_obj (pc := 1) q232 dJ7_init_1 (by omega) (Nat.le_of_ble_eq_true rfl) ?_
  refine g_getstatic (pc := 4) (v := vI 1) q233 (Or.inl rfl) z_cs dJ7_init_4 ?_
  refine g_if_eq (pc := 7) 25 dJ7_init_7 (by decide) (fun c_7 => absurd c_7 (by decide)) (fun c_7 => ?_)
  refine g_aload_n (pc := 10) dJ7_init_10 rfl ?_
  refine g_iload_n (pc := 11) dJ7_init_11 rfl ?_
  refine n_arrB (pc := 12) (N := 16) 96 dJ7_init_12 (by decide) (by first | decide | omega) (by first | decide | omega) (by first | decide | omega) (fun a_A0 h q9 n9 o9 => ?_)
  have ne_fx_A0 := ne_new (kd := 96) fx n9
  have n0x := fun k => ne_new (kd := k) fx n9
  have n0_A0 := fun k => n0_ofx E1 n9 (n0x k) (k := k)
  replace E1 := fun y o hy k => (o9 y (ne_new (E1 y o hy k) n9)).trans (E1 y o hy k)
  replace C1 := cFr.tr C1 (cFr.at (by show 96 < 900; omega) o9)
  replace fx := (o9 _ ne_fx_A0).trans fx
  have A0 := q9
  refine n_put (pc := 14) w_J7_15_36 dJ7_init_14 fx (Nat.le_of_ble_eq_true rfl) hro (j_fit_arr _ _) rfl (fun h q9 o9 => ?_)
  replace A0 := (o9 _ ne_fx_A0.symm).trans A0
  replace fx := q9
  replace C1 := cFr.tr C1 (cFr.at hx9 o9)
  replace E1 := fun y o hy k => (o9 y hy).trans (E1 y o hy k)
  refine g_aload_n (pc := 17) dJ7_init_17 rfl ?_
  refine g_iconst (pc := 18) (v := 0) dJ7_init_18 (by decide) ?_
  refine n_put (pc := 19) w_J7_22_36 dJ7_init_19 fx (Nat.le_of_ble_eq_true rfl) hro ⟨rfl, by decide⟩ rfl (fun h q9 o9 => ?_)
  replace A0 := (o9 _ ne_fx_A0.symm).trans A0
  replace fx := q9
  replace C1 := cFr.tr C1 (cFr.at hx9 o9)
  replace E1 := fun y o hy k => (o9 y hy).trans (E1 y o hy k)
  refine g_goto (pc := 22) 38 dJ7_init_22 (by decide) ?_
  refine g_return (pc := 38) dJ7_init_38 rfl ?_
  exact ⟨rfl, a_A0, fx, A0, n0_A0, E1, C1⟩
theorem k_snew {x : jN} (hd : 3 ≤ d) (hro : x.1 ≠ 0) (hx9 : x.1 < 900) (fx : h x = some (oO 36 [vN, vI 0, vI 0, vI 0])) : Ct E d 1 16 mJ8_init [vR x] h (sbQ h x) := by
  refine ct_of (by decide) (Nat.le_of_ble_eq_true rfl) rfl ?_
  refine g_aload_n (pc := 0) dJ8_init_0 rfl ?_
  refine g_bipush (pc := 1) (v := 16) dJ8_init_1 (by decide) ?_
  refine g_callI (pc := 3) (M' := mJ7_init) (as := [_]) i_J8_1 eJ7_init dJ8_init_3 (k_jnew (by omega) hro hx9 fx) (by omega) rfl rfl (Nat.le_of_ble_eq_true rfl) (by omega) (by omega) (fun C x h' q => by cases q.1) (fun r h' q => ?_)
  obtain ⟨q1, q2⟩ := q
  cases q1
  refine g_return (pc := 6) dJ8_init_6 rfl ?_
  exact ⟨rfl, q2⟩
end
