/-! THE JDK: ArrayList.add. Printed by m_c26.py -/
set_option maxRecDepth 100000
theorem cpyQ {f g : Nat → Option jN} {a b n : Nat} : va_cpy (fun j => vQ (f j)) (fun j => vQ (g j)) a b n = fun j => vQ (va_cpy f g a b n j) := by
  funext j
  unfold va_cpy
  split <;> rfl
/-- the first s entries are objects -/
def elC (h : jH) (f : Nat → Option jN) (s : Nat) : Prop := ∀ j, j < s → ∃ (q : jN) (ci : Nat) (C : String) (T0 : u_T) (N0 : Nat) (fs : List jV), f j = some q ∧ h q = some (oO ci fs) ∧ gCl[ci]? = some (C, T0, N0) ∧ Cond.castable C "java/lang/Object" ∈ lw_tbl
theorem elC.ex {h h' : jH} {f : Nat → Option jN} {s : Nat} (k : elC h f s) (e : ∀ y o, h y = some o → h' y = some o) : elC h' f s := fun j hj => by
  obtain ⟨q, ci, C, T0, N0, fs, e1, e2, e3, e4⟩ := k j hj
  exact ⟨q, ci, C, T0, N0, fs, e1, e _ _ e2, e3, e4⟩
/-- a longer row -/
def cwQ (h : jH) (kd cap m : Nat) (f : Nat → Option jN) : jR → jH → Prop := fun r h' => ∃ a : Nat, r = .inl (some (vR (kd, a))) ∧ (∃ f', h' (kd, a) = some (rA 3 m f') ∧ ∀ j, j < cap → f' j = f j) ∧ (∀ k, h (k, a) = none) ∧ (∀ y o, h y = some o → h' y = some o) ∧ cFr h h'
section
variable {E : jE} {d : Nat} {h : jH}
set_option maxHeartbeats 2000000 in
theorem k_cp3 {b : jN} {cap m : Nat} {f : Nat → Option jN} (fb : h b = some (rA 3 cap f)) (hel : elC h f cap) (hcm : cap ≤ m) (hm : m ≤ 1000) {mi : Nat} (kd : Nat) (hd : 3 ≤ d) (hk0 : kd ≠ 0) (hk9 : kd < 900) (hM : jOK E → va_Mi "[Ljava/lang/Object;" mi (eS E)) : Ct E d 1 m mJ13_copyOf_3 [vR b, vI (nI m), vR (0, mi)] h (cwQ h kd cap m f) := by
  refine ct_of (by decide) (Nat.le_of_ble_eq_true rfl) rfl ?_
  obtain ⟨h0, hh0⟩ : ∃ h0, h0 = h := ⟨_, rfl⟩
  refine g_aload_n (pc := 0) dJ13_copyOf_3_0 rfl ?_
  refine g_ldcM (pc := 1) hM q1260 dJ13_copyOf_3_1 ?_
  refine g_acmp_ne (pc := 3) 13 dJ13_copyOf_3_3 (by decide) (fun e => absurd rfl e) (fun _ => ?_)
  refine g_iload_n (pc := 6) dJ13_copyOf_3_6 rfl ?_
  refine n_arrR (pc := 7) (t := 3) (N := m) kd rfl q1261 q180 dJ13_copyOf_3_7 rfl (by omega) (by omega) (by omega) (fun a h1 q9 n9 o9 => ?_)
  have fb1 := (o9 _ (ne_new fb n9)).trans fb
  have E1 : ∀ y o, h y = some o → h1 y = some o := fun y o k => (o9 _ (ne_new k n9)).trans k
  have hel1 := hel.ex E1
  refine g_goto (pc := 10) 24 dJ13_copyOf_3_10 (by decide) ?_
  refine g_astore_n (pc := 24) (ls' := [_, _, _, _]) dJ13_copyOf_3_24 (by decide) rfl rfl ?_
  refine g_aload_n (pc := 25) dJ13_copyOf_3_25 rfl ?_
  refine g_iconst (pc := 26) (v := 0) dJ13_copyOf_3_26 (by decide) ?_
  refine g_aload_n (pc := 27) dJ13_copyOf_3_27 rfl ?_
  refine g_iconst (pc := 28) (v := 0) dJ13_copyOf_3_28 (by decide) ?_
  refine g_aload_n (pc := 29) dJ13_copyOf_3_29 rfl ?_
  refine g_arraylength (pc := 30) (t := 3) rfl dJ13_copyOf_3_30 fb1 ?_
  refine g_iload_n (pc := 31) dJ13_copyOf_3_31 rfl ?_
  refine g_cS (pc := 32) (M' := mJ12_min) (as := [_, _]) i_J13_304 eJ12_min dJ13_copyOf_3_32 (k_min _ _) (by omega) rfl rfl (Nat.le_of_ble_eq_true rfl) ?_
  rw [if_neg (nI_nlt (a := m) (b := cap) hcm (by omega))]
  refine g_arraycopy (pc := 35) (t := 3) (ty := .object "java/lang/Object") (a := 0) (b := 0) (len := cap) (n0 := cap) (n1 := m) (f := fun j => vQ (f j)) (g := fun _ => vQ none) rfl q301 q303 q302 q116 dJ13_copyOf_3_35 fb1 q9 hk0 rfl rfl rfl (by omega) (by omega) (by omega) (by omega) (fun j hj => by
    obtain ⟨q, ci, C, T0, N0, fs, e1, e2, e3, e4⟩ := hel1 j hj
    rw [Nat.zero_add, e1]
    exact ⟨rfl, ci, C, "java/lang/Object", T0, N0, fs, e2, e3, rfl, e4⟩) (by omega) (Nat.le_of_ble_eq_true rfl) ?_
  refine g_aload_n (pc := 38) dJ13_copyOf_3_38 rfl ?_
  refine g_areturn (pc := 39) dJ13_copyOf_3_39 rfl (by first | exact Or.inl ⟨_, rfl⟩ | exact Or.inr ⟨_, rfl⟩) ?_
  refine ⟨a, rfl, ⟨va_cpy f (fun _ => none) 0 0 cap, by rw [hs_same, cpyQ], fun j hj => ?_⟩, n9, fun y o k => (hs_ne (ne_new k n9)).trans (E1 y o k), cFr.tr (cFr.at hk9 o9) (cFr.set hk9)⟩
  unfold va_cpy
  rw [if_pos ⟨Nat.zero_le _, by omega⟩, Nat.zero_add, Nat.sub_zero]
set_option maxHeartbeats 2000000 in
theorem k_cp2 {b : jN} {cap m : Nat} {f : Nat → Option jN} (fb : h b = some (rA 3 cap f)) (hel : elC h f cap) (hcm : cap ≤ m) (hm : m ≤ 1000) (kd : Nat) (hd : 4 ≤ d) (hk0 : kd ≠ 0) (hk9 : kd < 900) : Ct E d 1 m mJ13_copyOf_2 [vR b, vI (nI m)] h (cwQ h kd cap m f) := by
  refine ct_of (by decide) (Nat.le_of_ble_eq_true rfl) rfl ?_
  refine g_ok (fun K => ?_)
  obtain ⟨mi, hM⟩ := mi_obj K
  refine g_aload_n (pc := 0) dJ13_copyOf_2_0 rfl ?_
  refine g_iload_n (pc := 1) dJ13_copyOf_2_1 rfl ?_
  refine g_aload_n (pc := 2) dJ13_copyOf_2_2 rfl ?_
  refine g_getClass (pc := 3) (fun _ => hM) q1220 dJ13_copyOf_2_3 fb (by omega) (Nat.le_of_ble_eq_true rfl) ?_
  refine g_callS (pc := 6) (M' := mJ13_copyOf_3) (as := [_, _, _]) i_J13_300 eJ13_copyOf_3 dJ13_copyOf_2_6 (k_cp3 fb hel hcm hm kd (by omega) hk0 hk9 (fun _ => hM)) (by omega) rfl rfl (Nat.le_of_ble_eq_true rfl) (by omega) (by omega) (fun C x h' q => by obtain ⟨a9, e9, -⟩ := q; cases e9) (fun r h' q => ?_)
  obtain ⟨a9, e9, q9⟩ := q
  cases e9
  refine g_areturn (pc := 9) dJ13_copyOf_2_9 rfl (by first | exact Or.inl ⟨_, rfl⟩ | exact Or.inr ⟨_, rfl⟩) ?_
  exact ⟨a9, rfl, q9⟩
theorem k_newLen {a b c : Nat} (hd : 1 ≤ d) (h1 : 1 ≤ b) (ha : a ≤ 10000) (hb : b ≤ 10000) (hc : c ≤ 10000) : Ct E d 0 0 mJ11_newLength [vI (nI a), vI (nI b), vI (nI c)] h (qR (some (vI (nI (a + max b c)))) h) := by
  refine ct_of (by decide) (Nat.le_of_ble_eq_true rfl) rfl ?_
  have hmx : max b c ≤ 10000 := Nat.max_le.mpr ⟨hb, hc⟩
  have hm1 : 1 ≤ max b c := Nat.le_trans h1 (Nat.le_max_left _ _)
  refine g_iload_n (pc := 0) dJ11_newLength_0 rfl ?_
  refine g_iload_n (pc := 1) dJ11_newLength_1 rfl ?_
  refine g_iload_n (pc := 2) dJ11_newLength_2 rfl ?_
  refine g_cS (pc := 3) (M' := mJ12_max) (as := [_, _]) i_J11_194 eJ12_max dJ11_newLength_3 (k_max _ _) (by omega) rfl rfl (Nat.le_of_ble_eq_true rfl) ?_
  rw [max_nI (by omega) (by omega)]
  refine g_iadd (pc := 6) dJ11_newLength_6 ?_
  rw [nI_add]
  refine g_istore_n (pc := 7) (ls' := [_, _, _, _]) dJ11_newLength_7 (by decide) rfl rfl ?_
  refine g_iconst (pc := 8) (v := 0) dJ11_newLength_8 (by decide) ?_
  refine g_iload_n (pc := 9) dJ11_newLength_9 rfl ?_
  refine g_icmp_ge (pc := 10) 21 dJ11_newLength_10 (by decide) (fun c_10 => absurd c_10 (by intro w; have := (nI_leI (a := a + max b c) (b := 0) (by omega) (by decide)).mp w; omega)) (fun c_10 => ?_)
  refine g_iload_n (pc := 13) dJ11_newLength_13 rfl ?_
  refine g_ldc (pc := 14) (v := 2147483639) dJ11_newLength_14 q283 ?_
  refine g_icmp_gt (pc := 16) 21 dJ11_newLength_16 (by decide) (fun c_16 => absurd c_16 (by intro w; have := (nI_ltI (a := 2147483639) (b := a + max b c) (by decide) (by omega)).mp w; omega)) (fun c_16 => ?_)
  refine g_iload_n (pc := 19) dJ11_newLength_19 rfl ?_
  refine g_ireturn (pc := 20) dJ11_newLength_20 rfl (by first | exact rfl | exact j_nb _) ?_
  exact ⟨rfl, rfl⟩
def gwQ (h : jH) (l : jN) (kd cap s : Nat) (mc : Int32) (f : Nat → Option jN) : jR → jH → Prop := fun r h' => ∃ a : Nat, r = .inl (some (vR (kd, a))) ∧ h' l = some (oO 33 [vI mc, vR (kd, a), vI (nI s)]) ∧ (∃ f', h' (kd, a) = some (rA 3 (cap + max 1 (cap / 2)) f') ∧ ∀ j, j < cap → f' j = f j) ∧ (∀ k, h (k, a) = none) ∧ (∀ y o, y ≠ l → h y = some o → h' y = some o) ∧ cFr h h'
set_option maxHeartbeats 2000000 in
theorem k_grow2 {l b : jN} {cap : Nat} {mc : Int32} {f : Nat → Option jN} (kd : Nat) (hk0 : kd ≠ 0) (hk9 : kd < 900) (hl0 : l.1 ≠ 0) (hl9 : l.1 < 900) (fl : h l = some (oO 33 [vI mc, vR b, vI (nI cap)])) (fb : h b = some (rA 3 cap f)) (hel : elC h f cap) (h1 : 1 ≤ cap) (hc : cap ≤ 500) (hd : 6 ≤ d) : Ct E d 1 (cap + max 1 (cap / 2)) mJ2_grow_2 [vR l, vI (nI (cap + 1))] h (gwQ h l kd cap cap mc f) := by
  refine ct_of (by decide) (Nat.le_of_ble_eq_true rfl) rfl ?_
  have hmx : max 1 (cap / 2) ≤ 500 := Nat.max_le.mpr ⟨by decide, by omega⟩
  refine g_aload_n (pc := 0) dJ2_grow_2_0 rfl ?_
  refine g_getfield (pc := 1) f_J2_9_33 dJ2_grow_2_1 fl rfl ?_
  refine g_arraylength (pc := 4) (t := 3) rfl dJ2_grow_2_4 fb ?_
  refine g_istore_n (pc := 5) (ls' := [_, _, _, _]) dJ2_grow_2_5 (by decide) rfl rfl ?_
  refine g_iload_n (pc := 6) dJ2_grow_2_6 rfl ?_
  refine g_if_gt (pc := 7) 20 dJ2_grow_2_7 (by decide) (fun c_7 => ?_) (fun c_7 => absurd (nI_lt (a := 0) (b := cap) (by omega) (by omega)) c_7)
  refine g_iload_n (pc := 20) dJ2_grow_2_20 rfl ?_
  refine g_iload_n (pc := 21) dJ2_grow_2_21 rfl ?_
  refine g_iload_n (pc := 22) dJ2_grow_2_22 rfl ?_
  refine g_isub (pc := 23) dJ2_grow_2_23 ?_
  rw [show nI (cap + 1) - nI cap = nI 1 from (pk_sub (by omega)).trans (by rw [Nat.add_sub_cancel_left])]
  refine g_iload_n (pc := 24) dJ2_grow_2_24 rfl ?_
  refine g_iconst (pc := 25) (v := 1) dJ2_grow_2_25 (by decide) ?_
  refine g_ishr (pc := 26) dJ2_grow_2_26 ?_
  rw [show nI cap >>> ((1 : Int32) &&& 31) = nI (cap / 2) from (pk_shrN (by omega) _ 1 (by decide))]
  refine g_cS (pc := 27) (M' := mJ11_newLength) (as := [_, _, _]) i_J2_73 eJ11_newLength dJ2_grow_2_27 (k_newLen (by omega) (by decide) (by omega) (by decide) (by omega)) (by omega) rfl rfl (Nat.le_of_ble_eq_true rfl) ?_
  refine g_istore_n (pc := 30) (ls' := [_, _, _, _]) dJ2_grow_2_30 (by decide) rfl rfl ?_
  refine g_aload_n (pc := 31) dJ2_grow_2_31 rfl ?_
  refine g_aload_n (pc := 32) dJ2_grow_2_32 rfl ?_
  refine g_getfield (pc := 33) f_J2_9_33 dJ2_grow_2_33 fl rfl ?_
  refine g_iload_n (pc := 36) dJ2_grow_2_36 rfl ?_
  refine g_callS (pc := 37) (M' := mJ13_copyOf_2) (as := [_, _]) i_J2_66 eJ13_copyOf_2 dJ2_grow_2_37 (k_cp2 fb hel (by omega) (by omega) kd (by omega) hk0 hk9) (by omega) rfl rfl (Nat.le_of_ble_eq_true rfl) (by omega) (by omega) (fun C9 x9 h9 q9 => ?_) (fun r9 h9 q9 => ?_)
  · obtain ⟨a9, e9, -⟩ := q9
    cases e9
  obtain ⟨a9, e9, ⟨f9, g1, g2⟩, n9, E9, C9⟩ := q9
  cases e9
  have hla := ne_new (kd := kd) fl n9
  replace fl := E9 _ _ fl
  refine g_dup_x1 (pc := 40) dJ2_grow_2_40 rfl rfl ?_
  refine n_put (pc := 41) w_J2_9_33 dJ2_grow_2_41 fl (Nat.le_of_ble_eq_true rfl) hl0 (j_fit_arr _ _) rfl (fun h q9 o9 => ?_)
  replace fl := q9
  refine g_areturn (pc := 44) dJ2_grow_2_44 rfl (by first | exact Or.inl ⟨_, rfl⟩ | exact Or.inr ⟨_, rfl⟩) ?_
  exact ⟨a9, rfl, fl, ⟨f9, (o9 _ hla.symm).trans g1, g2⟩, n9, fun y o hy k => (o9 y hy).trans (E9 y o k), cFr.tr C9 (cFr.at hl9 o9)⟩
set_option maxHeartbeats 2000000 in
theorem k_grow {l b : jN} {cap : Nat} {mc : Int32} {f : Nat → Option jN} (kd : Nat) (hk0 : kd ≠ 0) (hk9 : kd < 900) (hl0 : l.1 ≠ 0) (hl9 : l.1 < 900) (fl : h l = some (oO 33 [vI mc, vR b, vI (nI cap)])) (fb : h b = some (rA 3 cap f)) (hel : elC h f cap) (h1 : 1 ≤ cap) (hc : cap ≤ 500) (hd : 7 ≤ d) : Ct E d 1 (cap + max 1 (cap / 2)) mJ2_grow [vR l] h (gwQ h l kd cap cap mc f) := by
  refine ct_of (by decide) (Nat.le_of_ble_eq_true rfl) rfl ?_
  refine g_aload_n (pc := 0) dJ2_grow_0 rfl ?_
  refine g_aload_n (pc := 1) dJ2_grow_1 rfl ?_
  refine g_getfield (pc := 2) f_J2_48_33 dJ2_grow_2 fl rfl ?_
  refine g_iconst (pc := 5) (v := 1) dJ2_grow_5 (by decide) ?_
  refine g_iadd (pc := 6) dJ2_grow_6 ?_
  rw [nI_1]
  refine g_callV (pc := 7) (M' := mJ2_grow_2) (as := [_]) (ci := 33) rfl i_J2_69_33 eJ2_grow_2 dJ2_grow_7 fl (k_grow2 kd hk0 hk9 hl0 hl9 fl fb hel h1 hc (by omega)) (by omega) rfl rfl (Nat.le_of_ble_eq_true rfl) (by omega) (by omega) (fun C9 x9 h9 q9 => ?_) (fun r9 h9 q9 => ?_)
  · obtain ⟨a9, e9, -⟩ := q9
    cases e9
  obtain ⟨a9, e9, q9⟩ := q9
  cases e9
  refine g_areturn (pc := 10) dJ2_grow_10 rfl (by first | exact Or.inl ⟨_, rfl⟩ | exact Or.inr ⟨_, rfl⟩) ?_
  exact ⟨a9, rfl, q9⟩
/-- one more in the list -/
def adQ (h : jH) (l b x : jN) (kd cap s : Nat) (f : Nat → Option jN) (v : Option jV) : jR → jH → Prop := fun r h' => r = .inl v ∧ ∃ (mc : Int32) (e : jN) (cap' : Nat) (f' : Nat → Option jN), h' l = some (oO 33 [vI mc, vR e, vI (nI (s + 1))]) ∧ h' e = some (rA 3 cap' f') ∧ s < cap' ∧ (cap' = cap ∨ (cap = s ∧ cap' ≤ 2 * s + 1)) ∧ e.1 = kd ∧ (∀ j, j < s → f' j = f j) ∧ f' s = some x ∧ (e = b ∨ ∀ k, h (k, e.2) = none) ∧ (∀ y o, y ≠ l → y ≠ b → h y = some o → h' y = some o) ∧ cFr h h'
set_option maxHeartbeats 2000000 in
theorem k_add2 {l b x : jN} {cap s ci N0 : Nat} {C : String} {T0 : u_T} {fs : List jV} {mc : Int32} {f : Nat → Option jN} (kd : Nat) (hk0 : kd ≠ 0) (hk9 : kd < 900) (hbk : b.1 = kd) (hl0 : l.1 ≠ 0) (hl9 : l.1 < 900) (fl : h l = some (oO 33 [vI mc, vR b, vI (nI s)])) (fb : h b = some (rA 3 cap f)) (hel : elC h f s) (h1 : 1 ≤ cap) (hs : s ≤ cap) (hc : cap ≤ 500) (hcl : gCl[ci]? = some (C, T0, N0)) (hcast : Cond.castable C "java/lang/Object" ∈ lw_tbl) (fx : h x = some (oO ci fs)) (hxl : x ≠ l) (hd : 8 ≤ d) : Ct E d 1 (cap + max 1 (cap / 2)) mJ2_add_2 [vR l, vR x, vR b, vI (nI s)] h (adQ h l b x kd cap s f none) := by
  refine ct_of (by decide) (Nat.le_of_ble_eq_true rfl) rfl ?_
  have hlb : l ≠ b := fun e => by rw [e] at fl; rw [fl] at fb; cases fb
  have hxb : x ≠ b := fun e => by rw [e] at fx; rw [fx] at fb; cases fb
  refine g_iload_n (pc := 0) dJ2_add_2_0 rfl ?_
  refine g_aload_n (pc := 1) dJ2_add_2_1 rfl ?_
  refine g_arraylength (pc := 2) (t := 3) rfl dJ2_add_2_2 fb ?_
  refine g_icmp_ne (pc := 3) 11 dJ2_add_2_3 (by decide) (fun c_3 => ?_) (fun c_3 => ?_)
  · have hsc : s < cap := by
      have : ¬ s = cap := fun e => c_3 (by rw [e])
      omega
    refine g_aload_n (pc := 11) dJ2_add_2_11 rfl ?_
    refine g_iload_n (pc := 12) dJ2_add_2_12 rfl ?_
    refine g_aload_n (pc := 13) dJ2_add_2_13 rfl ?_
    refine g_aastore (pc := 14) (t := 3) (B := "java/lang/Object") (j := s) rfl hcl hcast q2598 dJ2_add_2_14 fb fx (by rw [hbk]; exact hk0) rfl hsc (by omega) ?_
    have fl2 := (hs_ne (o := rA 3 cap (j_up f s (some x))) hlb).trans fl
    refine g_aload_n (pc := 15) dJ2_add_2_15 rfl ?_
    refine g_iload_n (pc := 16) dJ2_add_2_16 rfl ?_
    refine g_iconst (pc := 17) (v := 1) dJ2_add_2_17 (by decide) ?_
    refine g_iadd (pc := 18) dJ2_add_2_18 ?_
    rw [nI_1]
    refine n_put (pc := 19) w_J2_48_33 dJ2_add_2_19 fl2 (Nat.le_of_ble_eq_true rfl) hl0 (j_fit_int _) rfl (fun h q9 o9 => ?_)
    replace fl2 := q9
    refine g_return (pc := 22) dJ2_add_2_22 rfl ?_
    exact ⟨rfl, _, b, cap, j_up f s (some x), fl2, (o9 _ hlb.symm).trans hs_same, hsc, Or.inl rfl, hbk, fun j hj => j_up_ne (by omega), j_up_same, Or.inl rfl, fun y o h2 h3 k => (o9 y h2).trans ((hs_ne h3).trans k), cFr.tr (cFr.set (by rw [hbk]; exact hk9)) (cFr.at hl9 o9)⟩
  · have hsc : s = cap := (nI_eq (by omega) (by omega)).mp c_3
    subst hsc
    refine g_aload_n (pc := 6) dJ2_add_2_6 rfl ?_
    refine g_callV (pc := 7) (M' := mJ2_grow) (as := []) (ci := 33) rfl i_J2_129_33 eJ2_grow dJ2_add_2_7 fl (k_grow kd hk0 hk9 hl0 hl9 fl fb hel h1 hc (by omega)) (by omega) rfl rfl (Nat.le_of_ble_eq_true rfl) (by omega) (by omega) (fun C x h' q => by obtain ⟨a9, e9, -⟩ := q; cases e9) (fun r h2 q => ?_)
    obtain ⟨a9, e9, gl, ⟨f9, g1, g2⟩, n9, E9, C9⟩ := q
    cases e9
    have hmx1 : 1 ≤ max 1 (s / 2) := Nat.le_max_left _ _
    have hmx2 : max 1 (s / 2) ≤ s := Nat.max_le.mpr ⟨h1, by omega⟩
    have hla : l ≠ (kd, a9) := ne_new fl n9
    refine g_astore_n (pc := 10) (ls' := [_, _, _, _]) dJ2_add_2_10 (by decide) rfl rfl ?_
    refine g_aload_n (pc := 11) dJ2_add_2_11 rfl ?_
    refine g_iload_n (pc := 12) dJ2_add_2_12 rfl ?_
    refine g_aload_n (pc := 13) dJ2_add_2_13 rfl ?_
    refine g_aastore (pc := 14) (t := 3) (B := "java/lang/Object") (j := s) rfl hcl hcast q2598 dJ2_add_2_14 g1 (E9 _ _ hxl fx) hk0 rfl (by omega) (by omega) ?_
    have fl2 := (hs_ne (o := rA 3 (s + max 1 (s / 2)) (j_up f9 s (some x))) hla).trans gl
    refine g_aload_n (pc := 15) dJ2_add_2_15 rfl ?_
    refine g_iload_n (pc := 16) dJ2_add_2_16 rfl ?_
    refine g_iconst (pc := 17) (v := 1) dJ2_add_2_17 (by decide) ?_
    refine g_iadd (pc := 18) dJ2_add_2_18 ?_
    rw [nI_1]
    refine n_put (pc := 19) w_J2_48_33 dJ2_add_2_19 fl2 (Nat.le_of_ble_eq_true rfl) hl0 (j_fit_int _) rfl (fun h q9 o9 => ?_)
    replace fl2 := q9
    refine g_return (pc := 22) dJ2_add_2_22 rfl ?_
    exact ⟨rfl, _, (kd, a9), _, j_up f9 s (some x), fl2, (o9 _ hla.symm).trans hs_same, by omega, Or.inr ⟨rfl, by omega⟩, rfl, fun j hj => (j_up_ne (by omega)).trans (g2 j hj), j_up_same, Or.inr n9, fun y o h2 h3 k => (o9 y h2).trans ((hs_ne (ne_new k n9)).trans (E9 y o h2 k)), cFr.tr C9 (cFr.tr (cFr.set hk9) (cFr.at hl9 o9))⟩
set_option maxHeartbeats 2000000 in
theorem k_add {l b x : jN} {cap s ci N0 : Nat} {C : String} {T0 : u_T} {fs : List jV} {mc : Int32} {f : Nat → Option jN} (kd : Nat) (hk0 : kd ≠ 0) (hk9 : kd < 900) (hbk : b.1 = kd) (hl0 : l.1 ≠ 0) (hl9 : l.1 < 900) (fl : h l = some (oO 33 [vI mc, vR b, vI (nI s)])) (fb : h b = some (rA 3 cap f)) (hel : elC h f s) (h1 : 1 ≤ cap) (hs : s ≤ cap) (hc : cap ≤ 500) (hcl : gCl[ci]? = some (C, T0, N0)) (hcast : Cond.castable C "java/lang/Object" ∈ lw_tbl) (fx : h x = some (oO ci fs)) (hxl : x ≠ l) (hd : 9 ≤ d) : Ct E d 1 (cap + max 1 (cap / 2)) mJ2_add [vR l, vR x] h (adQ h l b x kd cap s f (some (vI 1))) := by
  refine ct_of (by decide) (Nat.le_of_ble_eq_true rfl) rfl ?_
  have hlb : l ≠ b := fun e => by rw [e] at fl; rw [fl] at fb; cases fb
  refine g_aload_n (pc := 0) dJ2_add_0 rfl ?_
  refine g_dup (pc := 1) dJ2_add_1 rfl ?_
  refine g_getfield (pc := 2) f_J2_63_33 dJ2_add_2 fl rfl ?_
  refine g_iconst (pc := 5) (v := 1) dJ2_add_5 (by decide) ?_
  refine g_iadd (pc := 6) dJ2_add_6 ?_
  refine n_put (pc := 7) w_J2_63_33 dJ2_add_7 fl (Nat.le_of_ble_eq_true rfl) hl0 (j_fit_int _) rfl (fun h q9 o9 => ?_)
  replace fb := (o9 _ (hlb).symm).trans fb
  replace fl := q9
  have fx2 := (o9 _ hxl).trans fx
  have hel2 : elC h f s := fun j hj => by
    obtain ⟨q, ci, C, T0, N0, fs, e1, e2, e3, e4⟩ := hel j hj
    by_cases e : q = l
    · exact ⟨l, 33, _, _, _, _, e ▸ e1, fl, rfl, q2609⟩
    · exact ⟨q, ci, C, T0, N0, fs, e1, (o9 _ e).trans e2, e3, e4⟩
  refine g_aload_n (pc := 10) dJ2_add_10 rfl ?_
  refine g_aload_n (pc := 11) dJ2_add_11 rfl ?_
  refine g_aload_n (pc := 12) dJ2_add_12 rfl ?_
  refine g_getfield (pc := 13) f_J2_9_33 dJ2_add_13 fl rfl ?_
  refine g_aload_n (pc := 16) dJ2_add_16 rfl ?_
  refine g_getfield (pc := 17) f_J2_48_33 dJ2_add_17 fl rfl ?_
  refine g_callV (pc := 20) (M' := mJ2_add_2) (as := [_, _, _]) (ci := 33) rfl i_J2_131_33 eJ2_add_2 dJ2_add_20 fl (k_add2 kd hk0 hk9 hbk hl0 hl9 fl fb hel2 h1 hs hc hcl hcast fx2 hxl (by omega)) (by omega) rfl rfl (Nat.le_of_ble_eq_true rfl) (by omega) (by omega) (fun C9 x9 h9 q9 => ?_) (fun r9 h9 q9 => ?_)
  · cases q9.1
  obtain ⟨e9, mc9, e, cap', f', z1, z2, z3, z4, z5, z6, z7, z8, z9, z10⟩ := q9
  cases e9
  refine g_iconst (pc := 23) (v := 1) dJ2_add_23 (by decide) ?_
  refine g_ireturn (pc := 24) dJ2_add_24 rfl (by first | exact rfl | exact j_nb _) ?_
  refine ⟨rfl, mc9, e, cap', f', z1, z2, z3, z4, z5, z6, z7, ?_, fun y o h1 h2 k => z9 y o h1 h2 ((o9 y h1).trans k), cFr.tr (cFr.at hl9 o9) z10⟩
  rcases z8 with z8 | z8
  · exact Or.inl z8
  · refine Or.inr (fun k => ?_)
    by_cases w : (k, e.2) = l
    · exact absurd (z8 k) (by rw [w, fl]; exact fun e => by cases e)
    · rw [← o9 _ w]; exact z8 k
end
