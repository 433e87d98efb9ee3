/-! THE COMPONENT: what a house can. Printed by m_c3.py -/
set_option maxRecDepth 100000
/-- the house i is R -/
def HZ (g : HD) (W : mV) (i : Nat) (R : Nat → Int32) : Prop := (∀ r, r < 10 → W (200 + i) r = R (16 + r)) ∧ (∀ s, s < 8 → W (300 + i) s = R (8 + s)) ∧ (∀ p, p < 8 → W (400 + i) p = R (36 + p)) ∧ W (100 + i) 3 = bitsI (livB R) (gS g) ∧ W (100 + i) 4 = bitsI (useB R) (gR g) ∧ W (100 + i) 5 = R 44
section
variable {E : jE} {d : Nat} {h : jH} {ac : Nat → Nat} {W : mV} {g : HD} {F : (Nat → Int32) → Int32} {i : Nat} {R : Nat → Int32}
set_option maxHeartbeats 1000000 in
theorem l_kof {bc bs : Nat} (hd : 4 ≤ d) (hI : InvC ac W g F h) (s : Nat) (hs8 : s < 8) : ∀ (m r : Nat), gR g - r = m → r ≤ gR g → G E d bc bs mX2_of 4 [some (vR (nC ac 50)), some (vI (nI s)), some (vI (bitsI (hersB (gD g) s) r)), some (vI (nI r))] [] h (qR (some (vI (bitsI (hersB (gD g) s) (gR g)))) h) := by
  intro m
  induction m with
  | zero =>
    intro r hm hr
    have e : r = gR g := by omega
    subst e
    have b8 := hI.2.2.2.2.1.2.2.2.2.2.2.2.1
    have b10 := hI.2.2.2.2.1.2.2.2.2.2.2.2.2.1
    have bP := hI.2.2.2.2.1.2.2.2.2.2.2.2.2.2.1
    refine g_iload_n (pc := 4) dX2_of_4 rfl ?_
    refine g_aload_n (pc := 5) dX2_of_5 rfl ?_
    refine g_getfield (pc := 6) f_X2_23_2 dX2_of_6 hI.2.2.2.2.1.1.choose_spec rfl ?_
    refine g_cV (pc := 9) (M' := mJ2_size) (as := []) (ci := 33) rfl i_X2_30_33 eJ2_size dX2_of_9 hI.2.2.2.2.1.2.2.2.1.obj (k_size hI.2.2.2.2.1.2.2.2.1) (by omega) rfl rfl (Nat.le_of_ble_eq_true rfl) ?_
    refine g_icmp_ge (pc := 12) 49 dX2_of_12 (by decide) (fun c_12 => ?_) (fun c_12 => absurd (nI_le (Nat.le_refl _) (by omega)) c_12)
    refine g_iload_n (pc := 49) dX2_of_49 rfl ?_
    refine g_ireturn (pc := 50) dX2_of_50 rfl (by first | exact rfl | exact j_nb _) ?_
    exact ⟨rfl, rfl⟩
  | succ m ih =>
    intro r hm hr
    have b8 := hI.2.2.2.2.1.2.2.2.2.2.2.2.1
    have b10 := hI.2.2.2.2.1.2.2.2.2.2.2.2.2.1
    have bP := hI.2.2.2.2.1.2.2.2.2.2.2.2.2.2.1
    have hD := (hI.2.2.2.2.1.2.2.2.2.2.2.2.2.2.2.1 r (by omega)).1
    refine g_iload_n (pc := 4) dX2_of_4 rfl ?_
    refine g_aload_n (pc := 5) dX2_of_5 rfl ?_
    refine g_getfield (pc := 6) f_X2_23_2 dX2_of_6 hI.2.2.2.2.1.1.choose_spec rfl ?_
    refine g_cV (pc := 9) (M' := mJ2_size) (as := []) (ci := 33) rfl i_X2_30_33 eJ2_size dX2_of_9 hI.2.2.2.2.1.2.2.2.1.obj (k_size hI.2.2.2.2.1.2.2.2.1) (by omega) rfl rfl (Nat.le_of_ble_eq_true rfl) ?_
    refine g_icmp_ge (pc := 12) 49 dX2_of_12 (by decide) (fun c_12 => absurd c_12 (by intro w; have := (nI_leI (by omega) (by omega)).mp w; omega)) (fun c_12 => ?_)
    refine g_iload_n (pc := 15) dX2_of_15 rfl ?_
    refine g_aload_n (pc := 16) dX2_of_16 rfl ?_
    refine g_getfield (pc := 17) f_X2_23_2 dX2_of_17 hI.2.2.2.2.1.1.choose_spec rfl ?_
    refine g_iload_n (pc := 20) dX2_of_20 rfl ?_
    refine g_cV (pc := 21) (M' := mJ2_get) (as := [_]) (ci := 33) rfl i_X2_34_33 eJ2_get dX2_of_21 hI.2.2.2.2.1.2.2.2.1.obj (k_get (by omega) hI.2.2.2.2.1.2.2.2.1 (show r < gR g by omega)) (by omega) rfl rfl (Nat.le_of_ble_eq_true rfl) ?_
    refine g_castE (pc := 24) (ci := 15) rfl q811 dX2_of_24 (hI.2.2.2.2.1.2.2.2.2.2.1 r (by omega)) ?_
    refine g_getfield (pc := 27) f_X2_40_15 dX2_of_27 (hI.2.2.2.2.1.2.2.2.2.2.1 r (by omega)) rfl ?_
    refine g_iload_n (pc := 30) dX2_of_30 rfl ?_
    refine g_icmp_ne (pc := 31) 40 dX2_of_31 (by decide) (fun c_31 => ?_) (fun c_31 => ?_)
    · refine g_iconst (pc := 40) (v := 0) dX2_of_40 (by decide) ?_
      refine g_ior (pc := 41) dX2_of_41 ?_
      refine g_istore_n (pc := 42) (ls' := [_, _, _, _]) dX2_of_42 (by decide) rfl rfl ?_
      refine g_iinc (pc := 43) (ls' := [_, _, _, _]) dX2_of_43 rfl (by first | exact nI_1 _ | exact rfl) (by decide) rfl rfl ?_
      refine g_goto (pc := 46) 4 dX2_of_46 (by decide) ?_
      have e : bitsI (hersB (gD g) s) (r + 1) = _ := show bitsI (hersB (gD g) s) r ||| (if (hersB (gD g) s) r = true then bitI r else 0) = _ from by rw [if_neg (fun w => c_31 (by rw [of_decide_eq_true w]))]
      have q := ih (r + 1) (by omega) (by omega)
      rw [e] at q
      exact q
    · refine g_iconst (pc := 34) (v := 1) dX2_of_34 (by decide) ?_
      refine g_iload_n (pc := 35) dX2_of_35 rfl ?_
      refine g_ishl (pc := 36) dX2_of_36 ?_
      refine g_goto (pc := 37) 41 dX2_of_37 (by decide) ?_
      refine g_ior (pc := 41) dX2_of_41 ?_
      refine g_istore_n (pc := 42) (ls' := [_, _, _, _]) dX2_of_42 (by decide) rfl rfl ?_
      refine g_iinc (pc := 43) (ls' := [_, _, _, _]) dX2_of_43 rfl (by first | exact nI_1 _ | exact rfl) (by decide) rfl rfl ?_
      refine g_goto (pc := 46) 4 dX2_of_46 (by decide) ?_
      have e : bitsI (hersB (gD g) s) (r + 1) = _ := show bitsI (hersB (gD g) s) r ||| (if (hersB (gD g) s) r = true then bitI r else 0) = _ from by rw [if_pos (show hersB (gD g) s r = true from decide_eq_true ((nI_eq (by omega) (by omega)).mp c_31))]
      have q := ih (r + 1) (by omega) (by omega)
      rw [e] at q
      exact q
theorem k_of (hd : 4 ≤ d) (hI : InvC ac W g F h) (s : Nat) (hs8 : s < 8) : Ct E d 0 0 mX2_of [vR (nC ac 50), vI (nI s)] h (qR (some (vI (bitsI (hersB (gD g) s) (gR g)))) h) := by
  refine ct_of (by decide) (Nat.le_of_ble_eq_true rfl) rfl ?_
  refine g_iconst (pc := 0) (v := 0) dX2_of_0 (by decide) ?_
  refine g_istore_n (pc := 1) (ls' := [_, _, _, _]) dX2_of_1 (by decide) rfl rfl ?_
  refine g_iconst (pc := 2) (v := 0) dX2_of_2 (by decide) ?_
  refine g_istore_n (pc := 3) (ls' := [_, _, _, _]) dX2_of_3 (by decide) rfl rfl ?_
  exact l_kof hd hI s hs8 (gR g) 0 rfl (Nat.zero_le _)
set_option maxHeartbeats 1000000 in
theorem l_kkept {bc bs : Nat} (hd : 2 ≤ d) (hI : InvC ac W g F h) (hl : liv W i) (hz : HZ g W i R) : ∀ (m r : Nat), gR g - r = m → r ≤ gR g → G E d bc bs mX10_kept 4 [some (vR (nC ac (100 + i))), some (vI (bitsI (kpd R) r)), some (vI (nI r))] [] h (qR (some (vI (bitsI (kpd R) (gR g)))) h) := by
  intro m
  induction m with
  | zero =>
    intro r hm hr
    have e : r = gR g := by omega
    subst e
    have b8 := hI.2.2.2.2.1.2.2.2.2.2.2.2.1
    have b10 := hI.2.2.2.2.1.2.2.2.2.2.2.2.2.1
    have bP := hI.2.2.2.2.1.2.2.2.2.2.2.2.2.2.1
    refine g_iload_n (pc := 4) dX10_kept_4 rfl ?_
    refine g_aload_n (pc := 5) dX10_kept_5 rfl ?_
    refine g_getfield (pc := 6) f_X10_3_10 dX10_kept_6 (hI.2.2.2.1 i hl).1 rfl ?_
    refine g_cV (pc := 9) (M' := mX1_relics) (as := []) (ci := 1) rfl i_X10_50_1 eX1_relics dX10_kept_9 hI.1 (k_relics (by omega) hI) (by omega) rfl rfl (Nat.le_of_ble_eq_true rfl) ?_
    refine g_icmp_ge (pc := 12) 41 dX10_kept_12 (by decide) (fun c_12 => ?_) (fun c_12 => absurd (nI_le (Nat.le_refl _) (by omega)) c_12)
    refine g_iload_n (pc := 41) dX10_kept_41 rfl ?_
    refine g_ireturn (pc := 42) dX10_kept_42 rfl (by first | exact rfl | exact j_nb _) ?_
    exact ⟨rfl, rfl⟩
  | succ m ih =>
    intro r hm hr
    have b8 := hI.2.2.2.2.1.2.2.2.2.2.2.2.1
    have b10 := hI.2.2.2.2.1.2.2.2.2.2.2.2.2.1
    have bP := hI.2.2.2.2.1.2.2.2.2.2.2.2.2.2.1
    refine g_iload_n (pc := 4) dX10_kept_4 rfl ?_
    refine g_aload_n (pc := 5) dX10_kept_5 rfl ?_
    refine g_getfield (pc := 6) f_X10_3_10 dX10_kept_6 (hI.2.2.2.1 i hl).1 rfl ?_
    refine g_cV (pc := 9) (M' := mX1_relics) (as := []) (ci := 1) rfl i_X10_50_1 eX1_relics dX10_kept_9 hI.1 (k_relics (by omega) hI) (by omega) rfl rfl (Nat.le_of_ble_eq_true rfl) ?_
    refine g_icmp_ge (pc := 12) 41 dX10_kept_12 (by decide) (fun c_12 => absurd c_12 (by intro w; have := (nI_leI (by omega) (by omega)).mp w; omega)) (fun c_12 => ?_)
    refine g_iload_n (pc := 15) dX10_kept_15 rfl ?_
    refine g_aload_n (pc := 16) dX10_kept_16 rfl ?_
    refine g_getfield (pc := 17) f_X10_15_10 dX10_kept_17 (hI.2.2.2.1 i hl).1 rfl ?_
    refine g_iload_n (pc := 20) dX10_kept_20 rfl ?_
    refine g_iaload (pc := 21) dX10_kept_21 (hI.2.2.2.1 i hl).2.1 rfl (by omega) (by first | decide | omega) rfl ?_
    rw [hz.1 r (by omega)]
    refine g_iconst (pc := 22) (v := -1) dX10_kept_22 (by decide) ?_
    refine g_icmp_ne (pc := 23) 30 dX10_kept_23 (by decide) (fun c_23 => ?_) (fun c_23 => ?_)
    · refine g_iconst (pc := 30) (v := 1) dX10_kept_30 (by decide) ?_
      refine g_iload_n (pc := 31) dX10_kept_31 rfl ?_
      refine g_ishl (pc := 32) dX10_kept_32 ?_
      refine g_ior (pc := 33) dX10_kept_33 ?_
      refine g_istore_n (pc := 34) (ls' := [_, _, _]) dX10_kept_34 (by decide) rfl rfl ?_
      refine g_iinc (pc := 35) (ls' := [_, _, _]) dX10_kept_35 rfl (by first | exact nI_1 _ | exact rfl) (by decide) rfl rfl ?_
      refine g_goto (pc := 38) 4 dX10_kept_38 (by decide) ?_
      have e : bitsI (kpd R) (r + 1) = _ := show bitsI (kpd R) r ||| (if (kpd R) r = true then bitI r else 0) = _ from by rw [if_pos (by unfold kpd; simp [c_23])]
      have q := ih (r + 1) (by omega) (by omega)
      rw [e] at q
      exact q
    · refine g_iconst (pc := 26) (v := 0) dX10_kept_26 (by decide) ?_
      refine g_goto (pc := 27) 33 dX10_kept_27 (by decide) ?_
      refine g_ior (pc := 33) dX10_kept_33 ?_
      refine g_istore_n (pc := 34) (ls' := [_, _, _]) dX10_kept_34 (by decide) rfl rfl ?_
      refine g_iinc (pc := 35) (ls' := [_, _, _]) dX10_kept_35 rfl (by first | exact nI_1 _ | exact rfl) (by decide) rfl rfl ?_
      refine g_goto (pc := 38) 4 dX10_kept_38 (by decide) ?_
      have e : bitsI (kpd R) (r + 1) = _ := show bitsI (kpd R) r ||| (if (kpd R) r = true then bitI r else 0) = _ from by rw [if_neg (by unfold kpd; simp [c_23])]
      have q := ih (r + 1) (by omega) (by omega)
      rw [e] at q
      exact q
theorem k_kept (hd : 2 ≤ d) (hI : InvC ac W g F h) (hl : liv W i) (hz : HZ g W i R) : Ct E d 0 0 mX10_kept [vR (nC ac (100 + i))] h (qR (some (vI (bitsI (kpd R) (gR g)))) h) := by
  refine ct_of (by decide) (Nat.le_of_ble_eq_true rfl) rfl ?_
  refine g_iconst (pc := 0) (v := 0) dX10_kept_0 (by decide) ?_
  refine g_istore_n (pc := 1) (ls' := [_, _, _]) dX10_kept_1 (by decide) rfl rfl ?_
  refine g_iconst (pc := 2) (v := 0) dX10_kept_2 (by decide) ?_
  refine g_istore_n (pc := 3) (ls' := [_, _, _]) dX10_kept_3 (by decide) rfl rfl ?_
  exact l_kkept hd hI hl hz (gR g) 0 rfl (Nat.zero_le _)
set_option maxHeartbeats 1000000 in
theorem l_kcured {bc bs : Nat} (hd : 2 ≤ d) (hI : InvC ac W g F h) (hl : liv W i) (hz : HZ g W i R) : ∀ (m r : Nat), gP g - r = m → r ≤ gP g → G E d bc bs mX10_cured 4 [some (vR (nC ac (100 + i))), some (vI (bitsI (crd R) r)), some (vI (nI r))] [] h (qR (some (vI (bitsI (crd R) (gP g)))) h) := by
  intro m
  induction m with
  | zero =>
    intro r hm hr
    have e : r = gP g := by omega
    subst e
    have b8 := hI.2.2.2.2.1.2.2.2.2.2.2.2.1
    have b10 := hI.2.2.2.2.1.2.2.2.2.2.2.2.2.1
    have bP := hI.2.2.2.2.1.2.2.2.2.2.2.2.2.2.1
    refine g_iload_n (pc := 4) dX10_cured_4 rfl ?_
    refine g_aload_n (pc := 5) dX10_cured_5 rfl ?_
    refine g_getfield (pc := 6) f_X10_3_10 dX10_cured_6 (hI.2.2.2.1 i hl).1 rfl ?_
    refine g_cV (pc := 9) (M' := mX1_pilgrims) (as := []) (ci := 1) rfl i_X10_54_1 eX1_pilgrims dX10_cured_9 hI.1 (k_pilgrims (by omega) hI) (by omega) rfl rfl (Nat.le_of_ble_eq_true rfl) ?_
    refine g_icmp_ge (pc := 12) 41 dX10_cured_12 (by decide) (fun c_12 => ?_) (fun c_12 => absurd (nI_le (Nat.le_refl _) (by omega)) c_12)
    refine g_iload_n (pc := 41) dX10_cured_41 rfl ?_
    refine g_ireturn (pc := 42) dX10_cured_42 rfl (by first | exact rfl | exact j_nb _) ?_
    exact ⟨rfl, rfl⟩
  | succ m ih =>
    intro r hm hr
    have b8 := hI.2.2.2.2.1.2.2.2.2.2.2.2.1
    have b10 := hI.2.2.2.2.1.2.2.2.2.2.2.2.2.1
    have bP := hI.2.2.2.2.1.2.2.2.2.2.2.2.2.2.1
    refine g_iload_n (pc := 4) dX10_cured_4 rfl ?_
    refine g_aload_n (pc := 5) dX10_cured_5 rfl ?_
    refine g_getfield (pc := 6) f_X10_3_10 dX10_cured_6 (hI.2.2.2.1 i hl).1 rfl ?_
    refine g_cV (pc := 9) (M' := mX1_pilgrims) (as := []) (ci := 1) rfl i_X10_54_1 eX1_pilgrims dX10_cured_9 hI.1 (k_pilgrims (by omega) hI) (by omega) rfl rfl (Nat.le_of_ble_eq_true rfl) ?_
    refine g_icmp_ge (pc := 12) 41 dX10_cured_12 (by decide) (fun c_12 => absurd c_12 (by intro w; have := (nI_leI (by omega) (by omega)).mp w; omega)) (fun c_12 => ?_)
    refine g_iload_n (pc := 15) dX10_cured_15 rfl ?_
    refine g_aload_n (pc := 16) dX10_cured_16 rfl ?_
    refine g_getfield (pc := 17) f_X10_22_10 dX10_cured_17 (hI.2.2.2.1 i hl).1 rfl ?_
    refine g_iload_n (pc := 20) dX10_cured_20 rfl ?_
    refine g_iaload (pc := 21) dX10_cured_21 (hI.2.2.2.1 i hl).2.2.2 rfl (by omega) (by first | decide | omega) rfl ?_
    rw [hz.2.2.1 r (by omega)]
    refine g_iconst (pc := 22) (v := -1) dX10_cured_22 (by decide) ?_
    refine g_icmp_ne (pc := 23) 30 dX10_cured_23 (by decide) (fun c_23 => ?_) (fun c_23 => ?_)
    · refine g_iconst (pc := 30) (v := 1) dX10_cured_30 (by decide) ?_
      refine g_iload_n (pc := 31) dX10_cured_31 rfl ?_
      refine g_ishl (pc := 32) dX10_cured_32 ?_
      refine g_ior (pc := 33) dX10_cured_33 ?_
      refine g_istore_n (pc := 34) (ls' := [_, _, _]) dX10_cured_34 (by decide) rfl rfl ?_
      refine g_iinc (pc := 35) (ls' := [_, _, _]) dX10_cured_35 rfl (by first | exact nI_1 _ | exact rfl) (by decide) rfl rfl ?_
      refine g_goto (pc := 38) 4 dX10_cured_38 (by decide) ?_
      have e : bitsI (crd R) (r + 1) = _ := show bitsI (crd R) r ||| (if (crd R) r = true then bitI r else 0) = _ from by rw [if_pos (by unfold crd; simp [c_23])]
      have q := ih (r + 1) (by omega) (by omega)
      rw [e] at q
      exact q
    · refine g_iconst (pc := 26) (v := 0) dX10_cured_26 (by decide) ?_
      refine g_goto (pc := 27) 33 dX10_cured_27 (by decide) ?_
      refine g_ior (pc := 33) dX10_cured_33 ?_
      refine g_istore_n (pc := 34) (ls' := [_, _, _]) dX10_cured_34 (by decide) rfl rfl ?_
      refine g_iinc (pc := 35) (ls' := [_, _, _]) dX10_cured_35 rfl (by first | exact nI_1 _ | exact rfl) (by decide) rfl rfl ?_
      refine g_goto (pc := 38) 4 dX10_cured_38 (by decide) ?_
      have e : bitsI (crd R) (r + 1) = _ := show bitsI (crd R) r ||| (if (crd R) r = true then bitI r else 0) = _ from by rw [if_neg (by unfold crd; simp [c_23])]
      have q := ih (r + 1) (by omega) (by omega)
      rw [e] at q
      exact q
theorem k_cured (hd : 2 ≤ d) (hI : InvC ac W g F h) (hl : liv W i) (hz : HZ g W i R) : Ct E d 0 0 mX10_cured [vR (nC ac (100 + i))] h (qR (some (vI (bitsI (crd R) (gP g)))) h) := by
  refine ct_of (by decide) (Nat.le_of_ble_eq_true rfl) rfl ?_
  refine g_iconst (pc := 0) (v := 0) dX10_cured_0 (by decide) ?_
  refine g_istore_n (pc := 1) (ls' := [_, _, _]) dX10_cured_1 (by decide) rfl rfl ?_
  refine g_iconst (pc := 2) (v := 0) dX10_cured_2 (by decide) ?_
  refine g_istore_n (pc := 3) (ls' := [_, _, _]) dX10_cured_3 (by decide) rfl rfl ?_
  exact l_kcured hd hI hl hz (gP g) 0 rfl (Nat.zero_le _)
end
theorem bc1_ex : ∃ f : Int32 → Int32, ∀ x : Int32, f x = x - ((x.toUInt32 >>> (Int32.toUInt32 1 &&& Int32.toUInt32 31)).toInt32 &&& 1431655765) := ⟨_, fun _ => rfl⟩
noncomputable def bc1 : Int32 → Int32 := Classical.choose bc1_ex
theorem bc1_e (x : Int32) : bc1 x = x - ((x.toUInt32 >>> (Int32.toUInt32 1 &&& Int32.toUInt32 31)).toInt32 &&& 1431655765) := Classical.choose_spec bc1_ex x
def bd1 (x : Int32) : Int32 := x - ((x.toUInt32 >>> (Int32.toUInt32 1 &&& Int32.toUInt32 31)).toInt32 &&& 1431655765)
theorem bc2_ex : ∃ f : Int32 → Int32, ∀ x : Int32, f x = (x &&& 858993459) + ((x.toUInt32 >>> (Int32.toUInt32 2 &&& Int32.toUInt32 31)).toInt32 &&& 858993459) := ⟨_, fun _ => rfl⟩
noncomputable def bc2 : Int32 → Int32 := Classical.choose bc2_ex
theorem bc2_e (x : Int32) : bc2 x = (x &&& 858993459) + ((x.toUInt32 >>> (Int32.toUInt32 2 &&& Int32.toUInt32 31)).toInt32 &&& 858993459) := Classical.choose_spec bc2_ex x
def bd2 (x : Int32) : Int32 := (x &&& 858993459) + ((x.toUInt32 >>> (Int32.toUInt32 2 &&& Int32.toUInt32 31)).toInt32 &&& 858993459)
theorem bc3_ex : ∃ f : Int32 → Int32, ∀ x : Int32, f x = (x + (x.toUInt32 >>> (Int32.toUInt32 4 &&& Int32.toUInt32 31)).toInt32) &&& 252645135 := ⟨_, fun _ => rfl⟩
noncomputable def bc3 : Int32 → Int32 := Classical.choose bc3_ex
theorem bc3_e (x : Int32) : bc3 x = (x + (x.toUInt32 >>> (Int32.toUInt32 4 &&& Int32.toUInt32 31)).toInt32) &&& 252645135 := Classical.choose_spec bc3_ex x
def bd3 (x : Int32) : Int32 := (x + (x.toUInt32 >>> (Int32.toUInt32 4 &&& Int32.toUInt32 31)).toInt32) &&& 252645135
theorem bc4_ex : ∃ f : Int32 → Int32, ∀ x : Int32, f x = x + (x.toUInt32 >>> (Int32.toUInt32 8 &&& Int32.toUInt32 31)).toInt32 := ⟨_, fun _ => rfl⟩
noncomputable def bc4 : Int32 → Int32 := Classical.choose bc4_ex
theorem bc4_e (x : Int32) : bc4 x = x + (x.toUInt32 >>> (Int32.toUInt32 8 &&& Int32.toUInt32 31)).toInt32 := Classical.choose_spec bc4_ex x
def bd4 (x : Int32) : Int32 := x + (x.toUInt32 >>> (Int32.toUInt32 8 &&& Int32.toUInt32 31)).toInt32
theorem bc5_ex : ∃ f : Int32 → Int32, ∀ x : Int32, f x = x + (x.toUInt32 >>> (Int32.toUInt32 16 &&& Int32.toUInt32 31)).toInt32 := ⟨_, fun _ => rfl⟩
noncomputable def bc5 : Int32 → Int32 := Classical.choose bc5_ex
theorem bc5_e (x : Int32) : bc5 x = x + (x.toUInt32 >>> (Int32.toUInt32 16 &&& Int32.toUInt32 31)).toInt32 := Classical.choose_spec bc5_ex x
def bd5 (x : Int32) : Int32 := x + (x.toUInt32 >>> (Int32.toUInt32 16 &&& Int32.toUInt32 31)).toInt32
theorem bd_all : ∀ k : Fin 1024, (bd5 (bd4 (bd3 (bd2 (bd1 (nI k.1)))))) &&& 63 = onesF (nI k.1) 10 := by decide +kernel
theorem bc_10 {k : Nat} (h : k < 1024) : bc5 (bc4 (bc3 (bc2 (bc1 (nI k))))) &&& 63 = onesF (nI k) 10 := by
  rw [bc5_e, bc4_e, bc3_e, bc2_e, bc1_e]
  exact bd_all ⟨k, h⟩

section
variable {E : jE} {d : Nat} {h : jH} {ac : Nat → Nat} {W : mV} {g : HD} {F : (Nat → Int32) → Int32} {i : Nat} {R : Nat → Int32}
theorem k_bitCount (k : Nat) (hk : k < 1024) : Ct E d 0 0 mJ16_bitCount [vI (nI k)] h (qR (some (vI (onesF (nI k) 10))) h) := by
  refine ct_of (by decide) (Nat.le_of_ble_eq_true rfl) rfl ?_
  refine g_iload_n (pc := 0) dJ16_bitCount_0 rfl ?_
  refine g_iload_n (pc := 1) dJ16_bitCount_1 rfl ?_
  refine g_iconst (pc := 2) (v := 1) dJ16_bitCount_2 (by decide) ?_
  refine g_iushr (pc := 3) dJ16_bitCount_3 ?_
  refine g_ldcw (pc := 4) (v := 1431655765) dJ16_bitCount_4 q849 ?_
  refine g_iand (pc := 7) dJ16_bitCount_7 ?_
  refine g_isub (pc := 8) dJ16_bitCount_8 ?_
  rw [← bc1_e]
  refine g_istore_n (pc := 9) (ls' := [_]) dJ16_bitCount_9 (by decide) rfl rfl ?_
  refine g_iload_n (pc := 10) dJ16_bitCount_10 rfl ?_
  refine g_ldcw (pc := 11) (v := 858993459) dJ16_bitCount_11 q850 ?_
  refine g_iand (pc := 14) dJ16_bitCount_14 ?_
  refine g_iload_n (pc := 15) dJ16_bitCount_15 rfl ?_
  refine g_iconst (pc := 16) (v := 2) dJ16_bitCount_16 (by decide) ?_
  refine g_iushr (pc := 17) dJ16_bitCount_17 ?_
  refine g_ldcw (pc := 18) (v := 858993459) dJ16_bitCount_18 q850 ?_
  refine g_iand (pc := 21) dJ16_bitCount_21 ?_
  refine g_iadd (pc := 22) dJ16_bitCount_22 ?_
  rw [← bc2_e]
  refine g_istore_n (pc := 23) (ls' := [_]) dJ16_bitCount_23 (by decide) rfl rfl ?_
  refine g_iload_n (pc := 24) dJ16_bitCount_24 rfl ?_
  refine g_iload_n (pc := 25) dJ16_bitCount_25 rfl ?_
  refine g_iconst (pc := 26) (v := 4) dJ16_bitCount_26 (by decide) ?_
  refine g_iushr (pc := 27) dJ16_bitCount_27 ?_
  refine g_iadd (pc := 28) dJ16_bitCount_28 ?_
  refine g_ldcw (pc := 29) (v := 252645135) dJ16_bitCount_29 q851 ?_
  refine g_iand (pc := 32) dJ16_bitCount_32 ?_
  rw [← bc3_e]
  refine g_istore_n (pc := 33) (ls' := [_]) dJ16_bitCount_33 (by decide) rfl rfl ?_
  refine g_iload_n (pc := 34) dJ16_bitCount_34 rfl ?_
  refine g_iload_n (pc := 35) dJ16_bitCount_35 rfl ?_
  refine g_bipush (pc := 36) (v := 8) dJ16_bitCount_36 (by decide) ?_
  refine g_iushr (pc := 38) dJ16_bitCount_38 ?_
  refine g_iadd (pc := 39) dJ16_bitCount_39 ?_
  rw [← bc4_e]
  refine g_istore_n (pc := 40) (ls' := [_]) dJ16_bitCount_40 (by decide) rfl rfl ?_
  refine g_iload_n (pc := 41) dJ16_bitCount_41 rfl ?_
  refine g_iload_n (pc := 42) dJ16_bitCount_42 rfl ?_
  refine g_bipush (pc := 43) (v := 16) dJ16_bitCount_43 (by decide) ?_
  refine g_iushr (pc := 45) dJ16_bitCount_45 ?_
  refine g_iadd (pc := 46) dJ16_bitCount_46 ?_
  rw [← bc5_e]
  refine g_istore_n (pc := 47) (ls' := [_]) dJ16_bitCount_47 (by decide) rfl rfl ?_
  refine g_iload_n (pc := 48) dJ16_bitCount_48 rfl ?_
  refine g_bipush (pc := 49) (v := 63) dJ16_bitCount_49 (by decide) ?_
  refine g_iand (pc := 51) dJ16_bitCount_51 ?_
  refine g_ireturn (pc := 52) dJ16_bitCount_52 rfl (by first | exact rfl | exact j_nb _) ?_
  exact ⟨by rw [bc_10 hk], rfl⟩
end
