/-! THE COMPONENT: when best to give it back, how likely. Printed by m_c14.py -/
set_option maxRecDepth 100000
section
variable {E : jE} {d : Nat} {h : jH} {ac : Nat → Nat} {W V : mV} {g : HD}
set_option maxHeartbeats 2000000 in
theorem l_kleast {bc bs : Nat} (u w : Nat) (hu : u < 2 ^ 62) (hw : w < 2 ^ 62) (hw0 : 0 < w) (q : Int32) : ∀ (m x y : Nat) (u9 : Option jV), y < m → x < 2 ^ 62 → y < 2 ^ 62 → Nat.gcd x y = Nat.gcd w u → G E d bc bs mX1_least 6 [some (vL (lN u)), none, some (vL (lN w)), none, some (vI q), some (vL (lN x)), none, some (vL (lN y)), none, u9, none] [] h (qR (some (vL (frcI u w q))) h) := by
  intro m
  induction m with
  | zero => intro x y u9 hm; omega
  | succ m ih =>
    intro x y u9 hm hx hy hg
    by_cases hy0 : y = 0
    · subst hy0
      rw [Nat.gcd_zero_right] at hg
      have hx0 : 0 < x := by rw [hg]; exact Nat.gcd_pos_of_pos_left _ hw0
      subst hg
      refine g_lload (pc := 6) dX1_least_6 rfl ?_
      refine g_lconst (pc := 8) (v := 0) dX1_least_8 (by decide) ?_
      refine g_lcmp (pc := 9) dX1_least_9 ?_
      refine g_if_eq (pc := 10) 31 dX1_least_10 (by decide) (fun c_10 => ?_) (fun c_10 => absurd ((lg_cmp_eq _ _).mpr rfl) c_10)
      refine g_iload (pc := 31) dX1_least_31 rfl ?_
      refine g_if_ne (pc := 33) 40 dX1_least_33 (by decide) (fun c_33 => ?_) (fun c_33 => ?_)
      · refine g_lload_n (pc := 40) dX1_least_40 rfl ?_
        refine g_lload (pc := 41) dX1_least_41 rfl ?_
        refine g_ldiv (pc := 43) dX1_least_43 (fun e => by have := (pk_lEQ (b := 0) (by omega) (by decide)).mp e; omega) ?_
        refine g_lreturn (pc := 44) dX1_least_44 rfl ?_
        exact ⟨by unfold frcI; rw [if_neg c_33, pk_lDiv (by omega) hx0 (by omega)], rfl⟩
      · refine g_lload_n (pc := 36) dX1_least_36 rfl ?_
        refine g_goto (pc := 37) 41 dX1_least_37 (by decide) ?_
        refine g_lload (pc := 41) dX1_least_41 rfl ?_
        refine g_ldiv (pc := 43) dX1_least_43 (fun e => by have := (pk_lEQ (b := 0) (by omega) (by decide)).mp e; omega) ?_
        refine g_lreturn (pc := 44) dX1_least_44 rfl ?_
        exact ⟨by unfold frcI; rw [if_pos c_33, pk_lDiv (by omega) hx0 (by omega)], rfl⟩
    · have hlt := Nat.mod_lt x (show y > 0 by omega)
      refine g_lload (pc := 6) dX1_least_6 rfl ?_
      refine g_lconst (pc := 8) (v := 0) dX1_least_8 (by decide) ?_
      refine g_lcmp (pc := 9) dX1_least_9 ?_
      refine g_if_eq (pc := 10) 31 dX1_least_10 (by decide) (fun c_10 => absurd ((pk_lEQ (b := 0) (by omega) (by decide)).mp ((lg_cmp_eq _ _).mp c_10)) hy0) (fun c_10 => ?_)
      refine g_lload (pc := 13) dX1_least_13 rfl ?_
      refine g_lload (pc := 15) dX1_least_15 rfl ?_
      refine g_lrem (pc := 17) dX1_least_17 (fun e => hy0 ((pk_lEQ (b := 0) (by omega) (by decide)).mp e)) ?_
      rw [pk_lRem (by omega) (by omega) (by omega)]
      refine g_lstore (pc := 18) (ls' := [_, _, _, _, _, _, _, _, _, _, _]) dX1_least_18 (by decide) rfl rfl ?_
      refine g_lload (pc := 20) dX1_least_20 rfl ?_
      refine g_lstore (pc := 22) (ls' := [_, _, _, _, _, _, _, _, _, _, _]) dX1_least_22 (by decide) rfl rfl ?_
      refine g_lload (pc := 24) dX1_least_24 rfl ?_
      refine g_lstore (pc := 26) (ls' := [_, _, _, _, _, _, _, _, _, _, _]) dX1_least_26 (by decide) rfl rfl ?_
      refine g_goto (pc := 28) 6 dX1_least_28 (by decide) ?_
      exact ih y (x % y) _ (by omega) (by omega) (by omega) (by rw [← hg, Nat.gcd_comm x y, Nat.gcd_rec y x, Nat.gcd_comm])
theorem k_least (u w : Nat) (hu : u < 2 ^ 62) (hw : w < 2 ^ 62) (hw0 : 0 < w) (q : Int32) : Ct E d 0 0 mX1_least [vL (lN u), vL (lN w), vI q] h (qR (some (vL (frcI u w q))) h) := by
  refine ct_of (by decide) (Nat.le_of_ble_eq_true rfl) rfl ?_
  refine g_lload_n (pc := 0) dX1_least_0 rfl ?_
  refine g_lstore (pc := 1) (ls' := [_, _, _, _, _, _, _, _, _, _, _]) dX1_least_1 (by decide) rfl rfl ?_
  refine g_lload_n (pc := 3) dX1_least_3 rfl ?_
  refine g_lstore (pc := 4) (ls' := [_, _, _, _, _, _, _, _, _, _, _]) dX1_least_4 (by decide) rfl rfl ?_
  exact l_kleast u w hu hw hw0 q (w + 1) u w _ (by omega) hu hw (Nat.gcd_comm u w)
set_option maxHeartbeats 2000000 in
theorem l_kpower {bc bs n : Nat} (hn : n ≤ 12) : ∀ (m r : Nat), n - r = m → r ≤ n → G E d bc bs mX1_power 4 [some (vI (nI n)), some (vL (lN (16 ^ r))), none, some (vI (nI r))] [] h (qR (some (vL (lN (16 ^ n)))) h) := by
  intro m
  induction m with
  | zero =>
    intro r hm hr
    have e : r = n := by omega
    subst e
    refine g_iload_n (pc := 4) dX1_power_4 rfl ?_
    refine g_iload_n (pc := 5) dX1_power_5 rfl ?_
    refine g_icmp_ge (pc := 6) 21 dX1_power_6 (by decide) (fun c_6 => ?_) (fun c_6 => absurd (nI_le (Nat.le_refl _) (by omega)) c_6)
    refine g_lload_n (pc := 21) dX1_power_21 rfl ?_
    refine g_lreturn (pc := 22) dX1_power_22 rfl ?_
    exact ⟨rfl, rfl⟩
  | succ m ih =>
    intro r hm hr
    refine g_iload_n (pc := 4) dX1_power_4 rfl ?_
    refine g_iload_n (pc := 5) dX1_power_5 rfl ?_
    refine g_icmp_ge (pc := 6) 21 dX1_power_6 (by decide) (fun c_6 => absurd c_6 (by intro w; have := (nI_leI (by omega) (by omega)).mp w; omega)) (fun c_6 => ?_)
    refine g_lload_n (pc := 9) dX1_power_9 rfl ?_
    refine g_ldc2 (pc := 10) (v := 16) dX1_power_10 q1861 ?_
    refine g_lmul (pc := 13) dX1_power_13 ?_
    rw [show lN (16 ^ r) * 16 = lN (16 ^ (r + 1)) from (lN_mul _ 16).trans (by rw [Nat.pow_succ])]
    refine g_lstore_n (pc := 14) (ls' := [_, _, _, _]) dX1_power_14 (by decide) rfl rfl ?_
    refine g_iinc (pc := 15) (ls' := [_, _, _, _]) dX1_power_15 rfl (by first | exact nI_1 _ | exact rfl) (by decide) rfl rfl ?_
    refine g_goto (pc := 18) 4 dX1_power_18 (by decide) ?_
    exact ih (r + 1) (by omega) (by omega)
theorem k_power {n : Nat} (hn : n ≤ 12) : Ct E d 0 0 mX1_power [vI (nI n)] h (qR (some (vL (lN (16 ^ n)))) h) := by
  refine ct_of (by decide) (Nat.le_of_ble_eq_true rfl) rfl ?_
  refine g_lconst (pc := 0) (v := 1) dX1_power_0 (by decide) ?_
  refine g_lstore_n (pc := 1) (ls' := [_, _, _, _]) dX1_power_1 (by decide) rfl rfl ?_
  refine g_iconst (pc := 2) (v := 0) dX1_power_2 (by decide) ?_
  refine g_istore_n (pc := 3) (ls' := [_, _, _, _]) dX1_power_3 (by decide) rfl rfl ?_
  exact l_kpower hn n 0 rfl (Nat.zero_le _)
theorem k_maxL (a b : Nat) (ha : a < 2 ^ 63) (hb : b < 2 ^ 63) : Ct E d 0 0 mJ12_max_2 [vL (lN a), vL (lN b)] h (qR (some (vL (lN (max a b)))) h) := by
  refine ct_ofF (by decide +kernel) (Nat.le_of_ble_eq_true rfl) rfl ?_
  refine g_lload_n (pc := 0) dJ12_max_2_0 rfl ?_
  refine g_lload_n (pc := 1) dJ12_max_2_1 rfl ?_
  refine g_lcmp (pc := 2) dJ12_max_2_2 ?_
  refine g_if_lt (pc := 3) 10 dJ12_max_2_3 (by decide) (fun c_3 => ?_) (fun c_3 => ?_)
  · refine g_lload_n (pc := 10) dJ12_max_2_10 rfl ?_
    refine g_lreturn (pc := 11) dJ12_max_2_11 rfl ?_
    have q := (pk_lLT ha hb).mp ((lg_cmp_lt _ _).mp c_3)
    exact ⟨by rw [Nat.max_eq_right (by omega)], rfl⟩
  · refine g_lload_n (pc := 6) dJ12_max_2_6 rfl ?_
    refine g_goto (pc := 7) 11 dJ12_max_2_7 (by decide) ?_
    refine g_lreturn (pc := 11) dJ12_max_2_11 rfl ?_
    have q : ¬ a < b := fun z => c_3 ((lg_cmp_lt _ _).mpr ((pk_lLT ha hb).mpr z))
    exact ⟨by rw [Nat.max_eq_left (by omega)], rfl⟩
set_option maxHeartbeats 4000000 in
theorem k_bestOn {r : Nat} (hr : r < gR g) (hz : HZ g W 0 (V 31)) (hk : kpd (V 31) r = true) : ∀ (n d : Nat) (h : jH) (x y z : Int32), n ≤ 6 → 615 + n ≤ d → InvC ac W g (mlaw V) h → Ct E d 0 0 mX1_bestOn [vR (nC ac 1), vI (nI r), vI x, vI y, vI z, vI (nI n)] h (cQ ac W g (mlaw V) h (some (vL (lN (gbN (mlaw V) (gD g) (gR g) (V 31) r n x y z))))) := by
  intro n
  induction n with
  | zero =>
    intro d h x y z hn hd hI
    refine ct_of (by decide) (Nat.le_of_ble_eq_true rfl) rfl ?_
    have hF : cFr h h := cFr.rf
    have b8 := hI.2.2.2.2.1.2.2.2.2.2.2.2.1
    have b10 := hI.2.2.2.2.1.2.2.2.2.2.2.2.2.1
    have bP := hI.2.2.2.2.1.2.2.2.2.2.2.2.2.2.1
    have hD := hI.2.2.2.2.1.2.2.2.2.2.2.2.2.2.2.1 r hr
    have ht16 := hI.2.2.2.2.1.2.2.2.2.2.2.2.2.2.2.2.2.1 (gD g 0 r) hD.1
    have hts := hI.2.2.2.2.1.2.1.choose_spec.2 (gD g 0 r) hD.1
    have hpw := pwNat_s (mlaw V) (gD g) (gR g) (V 31) r x y z
    refine g_aload_n (pc := 0) dX1_bestOn_0 rfl ?_
    refine g_iload_n (pc := 1) dX1_bestOn_1 rfl ?_
    refine g_cV (pc := 2) (M' := mX1_relicOf) (as := [_]) (ci := 1) rfl i_X1_298_1 eX1_relicOf dX1_bestOn_2 hI.1 (k_relicOf (by omega) hI r hr) (by omega) rfl rfl (Nat.le_of_ble_eq_true rfl) ?_
    refine g_astore (pc := 5) (ls' := [_, _, _, _, _, _, _, _, _, _, _, _]) dX1_bestOn_5 (by decide) rfl rfl ?_
    refine g_aload_n (pc := 7) dX1_bestOn_7 rfl ?_
    refine g_getfield (pc := 8) f_X1_31_1 dX1_bestOn_8 hI.1 rfl ?_
    refine g_getfield (pc := 11) f_X1_276_2 dX1_bestOn_11 hI.2.2.2.2.1.1.choose_spec rfl ?_
    refine g_aload (pc := 14) dX1_bestOn_14 rfl ?_
    refine g_getfield (pc := 16) f_X1_302_15 dX1_bestOn_16 (hI.2.2.2.2.1.2.2.2.2.2.1 r hr) rfl ?_
    refine g_iaload (pc := 19) dX1_bestOn_19 hI.2.2.2.2.1.2.1.choose_spec.1 (j := gD g 0 r) rfl (by omega) (by first | decide | omega) rfl ?_
    rw [hts]
    refine g_istore (pc := 20) (ls' := [_, _, _, _, _, _, _, _, _, _, _, _]) dX1_bestOn_20 (by decide) rfl rfl ?_
    refine g_iload (pc := 22) dX1_bestOn_22 rfl ?_
    refine g_cS (pc := 24) (M' := mX1_power) (as := [_]) i_X1_376 eX1_power dX1_bestOn_24 (k_power (n := 0) (by decide)) (by omega) rfl rfl (Nat.le_of_ble_eq_true rfl) ?_
    refine g_aload_n (pc := 27) dX1_bestOn_27 rfl ?_
    refine g_aload (pc := 28) dX1_bestOn_28 rfl ?_
    refine g_getfield (pc := 30) f_X1_308_15 dX1_bestOn_30 (hI.2.2.2.2.1.2.2.2.2.2.1 r hr) rfl ?_
    refine g_iload_n (pc := 33) dX1_bestOn_33 rfl ?_
    refine g_iload_n (pc := 34) dX1_bestOn_34 rfl ?_
    refine g_iload (pc := 35) dX1_bestOn_35 rfl ?_
    refine g_aload (pc := 37) dX1_bestOn_37 rfl ?_
    refine g_getfield (pc := 39) f_X1_305_15 dX1_bestOn_39 (hI.2.2.2.2.1.2.2.2.2.2.1 r hr) rfl ?_
    refine g_aload_n (pc := 42) dX1_bestOn_42 rfl ?_
    refine g_getfield (pc := 43) f_X1_58_1 dX1_bestOn_43 hI.1 rfl ?_
    refine g_iload_n (pc := 46) dX1_bestOn_46 rfl ?_
    refine g_cV (pc := 47) (M' := mX10_othersOf) (as := [_]) (ci := 10) rfl i_X1_359_10 eX10_othersOf dX1_bestOn_47 (hI.2.2.2.1 0 liv0).1 (k_others (by omega) hI liv0 hz r hr hk) (by omega) rfl rfl (Nat.le_of_ble_eq_true rfl) ?_
    refine g_aload (pc := 50) dX1_bestOn_50 rfl ?_
    refine g_getfield (pc := 52) f_X1_302_15 dX1_bestOn_52 (hI.2.2.2.2.1.2.2.2.2.2.1 r hr) rfl ?_
    refine g_iload (pc := 55) dX1_bestOn_55 rfl ?_
    refine c_cV (pc := 57) (M' := mX1_powerBy) (as := [_, _, _, _, _, _, _, _]) (ci := 1) rfl i_X1_334_1 eX1_powerBy dX1_bestOn_57 hI.1 (k_powerBy (by omega) hI _ _ _ _ _ _ _ _) (by omega) rfl rfl (Nat.le_of_ble_eq_true rfl) (fun h hI fr => ?_)
    replace hF := cFr.tr hF fr
    rw [show clampI (mlaw V (fc8 (nI (gD g 2 r)) x y (nI (gD g 5 (gD g 0 r))) (nI (gD g 1 r)) (othI (gD g) (gR g) (V 31) (gD g 0 r)) (nI (gD g 0 r)) z)) = nI (pwNat (mlaw V) (gD g) (gR g) (V 31) r x y z) from hpw.1]
    refine g_i2l (pc := 60) dX1_bestOn_60 ?_
    rw [nI_l (by omega)]
    refine g_lmul (pc := 61) dX1_bestOn_61 ?_
    rw [lN_mul]
    refine g_lstore (pc := 62) (ls' := [_, _, _, _, _, _, _, _, _, _, _, _]) dX1_bestOn_62 (by decide) rfl rfl ?_
    refine g_iload (pc := 64) dX1_bestOn_64 rfl ?_
    refine g_if_ne (pc := 66) 72 dX1_bestOn_66 (by decide) (fun c_66 => absurd rfl c_66) (fun c_66 => ?_)
    refine g_lload (pc := 69) dX1_bestOn_69 rfl ?_
    refine g_lreturn (pc := 71) dX1_bestOn_71 rfl ?_
    exact ⟨by rw [Nat.pow_zero, Nat.one_mul]; rfl, hI, hF⟩
  | succ n ih =>
    intro d h x y z hn hd hI
    refine ct_of (by decide) (Nat.le_of_ble_eq_true rfl) rfl ?_
    have hF : cFr h h := cFr.rf
    have b8 := hI.2.2.2.2.1.2.2.2.2.2.2.2.1
    have b10 := hI.2.2.2.2.1.2.2.2.2.2.2.2.2.1
    have bP := hI.2.2.2.2.1.2.2.2.2.2.2.2.2.2.1
    have hD := hI.2.2.2.2.1.2.2.2.2.2.2.2.2.2.2.1 r hr
    have ht16 := hI.2.2.2.2.1.2.2.2.2.2.2.2.2.2.2.2.2.1 (gD g 0 r) hD.1
    have hts := hI.2.2.2.2.1.2.1.choose_spec.2 (gD g 0 r) hD.1
    have hpw := pwNat_s (mlaw V) (gD g) (gR g) (V 31) r x y z
    have g1 := gbN_le (mlaw V) (gD g) (gR g) (V 31) r (by omega) n (x / 2 + 1) (y + 1) (z + 1)
    have g2 := gbN_le (mlaw V) (gD g) (gR g) (V 31) r (by omega) n (x + 1) y (z + 1)
    have g3 := gbN_le (mlaw V) (gD g) (gR g) (V 31) r (by omega) (n + 1) x y z
    have p5 := p16_6 (n + 1) hn
    refine g_aload_n (pc := 0) dX1_bestOn_0 rfl ?_
    refine g_iload_n (pc := 1) dX1_bestOn_1 rfl ?_
    refine g_cV (pc := 2) (M' := mX1_relicOf) (as := [_]) (ci := 1) rfl i_X1_298_1 eX1_relicOf dX1_bestOn_2 hI.1 (k_relicOf (by omega) hI r hr) (by omega) rfl rfl (Nat.le_of_ble_eq_true rfl) ?_
    refine g_astore (pc := 5) (ls' := [_, _, _, _, _, _, _, _, _, _, _, _]) dX1_bestOn_5 (by decide) rfl rfl ?_
    refine g_aload_n (pc := 7) dX1_bestOn_7 rfl ?_
    refine g_getfield (pc := 8) f_X1_31_1 dX1_bestOn_8 hI.1 rfl ?_
    refine g_getfield (pc := 11) f_X1_276_2 dX1_bestOn_11 hI.2.2.2.2.1.1.choose_spec rfl ?_
    refine g_aload (pc := 14) dX1_bestOn_14 rfl ?_
    refine g_getfield (pc := 16) f_X1_302_15 dX1_bestOn_16 (hI.2.2.2.2.1.2.2.2.2.2.1 r hr) rfl ?_
    refine g_iaload (pc := 19) dX1_bestOn_19 hI.2.2.2.2.1.2.1.choose_spec.1 (j := gD g 0 r) rfl (by omega) (by first | decide | omega) rfl ?_
    rw [hts]
    refine g_istore (pc := 20) (ls' := [_, _, _, _, _, _, _, _, _, _, _, _]) dX1_bestOn_20 (by decide) rfl rfl ?_
    refine g_iload (pc := 22) dX1_bestOn_22 rfl ?_
    refine g_cS (pc := 24) (M' := mX1_power) (as := [_]) i_X1_376 eX1_power dX1_bestOn_24 (k_power (n := n + 1) (by omega)) (by omega) rfl rfl (Nat.le_of_ble_eq_true rfl) ?_
    refine g_aload_n (pc := 27) dX1_bestOn_27 rfl ?_
    refine g_aload (pc := 28) dX1_bestOn_28 rfl ?_
    refine g_getfield (pc := 30) f_X1_308_15 dX1_bestOn_30 (hI.2.2.2.2.1.2.2.2.2.2.1 r hr) rfl ?_
    refine g_iload_n (pc := 33) dX1_bestOn_33 rfl ?_
    refine g_iload_n (pc := 34) dX1_bestOn_34 rfl ?_
    refine g_iload (pc := 35) dX1_bestOn_35 rfl ?_
    refine g_aload (pc := 37) dX1_bestOn_37 rfl ?_
    refine g_getfield (pc := 39) f_X1_305_15 dX1_bestOn_39 (hI.2.2.2.2.1.2.2.2.2.2.1 r hr) rfl ?_
    refine g_aload_n (pc := 42) dX1_bestOn_42 rfl ?_
    refine g_getfield (pc := 43) f_X1_58_1 dX1_bestOn_43 hI.1 rfl ?_
    refine g_iload_n (pc := 46) dX1_bestOn_46 rfl ?_
    refine g_cV (pc := 47) (M' := mX10_othersOf) (as := [_]) (ci := 10) rfl i_X1_359_10 eX10_othersOf dX1_bestOn_47 (hI.2.2.2.1 0 liv0).1 (k_others (by omega) hI liv0 hz r hr hk) (by omega) rfl rfl (Nat.le_of_ble_eq_true rfl) ?_
    refine g_aload (pc := 50) dX1_bestOn_50 rfl ?_
    refine g_getfield (pc := 52) f_X1_302_15 dX1_bestOn_52 (hI.2.2.2.2.1.2.2.2.2.2.1 r hr) rfl ?_
    refine g_iload (pc := 55) dX1_bestOn_55 rfl ?_
    refine c_cV (pc := 57) (M' := mX1_powerBy) (as := [_, _, _, _, _, _, _, _]) (ci := 1) rfl i_X1_334_1 eX1_powerBy dX1_bestOn_57 hI.1 (k_powerBy (by omega) hI _ _ _ _ _ _ _ _) (by omega) rfl rfl (Nat.le_of_ble_eq_true rfl) (fun h hI fr => ?_)
    replace hF := cFr.tr hF fr
    rw [show clampI (mlaw V (fc8 (nI (gD g 2 r)) x y (nI (gD g 5 (gD g 0 r))) (nI (gD g 1 r)) (othI (gD g) (gR g) (V 31) (gD g 0 r)) (nI (gD g 0 r)) z)) = nI (pwNat (mlaw V) (gD g) (gR g) (V 31) r x y z) from hpw.1]
    refine g_i2l (pc := 60) dX1_bestOn_60 ?_
    rw [nI_l (by omega)]
    refine g_lmul (pc := 61) dX1_bestOn_61 ?_
    rw [lN_mul]
    refine g_lstore (pc := 62) (ls' := [_, _, _, _, _, _, _, _, _, _, _, _]) dX1_bestOn_62 (by decide) rfl rfl ?_
    refine g_iload (pc := 64) dX1_bestOn_64 rfl ?_
    refine g_if_ne (pc := 66) 72 dX1_bestOn_66 (by decide) (fun c_66 => ?_) (fun c_66 => absurd c_66 (nI_ne0 (by omega) (by omega)))
    refine g_iload (pc := 72) dX1_bestOn_72 rfl ?_
    refine g_i2l (pc := 74) dX1_bestOn_74 ?_
    rw [nI_l (by omega)]
    refine g_aload_n (pc := 75) dX1_bestOn_75 rfl ?_
    refine g_iload_n (pc := 76) dX1_bestOn_76 rfl ?_
    refine g_iload_n (pc := 77) dX1_bestOn_77 rfl ?_
    refine g_iconst (pc := 78) (v := 2) dX1_bestOn_78 (by decide) ?_
    refine g_idiv (pc := 79) dX1_bestOn_79 (by decide) ?_
    refine g_iconst (pc := 80) (v := 1) dX1_bestOn_80 (by decide) ?_
    refine g_iadd (pc := 81) dX1_bestOn_81 ?_
    refine g_iload_n (pc := 82) dX1_bestOn_82 rfl ?_
    refine g_iconst (pc := 83) (v := 1) dX1_bestOn_83 (by decide) ?_
    refine g_iadd (pc := 84) dX1_bestOn_84 ?_
    refine g_iload (pc := 85) dX1_bestOn_85 rfl ?_
    refine g_iconst (pc := 87) (v := 1) dX1_bestOn_87 (by decide) ?_
    refine g_iadd (pc := 88) dX1_bestOn_88 ?_
    refine g_iload (pc := 89) dX1_bestOn_89 rfl ?_
    refine g_iconst (pc := 91) (v := 1) dX1_bestOn_91 (by decide) ?_
    refine g_isub (pc := 92) dX1_bestOn_92 ?_
    rw [nI_pred]
    refine c_cV (pc := 93) (M' := mX1_bestOn) (as := [_, _, _, _, _]) (ci := 1) rfl i_X1_380_1 eX1_bestOn dX1_bestOn_93 hI.1 (ih (d - 1) _ _ _ _ (by omega) (by omega) hI) (by omega) rfl rfl (Nat.le_of_ble_eq_true rfl) (fun h hI fr => ?_)
    replace hF := cFr.tr hF fr
    refine g_lmul (pc := 96) dX1_bestOn_96 ?_
    rw [lN_mul]
    refine g_bipush (pc := 97) (v := 16) dX1_bestOn_97 (by decide) ?_
    refine g_iload (pc := 99) dX1_bestOn_99 rfl ?_
    refine g_isub (pc := 101) dX1_bestOn_101 ?_
    rw [sub16 (by omega)]
    refine g_i2l (pc := 102) dX1_bestOn_102 ?_
    rw [nI_l (by omega)]
    refine g_aload_n (pc := 103) dX1_bestOn_103 rfl ?_
    refine g_iload_n (pc := 104) dX1_bestOn_104 rfl ?_
    refine g_iload_n (pc := 105) dX1_bestOn_105 rfl ?_
    refine g_iconst (pc := 106) (v := 1) dX1_bestOn_106 (by decide) ?_
    refine g_iadd (pc := 107) dX1_bestOn_107 ?_
    refine g_iload_n (pc := 108) dX1_bestOn_108 rfl ?_
    refine g_iload (pc := 109) dX1_bestOn_109 rfl ?_
    refine g_iconst (pc := 111) (v := 1) dX1_bestOn_111 (by decide) ?_
    refine g_iadd (pc := 112) dX1_bestOn_112 ?_
    refine g_iload (pc := 113) dX1_bestOn_113 rfl ?_
    refine g_iconst (pc := 115) (v := 1) dX1_bestOn_115 (by decide) ?_
    refine g_isub (pc := 116) dX1_bestOn_116 ?_
    rw [nI_pred]
    refine c_cV (pc := 117) (M' := mX1_bestOn) (as := [_, _, _, _, _]) (ci := 1) rfl i_X1_380_1 eX1_bestOn dX1_bestOn_117 hI.1 (ih (d - 1) _ _ _ _ (by omega) (by omega) hI) (by omega) rfl rfl (Nat.le_of_ble_eq_true rfl) (fun h hI fr => ?_)
    replace hF := cFr.tr hF fr
    refine g_lmul (pc := 120) dX1_bestOn_120 ?_
    rw [lN_mul]
    refine g_ladd (pc := 121) dX1_bestOn_121 ?_
    rw [lN_add]
    refine g_lstore (pc := 122) (ls' := [_, _, _, _, _, _, _, _, _, _, _, _]) dX1_bestOn_122 (by decide) rfl rfl ?_
    refine g_lload (pc := 124) dX1_bestOn_124 rfl ?_
    refine g_lload (pc := 126) dX1_bestOn_126 rfl ?_
    have emax : gbN (mlaw V) (gD g) (gR g) (V 31) r (n + 1) x y z = max (pwNat (mlaw V) (gD g) (gR g) (V 31) r x y z * 16 ^ (n + 1)) (gD g 5 (gD g 0 r) * (gbN (mlaw V) (gD g) (gR g) (V 31) r n (x / 2 + 1) (y + 1) (z + 1)) + (16 - gD g 5 (gD g 0 r)) * (gbN (mlaw V) (gD g) (gR g) (V 31) r n (x + 1) y (z + 1))) := rfl
    rw [emax] at g3
    have m1 := Nat.le_max_left (pwNat (mlaw V) (gD g) (gR g) (V 31) r x y z * 16 ^ (n + 1)) (gD g 5 (gD g 0 r) * (gbN (mlaw V) (gD g) (gR g) (V 31) r n (x / 2 + 1) (y + 1) (z + 1)) + (16 - gD g 5 (gD g 0 r)) * (gbN (mlaw V) (gD g) (gR g) (V 31) r n (x + 1) y (z + 1)))
    have m2 := Nat.le_max_right (pwNat (mlaw V) (gD g) (gR g) (V 31) r x y z * 16 ^ (n + 1)) (gD g 5 (gD g 0 r) * (gbN (mlaw V) (gD g) (gR g) (V 31) r n (x / 2 + 1) (y + 1) (z + 1)) + (16 - gD g 5 (gD g 0 r)) * (gbN (mlaw V) (gD g) (gR g) (V 31) r n (x + 1) y (z + 1)))
    rw [Nat.mul_comm (16 ^ (n + 1)) (pwNat (mlaw V) (gD g) (gR g) (V 31) r x y z)]
    refine g_cS (pc := 128) (M' := mJ12_max_2) (as := [_, _]) i_X1_384 eJ12_max_2 dX1_bestOn_128 (k_maxL _ _ (by omega) (by omega)) (by omega) rfl rfl (Nat.le_of_ble_eq_true rfl) ?_
    refine g_lreturn (pc := 131) dX1_bestOn_131 rfl ?_
    exact ⟨rfl, hI, hF⟩
set_option maxHeartbeats 2000000 in
theorem k_best (hd : 640 ≤ d) (hI : InvC ac W g (mlaw V) h) (hz : HZ g W 0 (V 31)) (r n x : Nat) (hr : r < gR g) (hn : n ≤ 6) (hx : x ≤ 1) : Ct E d 0 0 mX1_best [vR (nC ac 1), vI (nI r), vI (nI n), vI (nI x)] h (cQ ac W g (mlaw V) h (some (vL (besI (mlaw V) (gD g) (gR g) (V 31) r n x)))) := by
  refine ct_of (by decide) (Nat.le_of_ble_eq_true rfl) rfl ?_
  have hF : cFr h h := cFr.rf
  have b8 := hI.2.2.2.2.1.2.2.2.2.2.2.2.1
  have b10 := hI.2.2.2.2.1.2.2.2.2.2.2.2.2.1
  have bP := hI.2.2.2.2.1.2.2.2.2.2.2.2.2.2.1
  have hv1 : inR (nI n) 0 6 = true := inC_of (n := 6) hn (by decide)
  have hv2 : inR (nI x) 0 1 = true := inC_of (n := 1) hx (by decide)
  have hD := hI.2.2.2.2.1.2.2.2.2.2.2.2.2.2.2.1 r hr
  have ht16 := hI.2.2.2.2.1.2.2.2.2.2.2.2.2.2.2.2.2.1 (gD g 0 r) hD.1
  refine g_aload_n (pc := 0) dX1_best_0 rfl ?_
  refine g_iload_n (pc := 1) dX1_best_1 rfl ?_
  refine g_cVv (pc := 2) (M' := mX1_needRelic) (as := [_]) (ci := 1) rfl i_X1_295_1 eX1_needRelic dX1_best_2 hI.1 (k_needRT (by omega) hI r hr) (by omega) rfl rfl (Nat.le_of_ble_eq_true rfl) ?_
  refine g_aload_n (pc := 5) dX1_best_5 rfl ?_
  refine g_iload_n (pc := 6) dX1_best_6 rfl ?_
  refine g_iconst (pc := 7) (v := 0) dX1_best_7 (by decide) ?_
  refine g_bipush (pc := 8) (v := 6) dX1_best_8 (by decide) ?_
  refine g_cS (pc := 10) (M' := mX1_isIn) (as := [_, _, _]) i_X1_252 eX1_isIn dX1_best_10 (k_isIn _ _ _) (by omega) rfl rfl (Nat.le_of_ble_eq_true rfl) ?_
  refine g_ifB_eq (pc := 13) 27 dX1_best_13 (by decide) (fun c_13 => absurd (hv1.symm.trans c_13) (by decide)) (fun c_13 => ?_)
  refine g_iload_n (pc := 16) dX1_best_16 rfl ?_
  refine g_cS (pc := 17) (M' := mX1_isPart) (as := [_]) i_X1_344 eX1_isPart dX1_best_17 (k_isPartI _) (by omega) rfl rfl (Nat.le_of_ble_eq_true rfl) ?_
  refine g_ifB_eq (pc := 20) 27 dX1_best_20 (by decide) (fun c_20 => absurd (hv2.symm.trans c_20) (by decide)) (fun c_20 => ?_)
  refine g_iconst (pc := 23) (v := 1) dX1_best_23 (by decide) ?_
  refine g_goto (pc := 24) 28 dX1_best_24 (by decide) ?_
  refine g_cVv (pc := 28) (M' := mX1_need) (as := [_]) (ci := 1) rfl i_X1_183_1 eX1_need dX1_best_28 hI.1 (k_needT) (by omega) rfl rfl (Nat.le_of_ble_eq_true rfl) ?_
  refine g_aload_n (pc := 31) dX1_best_31 rfl ?_
  refine g_getfield (pc := 32) f_X1_58_1 dX1_best_32 hI.1 rfl ?_
  refine g_getfield (pc := 35) f_X1_311_10 dX1_best_35 (hI.2.2.2.1 0 liv0).1 rfl ?_
  refine g_iload_n (pc := 38) dX1_best_38 rfl ?_
  refine g_iaload (pc := 39) dX1_best_39 (hI.2.2.2.1 0 liv0).2.1 (j := r) rfl (by omega) (by first | decide | omega) rfl ?_
  rw [show W (200 + 0) r = V 31 (16 + r) from hz.1 r (by omega)]
  refine g_iconst (pc := 40) (v := -1) dX1_best_40 (by decide) ?_
  refine g_icmp_ne (pc := 41) 47 dX1_best_41 (by decide) (fun c_41 => ?_) (fun c_41 => ?_)
  · have hk : kpd (V 31) r = true := decide_eq_true c_41
    refine g_aload_n (pc := 47) dX1_best_47 rfl ?_
    refine g_iload_n (pc := 48) dX1_best_48 rfl ?_
    refine g_aload_n (pc := 49) dX1_best_49 rfl ?_
    refine g_getfield (pc := 50) f_X1_58_1 dX1_best_50 hI.1 rfl ?_
    refine g_getfield (pc := 53) f_X1_311_10 dX1_best_53 (hI.2.2.2.1 0 liv0).1 rfl ?_
    refine g_iload_n (pc := 56) dX1_best_56 rfl ?_
    refine g_iaload (pc := 57) dX1_best_57 (hI.2.2.2.1 0 liv0).2.1 (j := r) rfl (by omega) (by first | decide | omega) rfl ?_
    rw [show W (200 + 0) r = V 31 (16 + r) from hz.1 r (by omega)]
    refine g_aload_n (pc := 58) dX1_best_58 rfl ?_
    refine g_getfield (pc := 59) f_X1_58_1 dX1_best_59 hI.1 rfl ?_
    refine g_getfield (pc := 62) f_X1_279_10 dX1_best_62 (hI.2.2.2.1 0 liv0).1 rfl ?_
    refine g_aload_n (pc := 65) dX1_best_65 rfl ?_
    refine g_iload_n (pc := 66) dX1_best_66 rfl ?_
    refine g_cV (pc := 67) (M' := mX1_relicOf) (as := [_]) (ci := 1) rfl i_X1_298_1 eX1_relicOf dX1_best_67 hI.1 (k_relicOf (by omega) hI r hr) (by omega) rfl rfl (Nat.le_of_ble_eq_true rfl) ?_
    refine g_getfield (pc := 70) f_X1_302_15 dX1_best_70 (hI.2.2.2.2.1.2.2.2.2.2.1 r hr) rfl ?_
    refine g_iaload (pc := 73) dX1_best_73 (hI.2.2.2.1 0 liv0).2.2.1 (j := gD g 0 r) rfl (by omega) (by first | decide | omega) rfl ?_
    rw [show W (300 + 0) (gD g 0 r) = V 31 (8 + gD g 0 r) from hz.2.1 _ (by omega)]
    refine g_aload_n (pc := 74) dX1_best_74 rfl ?_
    refine g_getfield (pc := 75) f_X1_58_1 dX1_best_75 hI.1 rfl ?_
    refine g_getfield (pc := 78) f_X1_256_10 dX1_best_78 (hI.2.2.2.1 0 liv0).1 rfl ?_
    rw [show W (100 + 0) 5 = V 31 44 from hz.2.2.2.2.2]
    refine g_iload_n (pc := 81) dX1_best_81 rfl ?_
    refine c_cV (pc := 82) (M' := mX1_bestOn) (as := [_, _, _, _, _]) (ci := 1) rfl i_X1_380_1 eX1_bestOn dX1_best_82 hI.1 (k_bestOn hr hz hk n (d - 1) _ _ _ _ hn (by omega) hI) (by omega) rfl rfl (Nat.le_of_ble_eq_true rfl) (fun h hI fr => ?_)
    replace hF := cFr.tr hF fr
    refine g_iload_n (pc := 85) dX1_best_85 rfl ?_
    refine g_cS (pc := 86) (M' := mX1_power) (as := [_]) i_X1_376 eX1_power dX1_best_86 (k_power (by omega)) (by omega) rfl rfl (Nat.le_of_ble_eq_true rfl) ?_
    refine g_iload_n (pc := 89) dX1_best_89 rfl ?_
    have gl := gbN_le (mlaw V) (gD g) (gR g) (V 31) r (by omega) n (V 31 (16 + r)) (V 31 (8 + gD g 0 r)) (V 31 44)
    have p6 := pow16 n (by omega)
    have p5 := p16_6 n hn
    refine g_cS (pc := 90) (M' := mX1_least) (as := [_, _, _]) i_X1_387 eX1_least dX1_best_90 (k_least _ _ (by omega) (by omega) (by omega) _) (by omega) rfl rfl (Nat.le_of_ble_eq_true rfl) ?_
    refine g_lreturn (pc := 93) dX1_best_93 rfl ?_
    refine ⟨?_, hI, hF⟩
    unfold besI
    rw [if_pos hk]
  · refine g_iload_n (pc := 44) dX1_best_44 rfl ?_
    refine g_i2l (pc := 45) dX1_best_45 ?_
    refine g_lreturn (pc := 46) dX1_best_46 rfl ?_
    refine ⟨?_, hI, hF⟩
    unfold besI
    rw [if_neg (show ¬ kpd (V 31) r = true from fun e => absurd c_41 (of_decide_eq_true e))]
set_option maxHeartbeats 2000000 in
theorem l_kwithout {bc bs s n x : Nat} {Q : jR → jH → Prop} (hI : InvC ac W g (mlaw V) h) (hs : s < gS g) (hn : n ≤ 12) : ∀ (m r : Nat), n - r = m → r ≤ n → G E d bc bs mX1_without 67 [some (vR (nC ac 1)), some (vI (nI s)), some (vI (nI n)), some (vI (nI x)), some (vL (lN ((16 - gD g 5 s) ^ n))), none, some (vI (nI n))] [] h Q → G E d bc bs mX1_without 37 [some (vR (nC ac 1)), some (vI (nI s)), some (vI (nI n)), some (vI (nI x)), some (vL (lN ((16 - gD g 5 s) ^ r))), none, some (vI (nI r))] [] h Q := by
  intro m
  induction m with
  | zero =>
    intro r hm hr kk
    have e : r = n := by omega
    subst e
    have b8 := hI.2.2.2.2.1.2.2.2.2.2.2.2.1
    have b10 := hI.2.2.2.2.1.2.2.2.2.2.2.2.2.1
    have bP := hI.2.2.2.2.1.2.2.2.2.2.2.2.2.2.1
    refine g_iload (pc := 37) dX1_without_37 rfl ?_
    refine g_iload_n (pc := 39) dX1_without_39 rfl ?_
    refine g_icmp_ge (pc := 40) 67 dX1_without_40 (by decide) (fun c_40 => ?_) (fun c_40 => absurd (nI_le (Nat.le_refl _) (by omega)) c_40)
    exact kk
  | succ m ih =>
    intro r hm hr kk
    have b8 := hI.2.2.2.2.1.2.2.2.2.2.2.2.1
    have b10 := hI.2.2.2.2.1.2.2.2.2.2.2.2.2.1
    have bP := hI.2.2.2.2.1.2.2.2.2.2.2.2.2.2.1
    have ht16 := hI.2.2.2.2.1.2.2.2.2.2.2.2.2.2.2.2.2.1 s hs
    refine g_iload (pc := 37) dX1_without_37 rfl ?_
    refine g_iload_n (pc := 39) dX1_without_39 rfl ?_
    refine g_icmp_ge (pc := 40) 67 dX1_without_40 (by decide) (fun c_40 => absurd c_40 (by intro w; have := (nI_leI (by omega) (by omega)).mp w; omega)) (fun c_40 => ?_)
    refine g_lload (pc := 43) dX1_without_43 rfl ?_
    refine g_bipush (pc := 45) (v := 16) dX1_without_45 (by decide) ?_
    refine g_aload_n (pc := 47) dX1_without_47 rfl ?_
    refine g_getfield (pc := 48) f_X1_31_1 dX1_without_48 hI.1 rfl ?_
    refine g_getfield (pc := 51) f_X1_276_2 dX1_without_51 hI.2.2.2.2.1.1.choose_spec rfl ?_
    refine g_iload_n (pc := 54) dX1_without_54 rfl ?_
    refine g_iaload (pc := 55) dX1_without_55 hI.2.2.2.2.1.2.1.choose_spec.1 (j := s) rfl (by omega) (by first | decide | omega) rfl ?_
    rw [hI.2.2.2.2.1.2.1.choose_spec.2 s hs]
    refine g_isub (pc := 56) dX1_without_56 ?_
    rw [sub16 (by omega)]
    refine g_i2l (pc := 57) dX1_without_57 ?_
    rw [nI_l (by omega)]
    refine g_lmul (pc := 58) dX1_without_58 ?_
    rw [lN_mul, ← Nat.pow_succ]
    refine g_lstore (pc := 59) (ls' := [_, _, _, _, _, _, _]) dX1_without_59 (by decide) rfl rfl ?_
    refine g_iinc (pc := 61) (ls' := [_, _, _, _, _, _, _]) dX1_without_61 rfl (by first | exact nI_1 _ | exact rfl) (by decide) rfl rfl ?_
    refine g_goto (pc := 64) 37 dX1_without_64 (by decide) ?_
    exact ih (r + 1) (by omega) (by omega) kk
set_option maxHeartbeats 2000000 in
theorem k_without (hd : 640 ≤ d) (hI : InvC ac W g (mlaw V) h) (hz : HZ g W 0 (V 31)) (s n x : Nat) (hs : s < gS g) (hn : n ≤ 12) (hx : x ≤ 1) : Ct E d 0 0 mX1_without [vR (nC ac 1), vI (nI s), vI (nI n), vI (nI x)] h (cQ ac W g (mlaw V) h (some (vL (frcI ((16 - gD g 5 s) ^ n) (16 ^ n) (nI x))))) := by
  refine ct_of (by decide) (Nat.le_of_ble_eq_true rfl) rfl ?_
  have hF : cFr h h := cFr.rf
  have b8 := hI.2.2.2.2.1.2.2.2.2.2.2.2.1
  have b10 := hI.2.2.2.2.1.2.2.2.2.2.2.2.2.1
  have bP := hI.2.2.2.2.1.2.2.2.2.2.2.2.2.2.1
  have hv1 : inR (nI n) 0 12 = true := inC_of (n := 12) hn (by decide)
  have hv2 : inR (nI x) 0 1 = true := inC_of (n := 1) hx (by decide)
  refine g_aload_n (pc := 0) dX1_without_0 rfl ?_
  refine g_iload_n (pc := 1) dX1_without_1 rfl ?_
  refine g_cVv (pc := 2) (M' := mX1_needSister) (as := [_]) (ci := 1) rfl i_X1_273_1 eX1_needSister dX1_without_2 hI.1 (k_needST (by omega) hI s hs) (by omega) rfl rfl (Nat.le_of_ble_eq_true rfl) ?_
  refine g_aload_n (pc := 5) dX1_without_5 rfl ?_
  refine g_iload_n (pc := 6) dX1_without_6 rfl ?_
  refine g_iconst (pc := 7) (v := 0) dX1_without_7 (by decide) ?_
  refine g_bipush (pc := 8) (v := 12) dX1_without_8 (by decide) ?_
  refine g_cS (pc := 10) (M' := mX1_isIn) (as := [_, _, _]) i_X1_252 eX1_isIn dX1_without_10 (k_isIn _ _ _) (by omega) rfl rfl (Nat.le_of_ble_eq_true rfl) ?_
  refine g_ifB_eq (pc := 13) 27 dX1_without_13 (by decide) (fun c_13 => absurd (hv1.symm.trans c_13) (by decide)) (fun c_13 => ?_)
  refine g_iload_n (pc := 16) dX1_without_16 rfl ?_
  refine g_cS (pc := 17) (M' := mX1_isPart) (as := [_]) i_X1_344 eX1_isPart dX1_without_17 (k_isPartI _) (by omega) rfl rfl (Nat.le_of_ble_eq_true rfl) ?_
  refine g_ifB_eq (pc := 20) 27 dX1_without_20 (by decide) (fun c_20 => absurd (hv2.symm.trans c_20) (by decide)) (fun c_20 => ?_)
  refine g_iconst (pc := 23) (v := 1) dX1_without_23 (by decide) ?_
  refine g_goto (pc := 24) 28 dX1_without_24 (by decide) ?_
  refine g_cVv (pc := 28) (M' := mX1_need) (as := [_]) (ci := 1) rfl i_X1_183_1 eX1_need dX1_without_28 hI.1 (k_needT) (by omega) rfl rfl (Nat.le_of_ble_eq_true rfl) ?_
  refine g_lconst (pc := 31) (v := 1) dX1_without_31 (by decide) ?_
  refine g_lstore (pc := 32) (ls' := [_, _, _, _, _, _, _]) dX1_without_32 (by decide) rfl rfl ?_
  refine g_iconst (pc := 34) (v := 0) dX1_without_34 (by decide) ?_
  refine g_istore (pc := 35) (ls' := [_, _, _, _, _, _, _]) dX1_without_35 (by decide) rfl rfl ?_
  refine l_kwithout hI hs hn n 0 rfl (Nat.zero_le _) ?_
  have p6 := pow16 n hn
  have p7 := Nat.pow_le_pow_left (show 16 - gD g 5 s ≤ 16 by omega) n
  refine g_lload (pc := 67) dX1_without_67 rfl ?_
  refine g_iload_n (pc := 69) dX1_without_69 rfl ?_
  refine g_cS (pc := 70) (M' := mX1_power) (as := [_]) i_X1_376 eX1_power dX1_without_70 (k_power hn) (by omega) rfl rfl (Nat.le_of_ble_eq_true rfl) ?_
  refine g_iload_n (pc := 73) dX1_without_73 rfl ?_
  refine g_cS (pc := 74) (M' := mX1_least) (as := [_, _, _]) i_X1_387 eX1_least dX1_without_74 (k_least _ _ (by omega) (by omega) (by omega) _) (by omega) rfl rfl (Nat.le_of_ble_eq_true rfl) ?_
  refine g_lreturn (pc := 77) dX1_without_77 rfl ?_
  exact ⟨rfl, hI, hF⟩
end
section
variable {E : jE} {d : Nat} {h : jH} {ac : Nat → Nat} {W : mV} {g : HD} {F : (Nat → Int32) → Int32}
set_option maxHeartbeats 2000000 in
theorem x_best (hd : 20 ≤ d) (hI : InvC ac W g F h) (s a b : Int32) (hv : inR s 0 (nI (gR g) - 1) = false) : Ct E d 1 6 mX1_best [vR (nC ac 1), vI s, vI a, vI b] h (cX ac W g F h nmNS 0) := by
  refine ct_of (by decide) (Nat.le_of_ble_eq_true rfl) rfl ?_
  have hF : cFr h h := cFr.rf
  have b8 := hI.2.2.2.2.1.2.2.2.2.2.2.2.1
  have b10 := hI.2.2.2.2.1.2.2.2.2.2.2.2.2.1
  have bP := hI.2.2.2.2.1.2.2.2.2.2.2.2.2.2.1
  refine g_aload_n (pc := 0) dX1_best_0 rfl ?_
  refine g_iload_n (pc := 1) dX1_best_1 rfl ?_
  exact c_tV (pc := 2) (M' := mX1_needRelic) (as := [_]) (ci := 1) rfl i_X1_295_1 eX1_needRelic dX1_best_2 hI.1 (k_needRF (by omega) hI s hv) (by omega) rfl rfl (Nat.le_of_ble_eq_true rfl) (by decide) hF (by omega) (by omega)
set_option maxHeartbeats 2000000 in
theorem y_best (hd : 20 ≤ d) (hI : InvC ac W g F h) (s : Nat) (a b : Int32) (hs : s < gR g) (hv : (inR a 0 6 && inR b 0 1) = false) : Ct E d 1 6 mX1_best [vR (nC ac 1), vI (nI s), vI a, vI b] h (cX ac W g F h nmIA 1) := by
  refine ct_of (by decide) (Nat.le_of_ble_eq_true rfl) rfl ?_
  have hF : cFr h h := cFr.rf
  have b8 := hI.2.2.2.2.1.2.2.2.2.2.2.2.1
  have b10 := hI.2.2.2.2.1.2.2.2.2.2.2.2.2.1
  have bP := hI.2.2.2.2.1.2.2.2.2.2.2.2.2.2.1
  refine g_aload_n (pc := 0) dX1_best_0 rfl ?_
  refine g_iload_n (pc := 1) dX1_best_1 rfl ?_
  refine g_cVv (pc := 2) (M' := mX1_needRelic) (as := [_]) (ci := 1) rfl i_X1_295_1 eX1_needRelic dX1_best_2 hI.1 (k_needRT (by omega) hI s hs) (by omega) rfl rfl (Nat.le_of_ble_eq_true rfl) ?_
  refine g_aload_n (pc := 5) dX1_best_5 rfl ?_
  refine g_iload_n (pc := 6) dX1_best_6 rfl ?_
  refine g_iconst (pc := 7) (v := 0) dX1_best_7 (by decide) ?_
  refine g_bipush (pc := 8) (v := 6) dX1_best_8 (by decide) ?_
  refine g_cS (pc := 10) (M' := mX1_isIn) (as := [_, _, _]) i_X1_252 eX1_isIn dX1_best_10 (k_isIn _ _ _) (by omega) rfl rfl (Nat.le_of_ble_eq_true rfl) ?_
  refine g_ifB_eq (pc := 13) 27 dX1_best_13 (by decide) (fun c_13 => ?_) (fun c_13 => ?_)
  · refine g_iconst (pc := 27) (v := 0) dX1_best_27 (by decide) ?_
    exact c_tV (pc := 28) (M' := mX1_need) (as := [_]) (ci := 1) rfl i_X1_183_1 eX1_need dX1_best_28 hI.1 (k_needF (by omega) hI) (by omega) rfl rfl (Nat.le_of_ble_eq_true rfl) (by decide) hF (by omega) (by omega)
  · refine g_iload_n (pc := 16) dX1_best_16 rfl ?_
    refine g_cS (pc := 17) (M' := mX1_isPart) (as := [_]) i_X1_344 eX1_isPart dX1_best_17 (k_isPartI _) (by omega) rfl rfl (Nat.le_of_ble_eq_true rfl) ?_
    refine g_ifB_eq (pc := 20) 27 dX1_best_20 (by decide) (fun c_20 => ?_) (fun c_20 => ?_)
    · refine g_iconst (pc := 27) (v := 0) dX1_best_27 (by decide) ?_
      exact c_tV (pc := 28) (M' := mX1_need) (as := [_]) (ci := 1) rfl i_X1_183_1 eX1_need dX1_best_28 hI.1 (k_needF (by omega) hI) (by omega) rfl rfl (Nat.le_of_ble_eq_true rfl) (by decide) hF (by omega) (by omega)
    · refine g_iconst (pc := 23) (v := 1) dX1_best_23 (by decide) ?_
      refine g_goto (pc := 24) 28 dX1_best_24 (by decide) ?_
      exfalso
      rw [c_13, c_20] at hv
      exact absurd hv (by decide)
set_option maxHeartbeats 2000000 in
theorem x_without (hd : 20 ≤ d) (hI : InvC ac W g F h) (s a b : Int32) (hv : inR s 0 (nI (gS g) - 1) = false) : Ct E d 1 6 mX1_without [vR (nC ac 1), vI s, vI a, vI b] h (cX ac W g F h nmNS 0) := by
  refine ct_of (by decide) (Nat.le_of_ble_eq_true rfl) rfl ?_
  have hF : cFr h h := cFr.rf
  have b8 := hI.2.2.2.2.1.2.2.2.2.2.2.2.1
  have b10 := hI.2.2.2.2.1.2.2.2.2.2.2.2.2.1
  have bP := hI.2.2.2.2.1.2.2.2.2.2.2.2.2.2.1
  refine g_aload_n (pc := 0) dX1_without_0 rfl ?_
  refine g_iload_n (pc := 1) dX1_without_1 rfl ?_
  exact c_tV (pc := 2) (M' := mX1_needSister) (as := [_]) (ci := 1) rfl i_X1_273_1 eX1_needSister dX1_without_2 hI.1 (k_needSF (by omega) hI s hv) (by omega) rfl rfl (Nat.le_of_ble_eq_true rfl) (by decide) hF (by omega) (by omega)
set_option maxHeartbeats 2000000 in
theorem y_without (hd : 20 ≤ d) (hI : InvC ac W g F h) (s : Nat) (a b : Int32) (hs : s < gS g) (hv : (inR a 0 12 && inR b 0 1) = false) : Ct E d 1 6 mX1_without [vR (nC ac 1), vI (nI s), vI a, vI b] h (cX ac W g F h nmIA 1) := by
  refine ct_of (by decide) (Nat.le_of_ble_eq_true rfl) rfl ?_
  have hF : cFr h h := cFr.rf
  have b8 := hI.2.2.2.2.1.2.2.2.2.2.2.2.1
  have b10 := hI.2.2.2.2.1.2.2.2.2.2.2.2.2.1
  have bP := hI.2.2.2.2.1.2.2.2.2.2.2.2.2.2.1
  refine g_aload_n (pc := 0) dX1_without_0 rfl ?_
  refine g_iload_n (pc := 1) dX1_without_1 rfl ?_
  refine g_cVv (pc := 2) (M' := mX1_needSister) (as := [_]) (ci := 1) rfl i_X1_273_1 eX1_needSister dX1_without_2 hI.1 (k_needST (by omega) hI s hs) (by omega) rfl rfl (Nat.le_of_ble_eq_true rfl) ?_
  refine g_aload_n (pc := 5) dX1_without_5 rfl ?_
  refine g_iload_n (pc := 6) dX1_without_6 rfl ?_
  refine g_iconst (pc := 7) (v := 0) dX1_without_7 (by decide) ?_
  refine g_bipush (pc := 8) (v := 12) dX1_without_8 (by decide) ?_
  refine g_cS (pc := 10) (M' := mX1_isIn) (as := [_, _, _]) i_X1_252 eX1_isIn dX1_without_10 (k_isIn _ _ _) (by omega) rfl rfl (Nat.le_of_ble_eq_true rfl) ?_
  refine g_ifB_eq (pc := 13) 27 dX1_without_13 (by decide) (fun c_13 => ?_) (fun c_13 => ?_)
  · refine g_iconst (pc := 27) (v := 0) dX1_without_27 (by decide) ?_
    exact c_tV (pc := 28) (M' := mX1_need) (as := [_]) (ci := 1) rfl i_X1_183_1 eX1_need dX1_without_28 hI.1 (k_needF (by omega) hI) (by omega) rfl rfl (Nat.le_of_ble_eq_true rfl) (by decide) hF (by omega) (by omega)
  · refine g_iload_n (pc := 16) dX1_without_16 rfl ?_
    refine g_cS (pc := 17) (M' := mX1_isPart) (as := [_]) i_X1_344 eX1_isPart dX1_without_17 (k_isPartI _) (by omega) rfl rfl (Nat.le_of_ble_eq_true rfl) ?_
    refine g_ifB_eq (pc := 20) 27 dX1_without_20 (by decide) (fun c_20 => ?_) (fun c_20 => ?_)
    · refine g_iconst (pc := 27) (v := 0) dX1_without_27 (by decide) ?_
      exact c_tV (pc := 28) (M' := mX1_need) (as := [_]) (ci := 1) rfl i_X1_183_1 eX1_need dX1_without_28 hI.1 (k_needF (by omega) hI) (by omega) rfl rfl (Nat.le_of_ble_eq_true rfl) (by decide) hF (by omega) (by omega)
    · refine g_iconst (pc := 23) (v := 1) dX1_without_23 (by decide) ?_
      refine g_goto (pc := 24) 28 dX1_without_24 (by decide) ?_
      exfalso
      rw [c_13, c_20] at hv
      exact absurd hv (by decide)
end
