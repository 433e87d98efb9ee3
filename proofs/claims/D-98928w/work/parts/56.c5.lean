/-! THE COMPONENT: a house changes. Printed by m_c5.py -/
set_option maxRecDepth 100000
/-- only the house i has changed, its counts have not -/
def hE (i : Nat) (W W' : mV) : Prop := (∀ r, ¬ r = 100 + i → ¬ r = 200 + i → ¬ r = 300 + i → ¬ r = 400 + i → W' r = W r) ∧ ∀ k, 6 ≤ k → W' (100 + i) k = W (100 + i) k
theorem hE.rf {i : Nat} {W : mV} : hE i W W := ⟨fun _ _ _ _ _ => rfl, fun _ _ => rfl⟩
theorem hE.sa {i b j : Nat} {W W' : mV} {y : Int32} (h : hE i W W') (hb : b = 200 ∨ b = 300 ∨ b = 400) (hi : i < 69) : hE i W (sv W' (b + i) j y) := ⟨fun r h1 h2 h3 h4 => by rw [sv_ne (by omega)]; exact h.1 r h1 h2 h3 h4, fun k hk => by rw [sv_ne (by omega)]; exact h.2 k hk⟩
theorem hE.sf {i k : Nat} {W W' : mV} {y : Int32} (h : hE i W W') (hk : k < 6) : hE i W (sv W' (100 + i) k y) := ⟨fun r h1 h2 h3 h4 => by rw [sv_ne h1]; exact h.1 r h1 h2 h3 h4, fun q hq => by rw [sv_nj (by omega)]; exact h.2 q hq⟩
theorem hE.lv {i j : Nat} {W W' : mV} (h : hE i W W') (hl : liv W j) : liv W' j := by
  have e : W' 7 = W 7 := h.1 7 (by omega) (by omega) (by omega) (by omega)
  unfold liv at hl ⊢
  rw [e]
  exact hl
def hQ (ac : Nat → Nat) (W : mV) (g : HD) (F : (Nat → Int32) → Int32) (h : jH) (i : Nat) (R' : Nat → Int32) (v : Option jV) : jR → jH → Prop := fun r h' => r = .inl v ∧ ∃ W', InvC ac W' g F h' ∧ cFr h h' ∧ HZ g W' i R' ∧ hE i W W'
theorem HZ.days {g : HD} {W : mV} {i j : Nat} {R : Nat → Int32} {y : Int32} (hz : HZ g W i R) (hi : i < 69) (hS : gS g ≤ 8) (hj : j < 10) : HZ g (sv W (200 + i) j y) i (j_up R (16 + j) y) := by
  obtain ⟨z1, z2, z3, z4, z5, z6⟩ := hz
  refine ⟨fun r hr => ?_, fun s hs => ?_, fun p hp => ?_, ?_, ?_, ?_⟩
  · by_cases e : r = j
    · subst e; rw [sv_same, j_up_same]
    · rw [sv_nj e, j_up_ne (by omega)]; exact z1 r hr
  · rw [sv_ne (by omega), j_up_ne (by omega)]; exact z2 s hs
  · rw [sv_ne (by omega), j_up_ne (by omega)]; exact z3 p hp
  · rw [sv_ne (by omega), z4]; exact bits_congr (fun q hq => by unfold livB; rw [j_up_ne (by omega)])
  · rw [sv_ne (by omega), z5]; exact bits_congr (fun q hq => by unfold useB; rw [j_up_ne (by omega)])
  · rw [sv_ne (by omega), j_up_ne (by omega)]; exact z6
theorem HZ.laps {g : HD} {W : mV} {i j : Nat} {R : Nat → Int32} {y : Int32} (hz : HZ g W i R) (hi : i < 69) (hS : gS g ≤ 8) (hj : j < 8) : HZ g (sv W (300 + i) j y) i (j_up R (8 + j) y) := by
  obtain ⟨z1, z2, z3, z4, z5, z6⟩ := hz
  refine ⟨fun r hr => ?_, fun s hs => ?_, fun p hp => ?_, ?_, ?_, ?_⟩
  · rw [sv_ne (by omega), j_up_ne (by omega)]; exact z1 r hr
  · by_cases e : s = j
    · subst e; rw [sv_same, j_up_same]
    · rw [sv_nj e, j_up_ne (by omega)]; exact z2 s hs
  · rw [sv_ne (by omega), j_up_ne (by omega)]; exact z3 p hp
  · rw [sv_ne (by omega), z4]; exact bits_congr (fun q hq => by unfold livB; rw [j_up_ne (by omega)])
  · rw [sv_ne (by omega), z5]; exact bits_congr (fun q hq => by unfold useB; rw [j_up_ne (by omega)])
  · rw [sv_ne (by omega), j_up_ne (by omega)]; exact z6
theorem HZ.cure {g : HD} {W : mV} {i j : Nat} {R : Nat → Int32} {y : Int32} (hz : HZ g W i R) (hi : i < 69) (hS : gS g ≤ 8) (hR : gR g ≤ 10) (hj : j < 8) : HZ g (sv W (400 + i) j y) i (j_up R (36 + j) y) := by
  obtain ⟨z1, z2, z3, z4, z5, z6⟩ := hz
  refine ⟨fun r hr => ?_, fun s hs => ?_, fun p hp => ?_, ?_, ?_, ?_⟩
  · rw [sv_ne (by omega), j_up_ne (by omega)]; exact z1 r hr
  · rw [sv_ne (by omega), j_up_ne (by omega)]; exact z2 s hs
  · by_cases e : p = j
    · subst e; rw [sv_same, j_up_same]
    · rw [sv_nj e, j_up_ne (by omega)]; exact z3 p hp
  · rw [sv_ne (by omega), z4]; exact bits_congr (fun q hq => by unfold livB; rw [j_up_ne (by omega)])
  · rw [sv_ne (by omega), z5]; exact bits_congr (fun q hq => by unfold useB; rw [j_up_ne (by omega)])
  · rw [sv_ne (by omega), j_up_ne (by omega)]; exact z6
/-- a field changes, and the row with it -/
theorem HZ.fld {g : HD} {W : mV} {i k : Nat} {R R' : Nat → Int32} {y : Int32} (hz : HZ g W i R) (e1 : ∀ j, 8 ≤ j → j < 26 → R' j = R j) (e2 : ∀ j, 36 ≤ j → j < 44 → R' j = R j) (h3 : (if k = 3 then y else W (100 + i) 3) = bitsI (livB R') (gS g)) (h4 : (if k = 4 then y else W (100 + i) 4) = bitsI (useB R') (gR g)) (h5 : (if k = 5 then y else W (100 + i) 5) = R' 44) : HZ g (sv W (100 + i) k y) i R' := by
  obtain ⟨z1, z2, z3, z4, z5, z6⟩ := hz
  refine ⟨fun r hr => ?_, fun s hs => ?_, fun p hp => ?_, ?_, ?_, ?_⟩
  · rw [sv_ne (by omega), e1 _ (by omega) (by omega)]; exact z1 r hr
  · rw [sv_ne (by omega), e1 _ (by omega) (by omega)]; exact z2 s hs
  · rw [sv_ne (by omega), e2 _ (by omega) (by omega)]; exact z3 p hp
  · rw [← h3, sv_row]; unfold j_up; by_cases e : k = 3
    · rw [if_pos e.symm, if_pos e]
    · rw [if_neg (fun w => e w.symm), if_neg e]
  · rw [← h4, sv_row]; unfold j_up; by_cases e : k = 4
    · rw [if_pos e.symm, if_pos e]
    · rw [if_neg (fun w => e w.symm), if_neg e]
  · rw [← h5, sv_row]; unfold j_up; by_cases e : k = 5
    · rw [if_pos e.symm, if_pos e]
    · rw [if_neg (fun w => e w.symm), if_neg e]
theorem j_up_cm {f : Nat → Int32} {a b : Nat} {x y : Int32} (h : a ≠ b) : j_up (j_up f a x) b y = j_up (j_up f b y) a x := by
  funext j
  unfold j_up
  by_cases e : j = a
  · subst e
    rw [if_neg h, if_pos rfl, if_pos rfl]
  · by_cases w : j = b
    · subst w
      rw [if_pos rfl, if_neg e, if_pos rfl]
    · rw [if_neg w, if_neg e, if_neg e, if_neg w]
section
variable {E : jE} {d : Nat} {h : jH} {ac : Nat → Nat} {W : mV} {g : HD} {F : (Nat → Int32) → Int32} {i : Nat} {R : Nat → Int32}
theorem k_gives (hd : 5 ≤ d) (hI : InvC ac W g F h) (hl : liv W i) (hz : HZ g W i R) (hb : HB R) (r : Nat) (hr : r < gR g) : Ct E d 0 0 mX10_gives [vR (nC ac (100 + i)), vI (nI r)] h (hQ ac W g F h i (actR F (gD g) (gR g) R (0, r, 0, 0)) (some (vI (bI (actB F (gD g) (gR g) R (0, r, 0, 0)))))) := by
  refine ct_of (by decide) (Nat.le_of_ble_eq_true rfl) rfl ?_
  have hF : cFr h h := cFr.rf
  have b8 := hI.2.2.2.2.1.2.2.2.2.2.2.2.1
  have b10 := hI.2.2.2.2.1.2.2.2.2.2.2.2.2.1
  have bP := hI.2.2.2.2.1.2.2.2.2.2.2.2.2.2.1
  have hD := hI.2.2.2.2.1.2.2.2.2.2.2.2.2.2.2.1 r hr
  have hi := hl.lt
  have hlv : livB R (gD g 0 r) = !(decide (R (gD g 0 r) = 1)) := by
    unfold livB
    rcases hb.1 (gD g 0 r) (by omega) with w | w <;> rw [w] <;> decide
  refine g_aload_n (pc := 0) dX10_gives_0 rfl ?_
  refine g_getfield (pc := 1) f_X10_15_10 dX10_gives_1 (hI.2.2.2.1 i hl).1 rfl ?_
  refine g_iload_n (pc := 4) dX10_gives_4 rfl ?_
  refine g_iaload (pc := 5) dX10_gives_5 (hI.2.2.2.1 i hl).2.1 (j := r) rfl (by omega) (by first | decide | omega) rfl ?_
  rw [hz.1 r (by omega)]
  refine g_iconst (pc := 6) (v := -1) dX10_gives_6 (by decide) ?_
  refine g_icmp_ne (pc := 7) 31 dX10_gives_7 (by decide) (fun c_7 => ?_) (fun c_7 => ?_)
  · refine g_iconst (pc := 31) (v := 0) dX10_gives_31 (by decide) ?_
    refine g_ireturn (pc := 32) dX10_gives_32 rfl (by first | exact rfl | exact j_nb _) ?_
    have eb : actB F (gD g) (gR g) R (0, r, 0, 0) = false := by
      show (!(kpd R r) && !(decide (R (gD g 0 r) = 1))) = false
      rw [show kpd R r = true from decide_eq_true c_7]; rfl
    unfold actR
    rw [eb, if_neg (by decide)]
    exact ⟨rfl, W, hI, hF, hz, hE.rf⟩
  · refine g_aload_n (pc := 10) dX10_gives_10 rfl ?_
    refine g_getfield (pc := 11) f_X10_35_10 dX10_gives_11 (hI.2.2.2.1 i hl).1 rfl ?_
    refine g_aload_n (pc := 14) dX10_gives_14 rfl ?_
    refine g_getfield (pc := 15) f_X10_3_10 dX10_gives_15 (hI.2.2.2.1 i hl).1 rfl ?_
    refine g_iload_n (pc := 18) dX10_gives_18 rfl ?_
    refine g_cV (pc := 19) (M' := mX1_relicOf) (as := [_]) (ci := 1) rfl i_X10_60_1 eX1_relicOf dX10_gives_19 hI.1 (k_relicOf (by omega) hI r hr) (by omega) rfl rfl (Nat.le_of_ble_eq_true rfl) ?_
    refine g_getfield (pc := 22) f_X10_64_15 dX10_gives_22 (hI.2.2.2.2.1.2.2.2.2.2.1 r hr) rfl ?_
    refine g_cS (pc := 25) (M' := mX1_has) (as := [_, _]) i_X10_107 eX1_has dX10_gives_25 (k_has _ _) (by omega) rfl rfl (Nat.le_of_ble_eq_true rfl) ?_
    rw [has_liv hz b8 hD.1]
    refine g_ifB_ne (pc := 28) 33 dX10_gives_28 (by decide) (fun c_28 => ?_) (fun c_28 => ?_)
    · refine g_aload_n (pc := 33) dX10_gives_33 rfl ?_
      refine g_getfield (pc := 34) f_X10_15_10 dX10_gives_34 (hI.2.2.2.1 i hl).1 rfl ?_
      refine g_iload_n (pc := 37) dX10_gives_37 rfl ?_
      refine g_iconst (pc := 38) (v := 0) dX10_gives_38 (by decide) ?_
      refine c_hast200 (pc := 39) (i := i) hI hl dX10_gives_39 (j := r) rfl (by omega) (fun h hI fr => ?_)
      replace hF := cFr.tr hF fr
      refine g_iconst (pc := 40) (v := 1) dX10_gives_40 (by decide) ?_
      refine g_ireturn (pc := 41) dX10_gives_41 rfl (by first | exact rfl | exact j_nb _) ?_
      have eb : actB F (gD g) (gR g) R (0, r, 0, 0) = true := by
        show (!(kpd R r) && !(decide (R (gD g 0 r) = 1))) = true
        rw [← hlv, c_28, show kpd R r = false from decide_eq_false (fun w => w c_7)]; rfl
      unfold actR
      rw [eb, if_pos rfl]
      exact ⟨rfl, _, hI, hF, hz.days hi b8 (by omega), hE.rf.sa (by omega) hi⟩
    · refine g_iconst (pc := 31) (v := 0) dX10_gives_31 (by decide) ?_
      refine g_ireturn (pc := 32) dX10_gives_32 rfl (by first | exact rfl | exact j_nb _) ?_
      have eb : actB F (gD g) (gR g) R (0, r, 0, 0) = false := by
        show (!(kpd R r) && !(decide (R (gD g 0 r) = 1))) = false
        rw [← hlv, c_28, Bool.and_false]
      unfold actR
      rw [eb, if_neg (by decide)]
      exact ⟨rfl, W, hI, hF, hz, hE.rf⟩
theorem k_backs (hd : 5 ≤ d) (hI : InvC ac W g F h) (hl : liv W i) (hz : HZ g W i R) (r : Nat) (hr : r < gR g) : Ct E d 0 0 mX10_backs [vR (nC ac (100 + i)), vI (nI r)] h (hQ ac W g F h i (actR F (gD g) (gR g) R (1, r, 0, 0)) (some (vI (bI (actB F (gD g) (gR g) R (1, r, 0, 0)))))) := by
  refine ct_of (by decide) (Nat.le_of_ble_eq_true rfl) rfl ?_
  have hF : cFr h h := cFr.rf
  have b8 := hI.2.2.2.2.1.2.2.2.2.2.2.2.1
  have b10 := hI.2.2.2.2.1.2.2.2.2.2.2.2.2.1
  have bP := hI.2.2.2.2.1.2.2.2.2.2.2.2.2.2.1
  have hi := hl.lt
  refine g_aload_n (pc := 0) dX10_backs_0 rfl ?_
  refine g_getfield (pc := 1) f_X10_15_10 dX10_backs_1 (hI.2.2.2.1 i hl).1 rfl ?_
  refine g_iload_n (pc := 4) dX10_backs_4 rfl ?_
  refine g_iaload (pc := 5) dX10_backs_5 (hI.2.2.2.1 i hl).2.1 (j := r) rfl (by omega) (by first | decide | omega) rfl ?_
  rw [hz.1 r (by omega)]
  refine g_iconst (pc := 6) (v := -1) dX10_backs_6 (by decide) ?_
  refine g_icmp_ne (pc := 7) 12 dX10_backs_7 (by decide) (fun c_7 => ?_) (fun c_7 => ?_)
  · refine g_aload_n (pc := 12) dX10_backs_12 rfl ?_
    refine g_getfield (pc := 13) f_X10_15_10 dX10_backs_13 (hI.2.2.2.1 i hl).1 rfl ?_
    refine g_iload_n (pc := 16) dX10_backs_16 rfl ?_
    refine g_iconst (pc := 17) (v := -1) dX10_backs_17 (by decide) ?_
    refine c_hast200 (pc := 18) (i := i) hI hl dX10_backs_18 (j := r) rfl (by omega) (fun h hI fr => ?_)
    replace hF := cFr.tr hF fr
    refine g_iconst (pc := 19) (v := 1) dX10_backs_19 (by decide) ?_
    refine g_ireturn (pc := 20) dX10_backs_20 rfl (by first | exact rfl | exact j_nb _) ?_
    have eb : actB F (gD g) (gR g) R (1, r, 0, 0) = true := show kpd R r = true from decide_eq_true c_7
    unfold actR
    rw [eb, if_pos rfl]
    exact ⟨rfl, _, hI, hF, hz.days hi b8 (by omega), hE.rf.sa (by omega) hi⟩
  · refine g_iconst (pc := 10) (v := 0) dX10_backs_10 (by decide) ?_
    refine g_ireturn (pc := 11) dX10_backs_11 rfl (by first | exact rfl | exact j_nb _) ?_
    have eb : actB F (gD g) (gR g) R (1, r, 0, 0) = false := show kpd R r = false from decide_eq_false (fun w => w c_7)
    unfold actR
    rw [eb, if_neg (by decide)]
    exact ⟨rfl, W, hI, hF, hz, hE.rf⟩
theorem use_cur {R : Nat → Int32} {nR r p : Nat} (hn : nR ≤ 10) (hr : r < nR) (hp : p < 8) : bitsI (useB R) nR ||| bitI r = bitsI (useB (curR R r p)) nR := by
  refine b_ext (fun i hi => ?_)
  rw [b_or, bt_bits (by omega) hi, bt_bit (by omega) hi, bt_bits (by omega) hi]
  unfold useB curR
  by_cases e : i = r
  · subst e
    rw [j_up_same, decide_eq_true hr]
    simp
  · by_cases w : i < nR
    · rw [j_up_ne (by omega), j_up_ne (by omega), decide_eq_false e, Bool.or_false]
    · rw [decide_eq_false w, decide_eq_false e]; simp
set_option maxHeartbeats 1000000 in
theorem k_cures (hd : 607 ≤ d) (hI : InvC ac W g F h) (hl : liv W i) (hz : HZ g W i R) (hb : HB R) (r p : Nat) (hr : r < gR g) (hp : p < gP g) : Ct E d 0 0 mX10_cures [vR (nC ac (100 + i)), vI (nI r), vI (nI p)] h (hQ ac W g F h i (if ccI F (gD g) (gR g) R r p = true then curR R r p else R) (some (vI (bI (ccI F (gD g) (gR g) R r p))))) := by
  refine ct_of (by decide) (Nat.le_of_ble_eq_true rfl) rfl ?_
  have hF : cFr h h := cFr.rf
  have b8 := hI.2.2.2.2.1.2.2.2.2.2.2.2.1
  have b10 := hI.2.2.2.2.1.2.2.2.2.2.2.2.2.1
  have bP := hI.2.2.2.2.1.2.2.2.2.2.2.2.2.2.1
  have hi := hl.lt
  refine g_aload_n (pc := 0) dX10_cures_0 rfl ?_
  refine g_iload_n (pc := 1) dX10_cures_1 rfl ?_
  refine g_iload_n (pc := 2) dX10_cures_2 rfl ?_
  refine c_cV (pc := 3) (M' := mX10_canCure) (as := [_, _]) (ci := 10) rfl i_X10_118_10 eX10_canCure dX10_cures_3 (hI.2.2.2.1 i hl).1 (k_canCure (by omega) hI hl hz hb r p hr hp) (by omega) rfl rfl (Nat.le_of_ble_eq_true rfl) (fun h hI fr => ?_)
  replace hF := cFr.tr hF fr
  refine g_ifB_ne (pc := 6) 11 dX10_cures_6 (by decide) (fun c_6 => ?_) (fun c_6 => ?_)
  · refine g_aload_n (pc := 11) dX10_cures_11 rfl ?_
    refine g_getfield (pc := 12) f_X10_22_10 dX10_cures_12 (hI.2.2.2.1 i hl).1 rfl ?_
    refine g_iload_n (pc := 15) dX10_cures_15 rfl ?_
    refine g_iload_n (pc := 16) dX10_cures_16 rfl ?_
    refine c_hast400 (pc := 17) (i := i) hI hl dX10_cures_17 (j := p) rfl (by omega) (fun h hI fr => ?_)
    replace hF := cFr.tr hF fr
    replace hl : liv (sv W (400 + i) p (nI r)) i := (liv_sv (by omega)).mpr hl
    refine g_aload_n (pc := 18) dX10_cures_18 rfl ?_
    refine g_dup (pc := 19) dX10_cures_19 rfl ?_
    refine g_getfield (pc := 20) f_X10_38_10 dX10_cures_20 (hI.2.2.2.1 i hl).1 rfl ?_
    refine g_iconst (pc := 23) (v := 1) dX10_cures_23 (by decide) ?_
    refine g_iload_n (pc := 24) dX10_cures_24 rfl ?_
    refine g_ishl (pc := 25) dX10_cures_25 ?_
    refine g_ior (pc := 26) dX10_cures_26 ?_
    rw [sv_ne (by omega), hz.2.2.2.2.1, show (1 : Int32) <<< (nI r &&& 31) = bitI r from rfl, use_cur b10 hr (show p < 8 by omega)]
    refine c_hput (pc := 27) (i := i) hI hl w_X10_38_10 (by decide) dX10_cures_27 (fun h hI fr => ?_)
    replace hF := cFr.tr hF fr
    refine g_iconst (pc := 30) (v := 1) dX10_cures_30 (by decide) ?_
    refine g_ireturn (pc := 31) dX10_cures_31 rfl (by first | exact rfl | exact j_nb _) ?_
    rw [c_6, if_pos rfl]
    refine ⟨rfl, _, hI, hF, (hz.cure (y := nI r) hi b8 b10 (show p < 8 by omega)).fld (R' := curR R r p) (fun j h1 h2 => ?_) (fun j h1 h2 => ?_) ?_ ?_ ?_, (hE.rf.sa (by omega) hi).sf (by decide)⟩
    · unfold curR; rw [j_up_ne (by omega)]
    · unfold curR; rw [j_up_ne (by omega)]
    · rw [if_neg (by decide), sv_ne (by omega), hz.2.2.2.1]
      exact bits_congr (fun q hq => by unfold livB curR; rw [j_up_ne (by omega), j_up_ne (by omega)])
    · rw [if_pos rfl]
    · rw [if_neg (by decide), sv_ne (by omega), hz.2.2.2.2.2]
      unfold curR
      rw [j_up_ne (by omega), j_up_ne (by omega)]
  · refine g_iconst (pc := 9) (v := 0) dX10_cures_9 (by decide) ?_
    refine g_ireturn (pc := 10) dX10_cures_10 rfl (by first | exact rfl | exact j_nb _) ?_
    rw [c_6]
    rw [if_neg (by decide)]
    exact ⟨rfl, W, hI, hF, hz, hE.rf⟩
end
