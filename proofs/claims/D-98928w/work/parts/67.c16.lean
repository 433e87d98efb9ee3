/-! THE COMPONENT: years. Printed by m_c16.py -/
set_option maxRecDepth 100000
theorem HB.lap {D : Nat → Nat → Nat} {nR s : Nat} {R : Nat → Int32} (h : HB R) (hR : nR ≤ 10) (hs : s < 8) : HB (lapR D nR R s) := ⟨fun j hj => by rw [lap_o hR (by omega) hs]; exact h.1 j hj, fun r hr => by rw [lap_o hR (by omega) hs]; exact h.2 r hr⟩
theorem HB.day {nR : Nat} {R : Nat → Int32} (h : HB R) (hR : nR ≤ 10) : HB (dayR nR R) := ⟨fun j hj => by rw [day_o hj]; exact h.1 j hj, fun r hr => by
  unfold dayR
  rw [j_up_ne (by omega)]
  unfold dayF
  rw [if_neg (by omega)]
  by_cases q : 26 ≤ 26 + r ∧ 26 + r < 26 + nR
  · rw [if_pos q]; exact Or.inl rfl
  · rw [if_neg q]; exact h.2 r hr⟩
theorem HB.cur {R : Nat → Int32} {r p : Nat} (h : HB R) (hr : r < 10) (hp : p < 8) : HB (curR R r p) := ⟨fun j hj => by rw [cur_o hr hp (by omega)]; exact h.1 j hj, fun q hq => by
  unfold curR
  by_cases e : q = r
  · rw [e, j_up_same]; exact Or.inr rfl
  · rw [j_up_ne (by omega), j_up_ne (by omega)]; exact h.2 q hq⟩
theorem lap_36 {D : Nat → Nat → Nat} {nR s j : Nat} {R : Nat → Int32} (hR : nR ≤ 10) (hs : s < 8) (hj : 36 ≤ j) : lapR D nR R s j = R j := lap_o hR (by omega) hs
theorem day_36 {nR j : Nat} {R : Nat → Int32} (hR : nR ≤ 10) (hj : 36 ≤ j) (h4 : j < 44) : dayR nR R j = R j := by
  unfold dayR
  rw [j_up_ne (by omega)]
  unfold dayF
  rw [if_neg (by omega), if_neg (by omega)]
theorem cmo_c {nP : Nat} {R0 R R' : Nat → Int32} (h : ∀ p, p < nP → crd R' p = crd R p) : cmoI nP R0 R' = cmoI nP R0 R := by
  unfold cmoI
  rw [bits_congr h]
theorem cnt_c {p q : Nat → Bool} : ∀ n, (∀ i, i < n → p i = q i) → cnt p n = cnt q n
  | 0, _ => rfl
  | n + 1, h => by
    show cnt p n + (if p n then 1 else 0) = cnt q n + (if q n then 1 else 0)
    rw [cnt_c n (fun i hi => h i (by omega)), h n (by omega)]
theorem cnt_1 {p q : Nat → Bool} {k : Nat} (hp : p k = false) (hq : q k = true) (h : ∀ i, ¬ i = k → q i = p i) : ∀ n, k < n → cnt q n = cnt p n + 1
  | 0, w => absurd w (Nat.not_lt_zero k)
  | n + 1, w => by
    show cnt q n + (if q n then 1 else 0) = cnt p n + (if p n then 1 else 0) + 1
    by_cases e : k = n
    · subst e
      rw [cnt_c k (fun i hi => h i (by omega)), hp, hq]
      rfl
    · rw [cnt_1 hp hq h n (by omega), h n (fun z => e z.symm)]
      omega
theorem ones_cnt {p : Nat → Bool} {n : Nat} (h : n ≤ 10) : onesF (bitsI p n) 10 = nI (cnt p n) := by rw [onesF_eq h 10 (Nat.le_refl _), cnt_cut 10 h]
theorem add_sub_1 (a b : Int32) : a + 1 - b = a - b + 1 := by rw [Int32.sub_eq_add_neg, Int32.sub_eq_add_neg, Int32.add_assoc, Int32.add_comm 1, ← Int32.add_assoc]
theorem cmo_cur {nP r p : Nat} {R0 R : Nat → Int32} (hP : nP ≤ 8) (hr : r < 10) (hp : p < nP) (h : R (36 + p) = -1) : cmoI nP R0 (curR R r p) = cmoI nP R0 R + 1 := by
  unfold cmoI
  rw [ones_cnt (by omega), ones_cnt (by omega), ones_cnt (by omega), cnt_1 (p := crd R) (q := crd (curR R r p)) (k := p) (by unfold crd; rw [h]; rfl) (by unfold crd curR; rw [j_up_ne (by omega), j_up_same, decide_eq_false (nI_nm (by omega))]; rfl) (fun i hi => by unfold crd curR; rw [j_up_ne (by omega), j_up_ne (by omega)]) nP hp, ← nI_1, add_sub_1]
theorem HZ.f0 {g : HD} {W : mV} {i j : Nat} {R : Nat → Int32} {y : Int32} (hz : HZ g W i R) : HZ g (sv W 0 j y) i R := by
  unfold HZ
  rw [sv_ne (by omega), sv_ne (by omega), sv_ne (by omega), sv_ne (by omega)]
  exact hz
theorem pE.f0 {W W' : mV} {j : Nat} {y : Int32} (h : pE W W') (hj : j = 14 ∨ j = 23 ∨ j = 24) : pE W (sv W' 0 j y) := ⟨fun r a b c e f => by rw [sv_ne a]; exact h.1 r a b c e f, fun q a b c => by rw [sv_nj (by omega)]; exact h.2 q a b c⟩
theorem hE.r0 {W W' : mV} (h : hE 1 W W') : W' 0 = W 0 := h.1 0 (by decide) (by decide) (by decide) (by decide)
/-- a trial year: the trial house, the lots, the counts -/
def yP (g : HD) (W W' : mV) (R0 : Nat → Int32) (nP : Nat) (s : yS) : Prop := pE W W' ∧ HZ g W' 1 s.1 ∧ HB s.1 ∧ W' 0 14 = s.2.1 ∧ W' 0 24 = s.2.2 ∧ W' 0 23 = cmoI nP R0 s.1
def yQ (ac : Nat → Nat) (V W : mV) (g : HD) (h : jH) (s : yS) : jR → jH → Prop := fun r h' => r = .inl (some (vR (nC ac 101))) ∧ ∃ W', InvC ac W' g (mlaw V) h' ∧ cFr h h' ∧ yP g W W' (V 31) (gP g) s
theorem yrL_n {D : Nat → Nat → Nat} {nR : Nat} {s : yS} {k : Nat} (h : ¬ clI D nR (yrL D nR s k).1 k = true) : yrL D nR s (k + 1) = yrL D nR s k := if_neg h
theorem yrL_a {D : Nat → Nat → Nat} {nR : Nat} {s : yS} {k : Nat} (h : clI D nR (yrL D nR s k).1 k = true) (h2 : nI (D 5 k) ≤ nI (drwI (yrL D nR s k).2.1 16)) : yrL D nR s (k + 1) = ((yrL D nR s k).1, drwS (yrL D nR s k).2.1, (yrL D nR s k).2.2) := (if_pos h).trans (if_pos h2)
theorem yrL_b {D : Nat → Nat → Nat} {nR : Nat} {s : yS} {k : Nat} (h : clI D nR (yrL D nR s k).1 k = true) (h2 : ¬ nI (D 5 k) ≤ nI (drwI (yrL D nR s k).2.1 16)) : yrL D nR s (k + 1) = (lapR D nR (yrL D nR s k).1 k, drwS (yrL D nR s k).2.1, (yrL D nR s k).2.2 + 1) := (if_pos h).trans (if_neg h2)
section
variable {E : jE} {d : Nat} {h : jH} {ac : Nat → Nat} {W V : mV} {g : HD}
set_option maxHeartbeats 4000000 in
theorem l_ky1 {bc bs n i : Nat} {Q : jR → jH → Prop} {h0 : jH} {x : Int32} {γ : yS} (hd : 620 ≤ d) : ∀ (m r : Nat) (h : jH) (W' : mV), gS g - r = m → r ≤ gS g → InvC ac W' g (mlaw V) h → cFr h0 h → yP g W W' (V 31) (gP g) (yrL (gD g) (gR g) γ r) → (∀ (h : jH) (W' : mV), InvC ac W' g (mlaw V) h → cFr h0 h → yP g W W' (V 31) (gP g) (yrL (gD g) (gR g) γ (gS g)) → G E d bc bs mX1_yearBy 108 [some (vR (nC ac 1)), some (vI x), some (vI (nI n)), some (vR (nC ac 101)), some (vI (nI i)), some (vI (nI (gS g)))] [] h Q) → G E d bc bs mX1_yearBy 39 [some (vR (nC ac 1)), some (vI x), some (vI (nI n)), some (vR (nC ac 101)), some (vI (nI i)), some (vI (nI r))] [] h Q := by
  intro m
  induction m with
  | zero =>
    intro r h W' hm hr hI hF hy kk
    have e : r = gS g := by omega
    subst e
    have b8 := hI.2.2.2.2.1.2.2.2.2.2.2.2.1
    have b10 := hI.2.2.2.2.1.2.2.2.2.2.2.2.2.1
    have bP := hI.2.2.2.2.1.2.2.2.2.2.2.2.2.2.1
    refine g_iload (pc := 39) dX1_yearBy_39 rfl ?_
    refine g_aload_n (pc := 41) dX1_yearBy_41 rfl ?_
    refine g_getfield (pc := 42) f_X1_31_1 dX1_yearBy_42 hI.1 rfl ?_
    refine g_getfield (pc := 45) f_X1_158_2 dX1_yearBy_45 hI.2.2.2.2.1.1.choose_spec rfl ?_
    refine g_icmp_ge (pc := 48) 108 dX1_yearBy_48 (by decide) (fun c_48 => ?_) (fun c_48 => absurd (nI_le (Nat.le_refl _) (by omega)) c_48)
    exact kk h W' hI hF hy
  | succ m ih =>
    intro r h W' hm hr hI hF hy kk
    have b8 := hI.2.2.2.2.1.2.2.2.2.2.2.2.1
    have b10 := hI.2.2.2.2.1.2.2.2.2.2.2.2.2.1
    have bP := hI.2.2.2.2.1.2.2.2.2.2.2.2.2.2.1
    refine g_iload (pc := 39) dX1_yearBy_39 rfl ?_
    refine g_aload_n (pc := 41) dX1_yearBy_41 rfl ?_
    refine g_getfield (pc := 42) f_X1_31_1 dX1_yearBy_42 hI.1 rfl ?_
    refine g_getfield (pc := 45) f_X1_158_2 dX1_yearBy_45 hI.2.2.2.2.1.1.choose_spec rfl ?_
    refine g_icmp_ge (pc := 48) 108 dX1_yearBy_48 (by decide) (fun c_48 => absurd c_48 (by intro w; have := (nI_leI (by omega) (by omega)).mp w; omega)) (fun c_48 => ?_)
    refine g_aload_n (pc := 51) dX1_yearBy_51 rfl ?_
    refine g_iload (pc := 52) dX1_yearBy_52 rfl ?_
    refine g_cV (pc := 54) (M' := mX10_canLapse) (as := [_]) (ci := 10) rfl i_X1_353_10 eX10_canLapse dX1_yearBy_54 (hI.2.2.2.1 1 liv1).1 (k_canLapse (by omega) hI liv1 hy.2.1 r (by omega)) (by omega) rfl rfl (Nat.le_of_ble_eq_true rfl) ?_
    refine g_ifB_eq (pc := 57) 102 dX1_yearBy_57 (by decide) (fun c_57 => ?_) (fun c_57 => ?_)
    · refine g_iinc (pc := 102) (ls' := [_, _, _, _, _, _]) dX1_yearBy_102 rfl (by first | exact nI_1 _ | exact rfl) (by decide) rfl rfl ?_
      refine g_goto (pc := 105) 39 dX1_yearBy_105 (by decide) ?_
      exact ih (r + 1) h W' (by omega) (by omega) hI hF (by rw [yrL_n (by rw [c_57]; decide)]; exact hy) kk
    · refine g_aload_n (pc := 60) dX1_yearBy_60 rfl ?_
      refine g_bipush (pc := 61) (v := 16) dX1_yearBy_61 (by decide) ?_
      refine c_cV (pc := 63) (M' := mX1_draw) (as := [_]) (ci := 1) rfl i_X1_409_1 eX1_draw dX1_yearBy_63 hI.1 (k_draw hI 16 (by decide) (by decide)) (by omega) rfl rfl (Nat.le_of_ble_eq_true rfl) (fun h hI fr => ?_)
      replace hF := cFr.tr hF fr
      refine g_aload_n (pc := 66) dX1_yearBy_66 rfl ?_
      refine g_getfield (pc := 67) f_X1_31_1 dX1_yearBy_67 hI.1 rfl ?_
      refine g_getfield (pc := 70) f_X1_276_2 dX1_yearBy_70 hI.2.2.2.2.1.1.choose_spec rfl ?_
      refine g_iload (pc := 73) dX1_yearBy_73 rfl ?_
      refine g_iaload (pc := 75) dX1_yearBy_75 hI.2.2.2.2.1.2.1.choose_spec.1 (j := r) rfl (by omega) (by first | decide | omega) rfl ?_
      rw [hI.2.2.2.2.1.2.1.choose_spec.2 r (by omega)]
      refine g_icmp_ge (pc := 76) 102 dX1_yearBy_76 (by decide) (fun c_76 => ?_) (fun c_76 => ?_)
      · refine g_iinc (pc := 102) (ls' := [_, _, _, _, _, _]) dX1_yearBy_102 rfl (by first | exact nI_1 _ | exact rfl) (by decide) rfl rfl ?_
        refine g_goto (pc := 105) 39 dX1_yearBy_105 (by decide) ?_
        exact ih (r + 1) _ _ (by omega) (by omega) hI hF (by
          obtain ⟨y1, y2, y3, y4, y5, y6⟩ := hy
          rw [yrL_a c_57 (by rw [← y4]; exact c_76)]
          exact ⟨y1.f0 (Or.inl rfl), y2.f0, y3, by rw [sv_same, y4], by rw [sv_nj (by decide)]; exact y5, by rw [sv_nj (by decide)]; exact y6⟩) kk
      · refine g_aload_n (pc := 79) dX1_yearBy_79 rfl ?_
        refine g_dup (pc := 80) dX1_yearBy_80 rfl ?_
        refine g_getfield (pc := 81) f_X1_406_1 dX1_yearBy_81 hI.1 rfl ?_
        refine g_aload_n (pc := 84) dX1_yearBy_84 rfl ?_
        refine g_iload (pc := 85) dX1_yearBy_85 rfl ?_
        refine g_callV (pc := 87) (M' := mX10_lapses) (as := [_]) (ci := 10) rfl i_X1_348_10 eX10_lapses dX1_yearBy_87 (hI.2.2.2.1 1 liv1).1 (k_lapses (by omega) hI liv1 hy.2.1.f0 r (by omega)) (by omega) rfl rfl (Nat.le_of_ble_eq_true rfl) (by omega) (by omega) (fun C9 x9 h9 q9 => ?_) (fun r9 h9 q9 => ?_)
        · cases q9.1
        obtain ⟨e9, W9, hI, fr9, hz9, he9⟩ := q9
        cases e9
        replace hF := cFr.tr hF fr9
        refine g_ifB_eq (pc := 90) 97 dX1_yearBy_90 (by decide) (fun c_90 => ?_) (fun c_90 => ?_)
        · refine g_iconst (pc := 97) (v := 0) dX1_yearBy_97 (by decide) ?_
          refine g_iadd (pc := 98) dX1_yearBy_98 ?_
          refine c_put (pc := 99) hI w_X1_406_1 rfl (by decide) dX1_yearBy_99 (fun h hI fr => ?_)
          replace hF := cFr.tr hF fr
          refine g_iinc (pc := 102) (ls' := [_, _, _, _, _, _]) dX1_yearBy_102 rfl (by first | exact nI_1 _ | exact rfl) (by decide) rfl rfl ?_
          refine g_goto (pc := 105) 39 dX1_yearBy_105 (by decide) ?_
          exact absurd (c_90.symm.trans c_57) (by decide)
        · refine g_iconst (pc := 93) (v := 1) dX1_yearBy_93 (by decide) ?_
          refine g_goto (pc := 94) 98 dX1_yearBy_94 (by decide) ?_
          refine g_iadd (pc := 98) dX1_yearBy_98 ?_
          refine c_put (pc := 99) hI w_X1_406_1 rfl (by decide) dX1_yearBy_99 (fun h hI fr => ?_)
          replace hF := cFr.tr hF fr
          refine g_iinc (pc := 102) (ls' := [_, _, _, _, _, _]) dX1_yearBy_102 rfl (by first | exact nI_1 _ | exact rfl) (by decide) rfl rfl ?_
          refine g_goto (pc := 105) 39 dX1_yearBy_105 (by decide) ?_
          rw [c_57, if_pos rfl] at hz9
          exact ih (r + 1) _ _ (by omega) (by omega) hI hF (by
            obtain ⟨y1, y2, y3, y4, y5, y6⟩ := hy
            rw [yrL_b c_57 (by rw [← y4]; exact c_76)]
            have z0 := he9.r0
            refine ⟨((y1.f0 (j := 14) (Or.inl rfl)).tr (pE.of he9)).f0 (Or.inr (Or.inr rfl)), hz9.f0, y3.lap b10 (by omega), ?_, ?_, ?_⟩
            · rw [sv_nj (by decide), z0, sv_same, y4]
            · rw [sv_same, sv_nj (by decide), y5]
            · rw [sv_nj (by decide), z0, sv_nj (by decide), y6]
              exact (cmo_c (fun p hp => congrArg (fun z : Int32 => !(decide (z = -1))) (lap_36 b10 (by omega) (by omega)))).symm) kk
set_option maxHeartbeats 4000000 in
theorem yrC_y {lw : (Nat → Int32) → Int32} {D : Nat → Nat → Nat} {nR nP : Nat} {s : yS} (h : 0 < nR ∧ 0 < nP) : yrC lw D nR nP s = ((if ccI lw D nR s.1 (drwI s.2.1 nR) (drwI (drwS s.2.1) nP) = true then curR s.1 (drwI s.2.1 nR) (drwI (drwS s.2.1) nP) else s.1), drwS (drwS s.2.1), s.2.2) := if_pos h
theorem yrC_n {lw : (Nat → Int32) → Int32} {D : Nat → Nat → Nat} {nR nP : Nat} {s : yS} (h : ¬ (0 < nR ∧ 0 < nP)) : yrC lw D nR nP s = s := if_neg h
theorem yrN_s {lw : (Nat → Int32) → Int32} {D : Nat → Nat → Nat} {nS nR nP n : Nat} {s : yS} : yrN lw D nS nR nP s (n + 1) = (dayR nR (yrC lw D nR nP (yrL D nR (yrN lw D nS nR nP s n) nS)).1, (yrC lw D nR nP (yrL D nR (yrN lw D nS nR nP s n) nS)).2) := rfl
theorem ccI_1 {lw : (Nat → Int32) → Int32} {D : Nat → Nat → Nat} {nR : Nat} {R : Nat → Int32} {r p : Nat} (h : ccI lw D nR R r p = true) : R (36 + p) = -1 := by
  unfold ccI at h
  rw [Bool.and_eq_true] at h
  exact of_decide_eq_true h.1
set_option maxHeartbeats 2000000 in
theorem l_ky2 {bc bs n : Nat} {Q : jR → jH → Prop} {h0 : jH} {x : Int32} (hd : 630 ≤ d) (hn : n ≤ 96) : ∀ (m k : Nat) (h : jH) (W' : mV) (u : Option jV), n - k = m → k ≤ n → InvC ac W' g (mlaw V) h → cFr h0 h → yP g W W' (V 31) (gP g) (yrN (mlaw V) (gD g) (gS g) (gR g) (gP g) (V 31, x, 0) k) → (∀ (h : jH) (W' : mV) (u : Option jV), InvC ac W' g (mlaw V) h → cFr h0 h → yP g W W' (V 31) (gP g) (yrN (mlaw V) (gD g) (gS g) (gR g) (gP g) (V 31, x, 0) n) → G E d bc bs mX1_yearBy 173 [some (vR (nC ac 1)), some (vI x), some (vI (nI n)), some (vR (nC ac 101)), some (vI (nI n)), u] [] h Q) → G E d bc bs mX1_yearBy 30 [some (vR (nC ac 1)), some (vI x), some (vI (nI n)), some (vR (nC ac 101)), some (vI (nI k)), u] [] h Q := by
  intro m
  induction m with
  | zero =>
    intro k h W' u hm hk hI hF hy kk
    have e : k = n := by omega
    subst e
    refine g_iload (pc := 30) dX1_yearBy_30 rfl ?_
    refine g_iload_n (pc := 32) dX1_yearBy_32 rfl ?_
    refine g_icmp_ge (pc := 33) 173 dX1_yearBy_33 (by decide) (fun c_33 => ?_) (fun c_33 => absurd (nI_le (Nat.le_refl _) (by omega)) c_33)
    exact kk h W' u hI hF hy
  | succ m ih =>
    intro k h W' u hm hk hI hF hy kk
    have b8 := hI.2.2.2.2.1.2.2.2.2.2.2.2.1
    have b10 := hI.2.2.2.2.1.2.2.2.2.2.2.2.2.1
    have bP := hI.2.2.2.2.1.2.2.2.2.2.2.2.2.2.1
    refine g_iload (pc := 30) dX1_yearBy_30 rfl ?_
    refine g_iload_n (pc := 32) dX1_yearBy_32 rfl ?_
    refine g_icmp_ge (pc := 33) 173 dX1_yearBy_33 (by decide) (fun c_33 => absurd c_33 (by intro w; have := (nI_leI (by omega) (by omega)).mp w; omega)) (fun c_33 => ?_)
    refine g_iconst (pc := 36) (v := 0) dX1_yearBy_36 (by decide) ?_
    refine g_istore (pc := 37) (ls' := [_, _, _, _, _, _]) dX1_yearBy_37 (by decide) rfl rfl ?_
    refine l_ky1 (γ := (yrN (mlaw V) (gD g) (gS g) (gR g) (gP g) (V 31, x, 0) k)) (by omega) (gS g) 0 h W' rfl (Nat.zero_le _) hI hF hy (fun h W' hI hF hy => ?_)
    refine g_aload_n (pc := 108) dX1_yearBy_108 rfl ?_
    refine g_cV (pc := 109) (M' := mX1_relics) (as := []) (ci := 1) rfl i_X1_165_1 eX1_relics dX1_yearBy_109 hI.1 (k_relics (by omega) hI) (by omega) rfl rfl (Nat.le_of_ble_eq_true rfl) ?_
    refine g_if_le (pc := 112) 163 dX1_yearBy_112 (by decide) (fun c_112 => ?_) (fun c_112 => ?_)
    · have ec : yrC (mlaw V) (gD g) (gR g) (gP g) (yrL (gD g) (gR g) (yrN (mlaw V) (gD g) (gS g) (gR g) (gP g) (V 31, x, 0) k) (gS g)) = (yrL (gD g) (gR g) (yrN (mlaw V) (gD g) (gS g) (gR g) (gP g) (V 31, x, 0) k) (gS g)) := yrC_n (fun z => absurd ((nI_leI (a := gR g) (b := 0) (by omega) (by decide)).mp c_112) (by omega))
      have hz1 := hy.2.1
      have hy2 := hy
      rw [← ec] at hz1 hy2
      refine g_aload_n (pc := 163) dX1_yearBy_163 rfl ?_
      refine g_callV (pc := 164) (M' := mX10_passes) (as := []) (ci := 10) rfl i_X1_341_10 eX10_passes dX1_yearBy_164 (hI.2.2.2.1 1 liv1).1 (k_passes (by omega) hI liv1 hz1) (by omega) rfl rfl (Nat.le_of_ble_eq_true rfl) (by omega) (by omega) (fun C9 x9 h9 q9 => ?_) (fun r9 h9 q9 => ?_)
      · cases q9.1
      obtain ⟨e9, W9, hI, fr9, hz9, he9⟩ := q9
      cases e9
      replace hF := cFr.tr hF fr9
      refine g_iinc (pc := 167) (ls' := [_, _, _, _, _, _]) dX1_yearBy_167 rfl (by first | exact nI_1 _ | exact rfl) (by decide) rfl rfl ?_
      refine g_goto (pc := 170) 30 dX1_yearBy_170 (by decide) ?_
      refine ih (k + 1) _ _ _ (by omega) (by omega) hI hF ?_ kk
      rw [yrN_s]
      obtain ⟨y1, y2, y3, y4, y5, y6⟩ := hy2
      have z0 := he9.r0
      refine ⟨y1.tr (pE.of he9), hz9, y3.day b10, ?_, ?_, ?_⟩
      · rw [z0]; exact y4
      · rw [z0]; exact y5
      · rw [z0, y6]
        exact (cmo_c (fun p hp => congrArg (fun z : Int32 => !(decide (z = -1))) (day_36 b10 (by omega) (by omega)))).symm
    · refine g_aload_n (pc := 115) dX1_yearBy_115 rfl ?_
      refine g_cV (pc := 116) (M' := mX1_pilgrims) (as := []) (ci := 1) rfl i_X1_167_1 eX1_pilgrims dX1_yearBy_116 hI.1 (k_pilgrims (by omega) hI) (by omega) rfl rfl (Nat.le_of_ble_eq_true rfl) ?_
      refine g_if_le (pc := 119) 163 dX1_yearBy_119 (by decide) (fun c_119 => ?_) (fun c_119 => ?_)
      · have ec : yrC (mlaw V) (gD g) (gR g) (gP g) (yrL (gD g) (gR g) (yrN (mlaw V) (gD g) (gS g) (gR g) (gP g) (V 31, x, 0) k) (gS g)) = (yrL (gD g) (gR g) (yrN (mlaw V) (gD g) (gS g) (gR g) (gP g) (V 31, x, 0) k) (gS g)) := yrC_n (fun z => absurd ((nI_leI (a := gP g) (b := 0) (by omega) (by decide)).mp c_119) (by omega))
        have hz1 := hy.2.1
        have hy2 := hy
        rw [← ec] at hz1 hy2
        refine g_aload_n (pc := 163) dX1_yearBy_163 rfl ?_
        refine g_callV (pc := 164) (M' := mX10_passes) (as := []) (ci := 10) rfl i_X1_341_10 eX10_passes dX1_yearBy_164 (hI.2.2.2.1 1 liv1).1 (k_passes (by omega) hI liv1 hz1) (by omega) rfl rfl (Nat.le_of_ble_eq_true rfl) (by omega) (by omega) (fun C9 x9 h9 q9 => ?_) (fun r9 h9 q9 => ?_)
        · cases q9.1
        obtain ⟨e9, W9, hI, fr9, hz9, he9⟩ := q9
        cases e9
        replace hF := cFr.tr hF fr9
        refine g_iinc (pc := 167) (ls' := [_, _, _, _, _, _]) dX1_yearBy_167 rfl (by first | exact nI_1 _ | exact rfl) (by decide) rfl rfl ?_
        refine g_goto (pc := 170) 30 dX1_yearBy_170 (by decide) ?_
        refine ih (k + 1) _ _ _ (by omega) (by omega) hI hF ?_ kk
        rw [yrN_s]
        obtain ⟨y1, y2, y3, y4, y5, y6⟩ := hy2
        have z0 := he9.r0
        refine ⟨y1.tr (pE.of he9), hz9, y3.day b10, ?_, ?_, ?_⟩
        · rw [z0]; exact y4
        · rw [z0]; exact y5
        · rw [z0, y6]
          exact (cmo_c (fun p hp => congrArg (fun z : Int32 => !(decide (z = -1))) (day_36 b10 (by omega) (by omega)))).symm
      · have hk0 : 0 < gR g := by
          rcases Nat.eq_zero_or_pos (gR g) with z | z
          · exact absurd (by rw [z]; decide) c_112
          · exact z
        have hk1 : 0 < gP g := by
          rcases Nat.eq_zero_or_pos (gP g) with z | z
          · exact absurd (by rw [z]; decide) c_119
          · exact z
        obtain ⟨hp1, hp2, hp3, hp4, hp5, hp6⟩ := hy
        refine g_aload_n (pc := 122) dX1_yearBy_122 rfl ?_
        refine g_aload_n (pc := 123) dX1_yearBy_123 rfl ?_
        refine g_cV (pc := 124) (M' := mX1_relics) (as := []) (ci := 1) rfl i_X1_165_1 eX1_relics dX1_yearBy_124 hI.1 (k_relics (by omega) hI) (by omega) rfl rfl (Nat.le_of_ble_eq_true rfl) ?_
        refine c_cV (pc := 127) (M' := mX1_draw) (as := [_]) (ci := 1) rfl i_X1_409_1 eX1_draw dX1_yearBy_127 hI.1 (k_draw hI _ (by assumption) (by omega)) (by omega) rfl rfl (Nat.le_of_ble_eq_true rfl) (fun h hI fr => ?_)
        replace hF := cFr.tr hF fr
        rw [hp4]
        refine g_istore (pc := 130) (ls' := [_, _, _, _, _, _]) dX1_yearBy_130 (by decide) rfl rfl ?_
        refine g_aload_n (pc := 132) dX1_yearBy_132 rfl ?_
        refine g_dup (pc := 133) dX1_yearBy_133 rfl ?_
        refine g_getfield (pc := 134) f_X1_403_1 dX1_yearBy_134 hI.1 rfl ?_
        rw [sv_nj (by decide), hp6]
        refine g_aload_n (pc := 137) dX1_yearBy_137 rfl ?_
        refine g_iload (pc := 138) dX1_yearBy_138 rfl ?_
        refine g_aload_n (pc := 140) dX1_yearBy_140 rfl ?_
        refine g_aload_n (pc := 141) dX1_yearBy_141 rfl ?_
        refine g_cV (pc := 142) (M' := mX1_pilgrims) (as := []) (ci := 1) rfl i_X1_167_1 eX1_pilgrims dX1_yearBy_142 hI.1 (k_pilgrims (by omega) hI) (by omega) rfl rfl (Nat.le_of_ble_eq_true rfl) ?_
        refine c_cV (pc := 145) (M' := mX1_draw) (as := [_]) (ci := 1) rfl i_X1_409_1 eX1_draw dX1_yearBy_145 hI.1 (k_draw hI _ (by assumption) (by omega)) (by omega) rfl rfl (Nat.le_of_ble_eq_true rfl) (fun h hI fr => ?_)
        replace hF := cFr.tr hF fr
        rw [sv_same, hp4]
        have hdr1 := (drwI_e (yrL (gD g) (gR g) (yrN (mlaw V) (gD g) (gS g) (gR g) (gP g) (V 31, x, 0) k) (gS g)).2.1 hk0 (show gR g ≤ 100 by omega)).2
        have hdr2 := (drwI_e (drwS (yrL (gD g) (gR g) (yrN (mlaw V) (gD g) (gS g) (gR g) (gP g) (V 31, x, 0) k) (gS g)).2.1) hk1 (show gP g ≤ 100 by omega)).2
        refine g_callV (pc := 148) (M' := mX10_cures) (as := [_, _]) (ci := 10) rfl i_X1_412_10 eX10_cures dX1_yearBy_148 (hI.2.2.2.1 1 liv1).1 (k_cures (by omega) hI liv1 hp2.f0.f0 hp3 (drwI (yrL (gD g) (gR g) (yrN (mlaw V) (gD g) (gS g) (gR g) (gP g) (V 31, x, 0) k) (gS g)).2.1 (gR g)) (drwI (drwS (yrL (gD g) (gR g) (yrN (mlaw V) (gD g) (gS g) (gR g) (gP g) (V 31, x, 0) k) (gS g)).2.1) (gP g)) hdr1 hdr2) (by omega) rfl rfl (Nat.le_of_ble_eq_true rfl) (by omega) (by omega) (fun C9 x9 h9 q9 => ?_) (fun r9 h9 q9 => ?_)
        · cases q9.1
        obtain ⟨e9, W9, hI, fr9, hz9, he9⟩ := q9
        cases e9
        replace hF := cFr.tr hF fr9
        refine g_ifB_eq (pc := 151) 158 dX1_yearBy_151 (by decide) (fun c_151 => ?_) (fun c_151 => ?_)
        · refine g_iconst (pc := 158) (v := 0) dX1_yearBy_158 (by decide) ?_
          refine g_iadd (pc := 159) dX1_yearBy_159 ?_
          refine c_put (pc := 160) hI w_X1_403_1 rfl (by decide) dX1_yearBy_160 (fun h hI fr => ?_)
          replace hF := cFr.tr hF fr
          have ec : yrC (mlaw V) (gD g) (gR g) (gP g) (yrL (gD g) (gR g) (yrN (mlaw V) (gD g) (gS g) (gR g) (gP g) (V 31, x, 0) k) (gS g)) = ((if ccI (mlaw V) (gD g) (gR g) (yrL (gD g) (gR g) (yrN (mlaw V) (gD g) (gS g) (gR g) (gP g) (V 31, x, 0) k) (gS g)).1 (drwI (yrL (gD g) (gR g) (yrN (mlaw V) (gD g) (gS g) (gR g) (gP g) (V 31, x, 0) k) (gS g)).2.1 (gR g)) (drwI (drwS (yrL (gD g) (gR g) (yrN (mlaw V) (gD g) (gS g) (gR g) (gP g) (V 31, x, 0) k) (gS g)).2.1) (gP g)) = true then curR (yrL (gD g) (gR g) (yrN (mlaw V) (gD g) (gS g) (gR g) (gP g) (V 31, x, 0) k) (gS g)).1 (drwI (yrL (gD g) (gR g) (yrN (mlaw V) (gD g) (gS g) (gR g) (gP g) (V 31, x, 0) k) (gS g)).2.1 (gR g)) (drwI (drwS (yrL (gD g) (gR g) (yrN (mlaw V) (gD g) (gS g) (gR g) (gP g) (V 31, x, 0) k) (gS g)).2.1) (gP g)) else (yrL (gD g) (gR g) (yrN (mlaw V) (gD g) (gS g) (gR g) (gP g) (V 31, x, 0) k) (gS g)).1), drwS (drwS (yrL (gD g) (gR g) (yrN (mlaw V) (gD g) (gS g) (gR g) (gP g) (V 31, x, 0) k) (gS g)).2.1), (yrL (gD g) (gR g) (yrN (mlaw V) (gD g) (gS g) (gR g) (gP g) (V 31, x, 0) k) (gS g)).2.2) := yrC_y ⟨hk0, hk1⟩
          rw [if_neg (by rw [c_151]; decide)] at ec hz9
          have hz1 := hz9.f0 (j := 23) (y := cmoI (gP g) (V 31) (yrL (gD g) (gR g) (yrN (mlaw V) (gD g) (gS g) (gR g) (gP g) (V 31, x, 0) k) (gS g)).1 + 0)
          have hy2 : yP g W (sv W9 0 23 (cmoI (gP g) (V 31) (yrL (gD g) (gR g) (yrN (mlaw V) (gD g) (gS g) (gR g) (gP g) (V 31, x, 0) k) (gS g)).1 + 0)) (V 31) (gP g) (yrC (mlaw V) (gD g) (gR g) (gP g) (yrL (gD g) (gR g) (yrN (mlaw V) (gD g) (gS g) (gR g) (gP g) (V 31, x, 0) k) (gS g))) := by
            rw [ec]
            have z0 := he9.r0
            refine ⟨(((hp1.f0 (j := 14) (Or.inl rfl)).f0 (j := 14) (Or.inl rfl)).tr (pE.of he9)).f0 (Or.inr (Or.inl rfl)), hz1, hp3, ?_, ?_, ?_⟩
            · rw [sv_nj (by decide), z0, sv_same, sv_same, hp4]
            · rw [sv_nj (by decide), z0, sv_nj (by decide), sv_nj (by decide)]; exact hp5
            · rw [sv_same, Int32.add_zero]
          have hz2 : HZ g (sv W9 0 23 (cmoI (gP g) (V 31) (yrL (gD g) (gR g) (yrN (mlaw V) (gD g) (gS g) (gR g) (gP g) (V 31, x, 0) k) (gS g)).1 + 0)) 1 (yrC (mlaw V) (gD g) (gR g) (gP g) (yrL (gD g) (gR g) (yrN (mlaw V) (gD g) (gS g) (gR g) (gP g) (V 31, x, 0) k) (gS g))).1 := by
            rw [ec]
            exact hz1
          replace hz1 := hz2
          refine g_aload_n (pc := 163) dX1_yearBy_163 rfl ?_
          refine g_callV (pc := 164) (M' := mX10_passes) (as := []) (ci := 10) rfl i_X1_341_10 eX10_passes dX1_yearBy_164 (hI.2.2.2.1 1 liv1).1 (k_passes (by omega) hI liv1 hz1) (by omega) rfl rfl (Nat.le_of_ble_eq_true rfl) (by omega) (by omega) (fun C9 x9 h9 q9 => ?_) (fun r9 h9 q9 => ?_)
          · cases q9.1
          obtain ⟨e9, W9, hI, fr9, hz9, he9⟩ := q9
          cases e9
          replace hF := cFr.tr hF fr9
          refine g_iinc (pc := 167) (ls' := [_, _, _, _, _, _]) dX1_yearBy_167 rfl (by first | exact nI_1 _ | exact rfl) (by decide) rfl rfl ?_
          refine g_goto (pc := 170) 30 dX1_yearBy_170 (by decide) ?_
          refine ih (k + 1) _ _ _ (by omega) (by omega) hI hF ?_ kk
          rw [yrN_s]
          obtain ⟨y1, y2, y3, y4, y5, y6⟩ := hy2
          have z0 := he9.r0
          refine ⟨y1.tr (pE.of he9), hz9, y3.day b10, ?_, ?_, ?_⟩
          · rw [z0]; exact y4
          · rw [z0]; exact y5
          · rw [z0, y6]
            exact (cmo_c (fun p hp => congrArg (fun z : Int32 => !(decide (z = -1))) (day_36 b10 (by omega) (by omega)))).symm
        · refine g_iconst (pc := 154) (v := 1) dX1_yearBy_154 (by decide) ?_
          refine g_goto (pc := 155) 159 dX1_yearBy_155 (by decide) ?_
          refine g_iadd (pc := 159) dX1_yearBy_159 ?_
          refine c_put (pc := 160) hI w_X1_403_1 rfl (by decide) dX1_yearBy_160 (fun h hI fr => ?_)
          replace hF := cFr.tr hF fr
          have ec : yrC (mlaw V) (gD g) (gR g) (gP g) (yrL (gD g) (gR g) (yrN (mlaw V) (gD g) (gS g) (gR g) (gP g) (V 31, x, 0) k) (gS g)) = ((if ccI (mlaw V) (gD g) (gR g) (yrL (gD g) (gR g) (yrN (mlaw V) (gD g) (gS g) (gR g) (gP g) (V 31, x, 0) k) (gS g)).1 (drwI (yrL (gD g) (gR g) (yrN (mlaw V) (gD g) (gS g) (gR g) (gP g) (V 31, x, 0) k) (gS g)).2.1 (gR g)) (drwI (drwS (yrL (gD g) (gR g) (yrN (mlaw V) (gD g) (gS g) (gR g) (gP g) (V 31, x, 0) k) (gS g)).2.1) (gP g)) = true then curR (yrL (gD g) (gR g) (yrN (mlaw V) (gD g) (gS g) (gR g) (gP g) (V 31, x, 0) k) (gS g)).1 (drwI (yrL (gD g) (gR g) (yrN (mlaw V) (gD g) (gS g) (gR g) (gP g) (V 31, x, 0) k) (gS g)).2.1 (gR g)) (drwI (drwS (yrL (gD g) (gR g) (yrN (mlaw V) (gD g) (gS g) (gR g) (gP g) (V 31, x, 0) k) (gS g)).2.1) (gP g)) else (yrL (gD g) (gR g) (yrN (mlaw V) (gD g) (gS g) (gR g) (gP g) (V 31, x, 0) k) (gS g)).1), drwS (drwS (yrL (gD g) (gR g) (yrN (mlaw V) (gD g) (gS g) (gR g) (gP g) (V 31, x, 0) k) (gS g)).2.1), (yrL (gD g) (gR g) (yrN (mlaw V) (gD g) (gS g) (gR g) (gP g) (V 31, x, 0) k) (gS g)).2.2) := yrC_y ⟨hk0, hk1⟩
          rw [if_pos c_151] at ec hz9
          have hz1 := hz9.f0 (j := 23) (y := cmoI (gP g) (V 31) (yrL (gD g) (gR g) (yrN (mlaw V) (gD g) (gS g) (gR g) (gP g) (V 31, x, 0) k) (gS g)).1 + 1)
          have hy2 : yP g W (sv W9 0 23 (cmoI (gP g) (V 31) (yrL (gD g) (gR g) (yrN (mlaw V) (gD g) (gS g) (gR g) (gP g) (V 31, x, 0) k) (gS g)).1 + 1)) (V 31) (gP g) (yrC (mlaw V) (gD g) (gR g) (gP g) (yrL (gD g) (gR g) (yrN (mlaw V) (gD g) (gS g) (gR g) (gP g) (V 31, x, 0) k) (gS g))) := by
            rw [ec]
            have z0 := he9.r0
            have hcc := ccI_1 c_151
            refine ⟨(((hp1.f0 (j := 14) (Or.inl rfl)).f0 (j := 14) (Or.inl rfl)).tr (pE.of he9)).f0 (Or.inr (Or.inl rfl)), hz1, hp3.cur (by omega) (by omega), ?_, ?_, ?_⟩
            · rw [sv_nj (by decide), z0, sv_same, sv_same, hp4]
            · rw [sv_nj (by decide), z0, sv_nj (by decide), sv_nj (by decide)]; exact hp5
            · rw [sv_same]
              exact (cmo_cur bP (by omega) (by omega) hcc).symm
          have hz2 : HZ g (sv W9 0 23 (cmoI (gP g) (V 31) (yrL (gD g) (gR g) (yrN (mlaw V) (gD g) (gS g) (gR g) (gP g) (V 31, x, 0) k) (gS g)).1 + 1)) 1 (yrC (mlaw V) (gD g) (gR g) (gP g) (yrL (gD g) (gR g) (yrN (mlaw V) (gD g) (gS g) (gR g) (gP g) (V 31, x, 0) k) (gS g))).1 := by
            rw [ec]
            exact hz1
          replace hz1 := hz2
          refine g_aload_n (pc := 163) dX1_yearBy_163 rfl ?_
          refine g_callV (pc := 164) (M' := mX10_passes) (as := []) (ci := 10) rfl i_X1_341_10 eX10_passes dX1_yearBy_164 (hI.2.2.2.1 1 liv1).1 (k_passes (by omega) hI liv1 hz1) (by omega) rfl rfl (Nat.le_of_ble_eq_true rfl) (by omega) (by omega) (fun C9 x9 h9 q9 => ?_) (fun r9 h9 q9 => ?_)
          · cases q9.1
          obtain ⟨e9, W9, hI, fr9, hz9, he9⟩ := q9
          cases e9
          replace hF := cFr.tr hF fr9
          refine g_iinc (pc := 167) (ls' := [_, _, _, _, _, _]) dX1_yearBy_167 rfl (by first | exact nI_1 _ | exact rfl) (by decide) rfl rfl ?_
          refine g_goto (pc := 170) 30 dX1_yearBy_170 (by decide) ?_
          refine ih (k + 1) _ _ _ (by omega) (by omega) hI hF ?_ kk
          rw [yrN_s]
          obtain ⟨y1, y2, y3, y4, y5, y6⟩ := hy2
          have z0 := he9.r0
          refine ⟨y1.tr (pE.of he9), hz9, y3.day b10, ?_, ?_, ?_⟩
          · rw [z0]; exact y4
          · rw [z0]; exact y5
          · rw [z0, y6]
            exact (cmo_c (fun p hp => congrArg (fun z : Int32 => !(decide (z = -1))) (day_36 b10 (by omega) (by omega)))).symm
set_option maxHeartbeats 2000000 in
theorem k_yearBy {n : Nat} (hd : 640 ≤ d) (hI : InvC ac W g (mlaw V) h) (hz : HZ g W 0 (V 31)) (hb : HB (V 31)) (hn : n ≤ 96) (x : Int32) : Ct E d 0 0 mX1_yearBy [vR (nC ac 1), vI x, vI (nI n)] h (yQ ac V W g h (yrN (mlaw V) (gD g) (gS g) (gR g) (gP g) (V 31, x, 0) n)) := by
  refine ct_of (by decide) (Nat.le_of_ble_eq_true rfl) rfl ?_
  have hF : cFr h h := cFr.rf
  have b8 := hI.2.2.2.2.1.2.2.2.2.2.2.2.1
  have b10 := hI.2.2.2.2.1.2.2.2.2.2.2.2.2.1
  have bP := hI.2.2.2.2.1.2.2.2.2.2.2.2.2.2.1
  refine g_aload_n (pc := 0) dX1_yearBy_0 rfl ?_
  refine g_getfield (pc := 1) f_X1_62_1 dX1_yearBy_1 hI.1 rfl ?_
  refine g_aload_n (pc := 4) dX1_yearBy_4 rfl ?_
  refine g_getfield (pc := 5) f_X1_58_1 dX1_yearBy_5 hI.1 rfl ?_
  refine g_callV (pc := 8) (M' := mX10_becomes) (as := [_]) (ci := 10) rfl i_X1_248_10 eX10_becomes dX1_yearBy_8 (hI.2.2.2.1 1 liv1).1 (k_becomes (by omega) hI liv1 liv0 (by decide) hz) (by omega) rfl rfl (Nat.le_of_ble_eq_true rfl) (by omega) (by omega) (fun C9 x9 h9 q9 => ?_) (fun r9 h9 q9 => ?_)
  · cases q9.1
  obtain ⟨e9, W', hI, fr9, hz1, he9⟩ := q9
  cases e9
  replace hF := cFr.tr hF fr9
  have hp := pE.of he9
  refine g_astore_n (pc := 11) (ls' := [_, _, _, _, _, _]) dX1_yearBy_11 (by decide) rfl rfl ?_
  refine g_aload_n (pc := 12) dX1_yearBy_12 rfl ?_
  refine g_iload_n (pc := 13) dX1_yearBy_13 rfl ?_
  refine c_put (pc := 14) hI w_X1_399_1 rfl (by decide) dX1_yearBy_14 (fun h hI fr => ?_)
  replace hF := cFr.tr hF fr
  refine g_aload_n (pc := 17) dX1_yearBy_17 rfl ?_
  refine g_iconst (pc := 18) (v := 0) dX1_yearBy_18 (by decide) ?_
  refine c_put (pc := 19) hI w_X1_403_1 rfl (by decide) dX1_yearBy_19 (fun h hI fr => ?_)
  replace hF := cFr.tr hF fr
  refine g_aload_n (pc := 22) dX1_yearBy_22 rfl ?_
  refine g_iconst (pc := 23) (v := 0) dX1_yearBy_23 (by decide) ?_
  refine c_put (pc := 24) hI w_X1_406_1 rfl (by decide) dX1_yearBy_24 (fun h hI fr => ?_)
  replace hF := cFr.tr hF fr
  refine g_iconst (pc := 27) (v := 0) dX1_yearBy_27 (by decide) ?_
  refine g_istore (pc := 28) (ls' := [_, _, _, _, _, _]) dX1_yearBy_28 (by decide) rfl rfl ?_
  refine l_ky2 (by omega) hn n 0 _ _ _ rfl (Nat.zero_le _) hI hF ⟨((hp.f0 (Or.inl rfl)).f0 (Or.inr (Or.inl rfl))).f0 (Or.inr (Or.inr rfl)), hz1.f0.f0.f0, hb, ?_, ?_, ?_⟩ (fun h W' u hI hF hy => ?_)
  · rw [sv_nj (by decide), sv_nj (by decide), sv_same]; rfl
  · rw [sv_same]; rfl
  · rw [sv_nj (by decide), sv_same]
    exact (Int32.sub_self _).symm
  refine g_aload_n (pc := 173) dX1_yearBy_173 rfl ?_
  refine g_areturn (pc := 174) dX1_yearBy_174 rfl (by first | exact Or.inl ⟨_, rfl⟩ | exact Or.inr ⟨_, rfl⟩) ?_
  exact ⟨rfl, W', hI, hF, hy⟩
set_option maxHeartbeats 2000000 in
theorem k_year (hd : 650 ≤ d) (hI : InvC ac W g (mlaw V) h) (hz : HZ g W 0 (V 31)) (hb : HB (V 31)) (x : Int32) (n w : Nat) (h1 : 1 ≤ n) (hn : n ≤ 96) (hw : w ≤ 3) : Ct E d 0 0 mX1_year [vR (nC ac 1), vI x, vI (nI n), vI (nI w)] h (pQ ac W g (mlaw V) h (yeaS (mlaw V) (gD g) (gR g) (gP g) (V 31) (yrN (mlaw V) (gD g) (gS g) (gR g) (gP g) (V 31, x, 0) n) w)) := by
  refine ct_of (by decide) (Nat.le_of_ble_eq_true rfl) rfl ?_
  have hF : cFr h h := cFr.rf
  have b8 := hI.2.2.2.2.1.2.2.2.2.2.2.2.1
  have b10 := hI.2.2.2.2.1.2.2.2.2.2.2.2.2.1
  have bP := hI.2.2.2.2.1.2.2.2.2.2.2.2.2.2.1
  have hv2 : inR (nI w) 0 3 = true := inC_of (n := 3) hw (by decide)
  have hv1 : inR (nI n) 1 96 = true := by
    unfold inR
    show (!decide (nI n < nI 1) && !decide (nI 96 < nI n)) = true
    rw [decide_eq_false (Int32.not_lt.mpr (nI_le (a := 1) (b := n) h1 (by omega))), decide_eq_false (Int32.not_lt.mpr (nI_le (a := n) (b := 96) hn (by decide)))]
    rfl
  refine g_aload_n (pc := 0) dX1_year_0 rfl ?_
  refine g_iload_n (pc := 1) dX1_year_1 rfl ?_
  refine g_iconst (pc := 2) (v := 1) dX1_year_2 (by decide) ?_
  refine g_bipush (pc := 3) (v := 96) dX1_year_3 (by decide) ?_
  refine g_cS (pc := 5) (M' := mX1_isIn) (as := [_, _, _]) i_X1_252 eX1_isIn dX1_year_5 (k_isIn _ _ _) (by omega) rfl rfl (Nat.le_of_ble_eq_true rfl) ?_
  refine g_ifB_eq (pc := 8) 24 dX1_year_8 (by decide) (fun c_8 => absurd (hv1.symm.trans c_8) (by decide)) (fun c_8 => ?_)
  refine g_iload_n (pc := 11) dX1_year_11 rfl ?_
  refine g_iconst (pc := 12) (v := 0) dX1_year_12 (by decide) ?_
  refine g_iconst (pc := 13) (v := 3) dX1_year_13 (by decide) ?_
  refine g_cS (pc := 14) (M' := mX1_isIn) (as := [_, _, _]) i_X1_252 eX1_isIn dX1_year_14 (k_isIn _ _ _) (by omega) rfl rfl (Nat.le_of_ble_eq_true rfl) ?_
  refine g_ifB_eq (pc := 17) 24 dX1_year_17 (by decide) (fun c_17 => absurd (hv2.symm.trans c_17) (by decide)) (fun c_17 => ?_)
  refine g_iconst (pc := 20) (v := 1) dX1_year_20 (by decide) ?_
  refine g_goto (pc := 21) 25 dX1_year_21 (by decide) ?_
  refine g_cVv (pc := 25) (M' := mX1_need) (as := [_]) (ci := 1) rfl i_X1_183_1 eX1_need dX1_year_25 hI.1 (k_needT) (by omega) rfl rfl (Nat.le_of_ble_eq_true rfl) ?_
  refine g_aload_n (pc := 28) dX1_year_28 rfl ?_
  refine g_iload_n (pc := 29) dX1_year_29 rfl ?_
  refine g_iload_n (pc := 30) dX1_year_30 rfl ?_
  refine g_callV (pc := 31) (M' := mX1_yearBy) (as := [_, _]) (ci := 1) rfl i_X1_415_1 eX1_yearBy dX1_year_31 hI.1 (k_yearBy (by omega) hI hz hb (by omega) _) (by omega) rfl rfl (Nat.le_of_ble_eq_true rfl) (by omega) (by omega) (fun C9 x9 h9 q9 => ?_) (fun r9 h9 q9 => ?_)
  · cases q9.1
  obtain ⟨e9, W', hI, fr9, hy⟩ := q9
  cases e9
  replace hF := cFr.tr hF fr9
  refine g_astore (pc := 34) (ls' := [_, _, _, _, _]) dX1_year_34 (by decide) rfl rfl ?_
  refine g_iload_n (pc := 36) dX1_year_36 rfl ?_
  refine g_if_ne (pc := 37) 47 dX1_year_37 (by decide) (fun c_37 => ?_) (fun c_37 => ?_)
  · refine g_iload_n (pc := 47) dX1_year_47 rfl ?_
    refine g_iconst (pc := 48) (v := 1) dX1_year_48 (by decide) ?_
    refine g_icmp_ne (pc := 49) 59 dX1_year_49 (by decide) (fun c_49 => ?_) (fun c_49 => ?_)
    · refine g_iload_n (pc := 59) dX1_year_59 rfl ?_
      refine g_iconst (pc := 60) (v := 2) dX1_year_60 (by decide) ?_
      refine g_icmp_ne (pc := 61) 72 dX1_year_61 (by decide) (fun c_61 => ?_) (fun c_61 => ?_)
      · refine g_aload (pc := 72) dX1_year_72 rfl ?_
        refine g_cV (pc := 74) (M' := mX10_cured) (as := []) (ci := 10) rfl i_X1_264_10 eX10_cured dX1_year_74 (hI.2.2.2.1 1 liv1).1 (k_cured (by omega) hI liv1 hy.2.1) (by omega) rfl rfl (Nat.le_of_ble_eq_true rfl) ?_
        refine g_ireturn (pc := 77) dX1_year_77 rfl (by first | exact rfl | exact j_nb _) ?_
        have e : w = 3 := by
          have e0 : ¬ w = 0 := fun z => c_37 (by rw [z]; rfl)
          have e1 : ¬ w = 1 := fun z => c_49 (by rw [z]; rfl)
          have e2 : ¬ w = 2 := fun z => c_61 (by rw [z]; rfl)
          omega
        subst e
        exact ⟨rfl, W', hI, hF, hy.1⟩
      · refine g_aload (pc := 64) dX1_year_64 rfl ?_
        refine c_cV (pc := 66) (M' := mX10_powerAll) (as := []) (ci := 10) rfl i_X1_270_10 eX10_powerAll dX1_year_66 (hI.2.2.2.1 1 liv1).1 (k_powerAll (by omega) hI liv1 hy.2.1) (by omega) rfl rfl (Nat.le_of_ble_eq_true rfl) (fun h hI fr => ?_)
        replace hF := cFr.tr hF fr
        refine g_goto (pc := 69) 77 dX1_year_69 (by decide) ?_
        refine g_ireturn (pc := 77) dX1_year_77 rfl (by first | exact rfl | exact j_nb _) ?_
        have e : w = 2 := (nI_eq (a := w) (b := 2) (by omega) (by decide)).mp c_61
        subst e
        exact ⟨rfl, W', hI, hF, hy.1⟩
    · refine g_aload_n (pc := 52) dX1_year_52 rfl ?_
      refine g_getfield (pc := 53) f_X1_406_1 dX1_year_53 hI.1 rfl ?_
      refine g_goto (pc := 56) 77 dX1_year_56 (by decide) ?_
      refine g_ireturn (pc := 77) dX1_year_77 rfl (by first | exact rfl | exact j_nb _) ?_
      have e : w = 1 := (nI_eq (a := w) (b := 1) (by omega) (by decide)).mp c_49
      subst e
      exact ⟨rv hy.2.2.2.2.1, W', hI, hF, hy.1⟩
  · refine g_aload_n (pc := 40) dX1_year_40 rfl ?_
    refine g_getfield (pc := 41) f_X1_403_1 dX1_year_41 hI.1 rfl ?_
    refine g_goto (pc := 44) 77 dX1_year_44 (by decide) ?_
    refine g_ireturn (pc := 77) dX1_year_77 rfl (by first | exact rfl | exact j_nb _) ?_
    have e : w = 0 := (nI_eq (a := w) (b := 0) (by omega) (by decide)).mp c_37
    subst e
    exact ⟨rv hy.2.2.2.2.2, W', hI, hF, hy.1⟩
set_option maxHeartbeats 4000000 in
theorem l_kspan {bc bs c n p : Nat} {Q : jR → jH → Prop} {h0 : jH} {x w : Int32} (hd : 650 ≤ d) (hz : HZ g W 0 (V 31)) (hb : HB (V 31)) (hc : c ≤ 20) (hn : n ≤ 96) (hp8 : p < gP g) : ∀ (m r : Nat) (h : jH) (W' : mV) (u : Option jV), c - r = m → r ≤ c → InvC ac W' g (mlaw V) h → cFr h0 h → pE W W' → (∀ (h : jH) (W' : mV) (u : Option jV), InvC ac W' g (mlaw V) h → cFr h0 h → pE W W' → G E d bc bs mX1_span 147 [some (vR (nC ac 1)), some (vI x), some (vI (nI c)), some (vI (nI n)), some (vI w), some (vI (nI p)), some (vI (spaF (spC (mlaw V) (gD g) (gS g) (gR g) (gP g) (V 31) x n) (spQ (mlaw V) (gD g) (gS g) (gR g) (gP g) (V 31) x n p) c).1), some (vI (spaF (spC (mlaw V) (gD g) (gS g) (gR g) (gP g) (V 31) x n) (spQ (mlaw V) (gD g) (gS g) (gR g) (gP g) (V 31) x n p) c).2.1), some (vI (spaF (spC (mlaw V) (gD g) (gS g) (gR g) (gP g) (V 31) x n) (spQ (mlaw V) (gD g) (gS g) (gR g) (gP g) (V 31) x n p) c).2.2), some (vI (nI c)), u] [] h Q) → G E d bc bs mX1_span 66 [some (vR (nC ac 1)), some (vI x), some (vI (nI c)), some (vI (nI n)), some (vI w), some (vI (nI p)), some (vI (spaF (spC (mlaw V) (gD g) (gS g) (gR g) (gP g) (V 31) x n) (spQ (mlaw V) (gD g) (gS g) (gR g) (gP g) (V 31) x n p) r).1), some (vI (spaF (spC (mlaw V) (gD g) (gS g) (gR g) (gP g) (V 31) x n) (spQ (mlaw V) (gD g) (gS g) (gR g) (gP g) (V 31) x n p) r).2.1), some (vI (spaF (spC (mlaw V) (gD g) (gS g) (gR g) (gP g) (V 31) x n) (spQ (mlaw V) (gD g) (gS g) (gR g) (gP g) (V 31) x n p) r).2.2), some (vI (nI r)), u] [] h Q := by
  intro m
  induction m with
  | zero =>
    intro r h W' u hm hr hI hF hp kk
    have e : r = c := by omega
    subst e
    refine g_iload (pc := 66) dX1_span_66 rfl ?_
    refine g_iload_n (pc := 68) dX1_span_68 rfl ?_
    refine g_icmp_ge (pc := 69) 147 dX1_span_69 (by decide) (fun c_69 => ?_) (fun c_69 => absurd (nI_le (Nat.le_refl _) (by omega)) c_69)
    exact kk h W' u hI hF hp
  | succ m ih =>
    intro r h W' u hm hr hI hF hp kk
    have b8 := hI.2.2.2.2.1.2.2.2.2.2.2.2.1
    have b10 := hI.2.2.2.2.1.2.2.2.2.2.2.2.2.1
    have bP := hI.2.2.2.2.1.2.2.2.2.2.2.2.2.2.1
    refine g_iload (pc := 66) dX1_span_66 rfl ?_
    refine g_iload_n (pc := 68) dX1_span_68 rfl ?_
    refine g_icmp_ge (pc := 69) 147 dX1_span_69 (by decide) (fun c_69 => absurd c_69 (by intro w; have := (nI_leI (by omega) (by omega)).mp w; omega)) (fun c_69 => ?_)
    refine g_aload_n (pc := 72) dX1_span_72 rfl ?_
    refine g_iload_n (pc := 73) dX1_span_73 rfl ?_
    refine g_iload (pc := 74) dX1_span_74 rfl ?_
    refine g_iadd (pc := 76) dX1_span_76 ?_
    refine g_iload_n (pc := 77) dX1_span_77 rfl ?_
    refine g_callV (pc := 78) (M' := mX1_yearBy) (as := [_, _]) (ci := 1) rfl i_X1_415_1 eX1_yearBy dX1_span_78 hI.1 (k_yearBy (V := V) (by omega) hI (hz.pE hp) hb hn _) (by omega) rfl rfl (Nat.le_of_ble_eq_true rfl) (by omega) (by omega) (fun C9 x9 h9 q9 => ?_) (fun r9 h9 q9 => ?_)
    · cases q9.1
    obtain ⟨e9, W9, hI, fr9, hy⟩ := q9
    cases e9
    replace hF := cFr.tr hF fr9
    refine g_astore (pc := 81) (ls' := [_, _, _, _, _, _, _, _, _, _, _]) dX1_span_81 (by decide) rfl rfl ?_
    refine g_iload (pc := 83) dX1_span_83 rfl ?_
    refine g_iconst (pc := 85) (v := -1) dX1_span_85 (by decide) ?_
    refine g_icmp_ne (pc := 86) 96 dX1_span_86 (by decide) (fun c_86 => ?_) (fun c_86 => ?_)
    · refine g_iload (pc := 96) dX1_span_96 rfl ?_
      refine g_aload_n (pc := 98) dX1_span_98 rfl ?_
      refine g_getfield (pc := 99) f_X1_403_1 dX1_span_99 hI.1 rfl ?_
      rw [show W9 0 23 = (spC (mlaw V) (gD g) (gS g) (gR g) (gP g) (V 31) x n r) from hy.2.2.2.2.2]
      refine g_cS (pc := 102) (M' := mJ12_min) (as := [_, _]) i_X1_143 eJ12_min dX1_span_102 (k_min _ _) (by omega) rfl rfl (Nat.le_of_ble_eq_true rfl) ?_
      rw [min_lessI]
      refine g_istore (pc := 105) (ls' := [_, _, _, _, _, _, _, _, _, _, _]) dX1_span_105 (by decide) rfl rfl ?_
      refine g_iload (pc := 107) dX1_span_107 rfl ?_
      refine g_aload_n (pc := 109) dX1_span_109 rfl ?_
      refine g_getfield (pc := 110) f_X1_403_1 dX1_span_110 hI.1 rfl ?_
      rw [show W9 0 23 = (spC (mlaw V) (gD g) (gS g) (gR g) (gP g) (V 31) x n r) from hy.2.2.2.2.2]
      refine g_cS (pc := 113) (M' := mJ12_max) (as := [_, _]) i_X1_149 eJ12_max dX1_span_113 (k_max _ _) (by omega) rfl rfl (Nat.le_of_ble_eq_true rfl) ?_
      rw [max_le]
      refine g_istore (pc := 116) (ls' := [_, _, _, _, _, _, _, _, _, _, _]) dX1_span_116 (by decide) rfl rfl ?_
      refine g_iload (pc := 118) dX1_span_118 rfl ?_
      refine g_aload (pc := 120) dX1_span_120 rfl ?_
      refine g_cV (pc := 122) (M' := mX10_cured) (as := []) (ci := 10) rfl i_X1_264_10 eX10_cured dX1_span_122 (hI.2.2.2.1 1 liv1).1 (k_cured (by omega) hI liv1 hy.2.1) (by omega) rfl rfl (Nat.le_of_ble_eq_true rfl) ?_
      refine g_iload (pc := 125) dX1_span_125 rfl ?_
      refine g_cS (pc := 127) (M' := mX1_has) (as := [_, _]) i_X1_350 eX1_has dX1_span_127 (k_has _ _) (by omega) rfl rfl (Nat.le_of_ble_eq_true rfl) ?_
      refine g_ifB_eq (pc := 130) 137 dX1_span_130 (by decide) (fun c_130 => ?_) (fun c_130 => ?_)
      · refine g_iconst (pc := 137) (v := 0) dX1_span_137 (by decide) ?_
        refine g_iadd (pc := 138) dX1_span_138 ?_
        refine g_istore (pc := 139) (ls' := [_, _, _, _, _, _, _, _, _, _, _]) dX1_span_139 (by decide) rfl rfl ?_
        refine g_iinc (pc := 141) (ls' := [_, _, _, _, _, _, _, _, _, _, _]) dX1_span_141 rfl (by first | exact nI_1 _ | exact rfl) (by decide) rfl rfl ?_
        refine g_goto (pc := 144) 66 dX1_span_144 (by decide) ?_
        have q := ih (r + 1) _ W9 (some (vQ (some (nC ac 101)))) (by omega) (by omega) hI hF (hp.tr hy.1) kk
        have es : spaF (spC (mlaw V) (gD g) (gS g) (gR g) (gP g) (V 31) x n) (spQ (mlaw V) (gD g) (gS g) (gR g) (gP g) (V 31) x n p) (r + 1) = ((lessI (spaF (spC (mlaw V) (gD g) (gS g) (gR g) (gP g) (V 31) x n) (spQ (mlaw V) (gD g) (gS g) (gR g) (gP g) (V 31) x n p) r).1 (spC (mlaw V) (gD g) (gS g) (gR g) (gP g) (V 31) x n r)), moreI (spaF (spC (mlaw V) (gD g) (gS g) (gR g) (gP g) (V 31) x n) (spQ (mlaw V) (gD g) (gS g) (gR g) (gP g) (V 31) x n p) r).2.1 (spC (mlaw V) (gD g) (gS g) (gR g) (gP g) (V 31) x n r), (spaF (spC (mlaw V) (gD g) (gS g) (gR g) (gP g) (V 31) x n) (spQ (mlaw V) (gD g) (gS g) (gR g) (gP g) (V 31) x n p) r).2.2 + bI (spQ (mlaw V) (gD g) (gS g) (gR g) (gP g) (V 31) x n p r)) := by
          rw [spaF, if_neg c_86]
        rw [es, show spQ (mlaw V) (gD g) (gS g) (gR g) (gP g) (V 31) x n p r = false from c_130] at q
        exact q
      · refine g_iconst (pc := 133) (v := 1) dX1_span_133 (by decide) ?_
        refine g_goto (pc := 134) 138 dX1_span_134 (by decide) ?_
        refine g_iadd (pc := 138) dX1_span_138 ?_
        refine g_istore (pc := 139) (ls' := [_, _, _, _, _, _, _, _, _, _, _]) dX1_span_139 (by decide) rfl rfl ?_
        refine g_iinc (pc := 141) (ls' := [_, _, _, _, _, _, _, _, _, _, _]) dX1_span_141 rfl (by first | exact nI_1 _ | exact rfl) (by decide) rfl rfl ?_
        refine g_goto (pc := 144) 66 dX1_span_144 (by decide) ?_
        have q := ih (r + 1) _ W9 (some (vQ (some (nC ac 101)))) (by omega) (by omega) hI hF (hp.tr hy.1) kk
        have es : spaF (spC (mlaw V) (gD g) (gS g) (gR g) (gP g) (V 31) x n) (spQ (mlaw V) (gD g) (gS g) (gR g) (gP g) (V 31) x n p) (r + 1) = ((lessI (spaF (spC (mlaw V) (gD g) (gS g) (gR g) (gP g) (V 31) x n) (spQ (mlaw V) (gD g) (gS g) (gR g) (gP g) (V 31) x n p) r).1 (spC (mlaw V) (gD g) (gS g) (gR g) (gP g) (V 31) x n r)), moreI (spaF (spC (mlaw V) (gD g) (gS g) (gR g) (gP g) (V 31) x n) (spQ (mlaw V) (gD g) (gS g) (gR g) (gP g) (V 31) x n p) r).2.1 (spC (mlaw V) (gD g) (gS g) (gR g) (gP g) (V 31) x n r), (spaF (spC (mlaw V) (gD g) (gS g) (gR g) (gP g) (V 31) x n) (spQ (mlaw V) (gD g) (gS g) (gR g) (gP g) (V 31) x n p) r).2.2 + bI (spQ (mlaw V) (gD g) (gS g) (gR g) (gP g) (V 31) x n p r)) := by
          rw [spaF, if_neg c_86]
        rw [es, show spQ (mlaw V) (gD g) (gS g) (gR g) (gP g) (V 31) x n p r = true from c_130] at q
        exact q
    · refine g_aload_n (pc := 89) dX1_span_89 rfl ?_
      refine g_getfield (pc := 90) f_X1_403_1 dX1_span_90 hI.1 rfl ?_
      rw [show W9 0 23 = (spC (mlaw V) (gD g) (gS g) (gR g) (gP g) (V 31) x n r) from hy.2.2.2.2.2]
      refine g_goto (pc := 93) 105 dX1_span_93 (by decide) ?_
      
      refine g_istore (pc := 105) (ls' := [_, _, _, _, _, _, _, _, _, _, _]) dX1_span_105 (by decide) rfl rfl ?_
      refine g_iload (pc := 107) dX1_span_107 rfl ?_
      refine g_aload_n (pc := 109) dX1_span_109 rfl ?_
      refine g_getfield (pc := 110) f_X1_403_1 dX1_span_110 hI.1 rfl ?_
      rw [show W9 0 23 = (spC (mlaw V) (gD g) (gS g) (gR g) (gP g) (V 31) x n r) from hy.2.2.2.2.2]
      refine g_cS (pc := 113) (M' := mJ12_max) (as := [_, _]) i_X1_149 eJ12_max dX1_span_113 (k_max _ _) (by omega) rfl rfl (Nat.le_of_ble_eq_true rfl) ?_
      rw [max_le]
      refine g_istore (pc := 116) (ls' := [_, _, _, _, _, _, _, _, _, _, _]) dX1_span_116 (by decide) rfl rfl ?_
      refine g_iload (pc := 118) dX1_span_118 rfl ?_
      refine g_aload (pc := 120) dX1_span_120 rfl ?_
      refine g_cV (pc := 122) (M' := mX10_cured) (as := []) (ci := 10) rfl i_X1_264_10 eX10_cured dX1_span_122 (hI.2.2.2.1 1 liv1).1 (k_cured (by omega) hI liv1 hy.2.1) (by omega) rfl rfl (Nat.le_of_ble_eq_true rfl) ?_
      refine g_iload (pc := 125) dX1_span_125 rfl ?_
      refine g_cS (pc := 127) (M' := mX1_has) (as := [_, _]) i_X1_350 eX1_has dX1_span_127 (k_has _ _) (by omega) rfl rfl (Nat.le_of_ble_eq_true rfl) ?_
      refine g_ifB_eq (pc := 130) 137 dX1_span_130 (by decide) (fun c_130 => ?_) (fun c_130 => ?_)
      · refine g_iconst (pc := 137) (v := 0) dX1_span_137 (by decide) ?_
        refine g_iadd (pc := 138) dX1_span_138 ?_
        refine g_istore (pc := 139) (ls' := [_, _, _, _, _, _, _, _, _, _, _]) dX1_span_139 (by decide) rfl rfl ?_
        refine g_iinc (pc := 141) (ls' := [_, _, _, _, _, _, _, _, _, _, _]) dX1_span_141 rfl (by first | exact nI_1 _ | exact rfl) (by decide) rfl rfl ?_
        refine g_goto (pc := 144) 66 dX1_span_144 (by decide) ?_
        have q := ih (r + 1) _ W9 (some (vQ (some (nC ac 101)))) (by omega) (by omega) hI hF (hp.tr hy.1) kk
        have es : spaF (spC (mlaw V) (gD g) (gS g) (gR g) (gP g) (V 31) x n) (spQ (mlaw V) (gD g) (gS g) (gR g) (gP g) (V 31) x n p) (r + 1) = (((spC (mlaw V) (gD g) (gS g) (gR g) (gP g) (V 31) x n r)), moreI (spaF (spC (mlaw V) (gD g) (gS g) (gR g) (gP g) (V 31) x n) (spQ (mlaw V) (gD g) (gS g) (gR g) (gP g) (V 31) x n p) r).2.1 (spC (mlaw V) (gD g) (gS g) (gR g) (gP g) (V 31) x n r), (spaF (spC (mlaw V) (gD g) (gS g) (gR g) (gP g) (V 31) x n) (spQ (mlaw V) (gD g) (gS g) (gR g) (gP g) (V 31) x n p) r).2.2 + bI (spQ (mlaw V) (gD g) (gS g) (gR g) (gP g) (V 31) x n p r)) := by
          rw [spaF, if_pos c_86]
        rw [es, show spQ (mlaw V) (gD g) (gS g) (gR g) (gP g) (V 31) x n p r = false from c_130] at q
        exact q
      · refine g_iconst (pc := 133) (v := 1) dX1_span_133 (by decide) ?_
        refine g_goto (pc := 134) 138 dX1_span_134 (by decide) ?_
        refine g_iadd (pc := 138) dX1_span_138 ?_
        refine g_istore (pc := 139) (ls' := [_, _, _, _, _, _, _, _, _, _, _]) dX1_span_139 (by decide) rfl rfl ?_
        refine g_iinc (pc := 141) (ls' := [_, _, _, _, _, _, _, _, _, _, _]) dX1_span_141 rfl (by first | exact nI_1 _ | exact rfl) (by decide) rfl rfl ?_
        refine g_goto (pc := 144) 66 dX1_span_144 (by decide) ?_
        have q := ih (r + 1) _ W9 (some (vQ (some (nC ac 101)))) (by omega) (by omega) hI hF (hp.tr hy.1) kk
        have es : spaF (spC (mlaw V) (gD g) (gS g) (gR g) (gP g) (V 31) x n) (spQ (mlaw V) (gD g) (gS g) (gR g) (gP g) (V 31) x n p) (r + 1) = (((spC (mlaw V) (gD g) (gS g) (gR g) (gP g) (V 31) x n r)), moreI (spaF (spC (mlaw V) (gD g) (gS g) (gR g) (gP g) (V 31) x n) (spQ (mlaw V) (gD g) (gS g) (gR g) (gP g) (V 31) x n p) r).2.1 (spC (mlaw V) (gD g) (gS g) (gR g) (gP g) (V 31) x n r), (spaF (spC (mlaw V) (gD g) (gS g) (gR g) (gP g) (V 31) x n) (spQ (mlaw V) (gD g) (gS g) (gR g) (gP g) (V 31) x n p) r).2.2 + bI (spQ (mlaw V) (gD g) (gS g) (gR g) (gP g) (V 31) x n p r)) := by
          rw [spaF, if_pos c_86]
        rw [es, show spQ (mlaw V) (gD g) (gS g) (gR g) (gP g) (V 31) x n p r = true from c_130] at q
        exact q
set_option maxHeartbeats 2000000 in
theorem k_span (hd : 660 ≤ d) (hI : InvC ac W g (mlaw V) h) (hz : HZ g W 0 (V 31)) (hb : HB (V 31)) (x w : Int32) (c n p : Nat) (h1 : 1 ≤ c) (hc : c ≤ 20) (h2 : 1 ≤ n) (hn : n ≤ 96) (hp8 : p < gP g) (hw : inR w 0 2 = true) : Ct E d 0 0 mX1_span [vR (nC ac 1), vI x, vI (nI c), vI (nI n), vI w, vI (nI p)] h (pQ ac W g (mlaw V) h (spaI w (spaF (spC (mlaw V) (gD g) (gS g) (gR g) (gP g) (V 31) x n) (spQ (mlaw V) (gD g) (gS g) (gR g) (gP g) (V 31) x n p) c))) := by
  refine ct_of (by decide) (Nat.le_of_ble_eq_true rfl) rfl ?_
  have hF : cFr h h := cFr.rf
  have b8 := hI.2.2.2.2.1.2.2.2.2.2.2.2.1
  have b10 := hI.2.2.2.2.1.2.2.2.2.2.2.2.2.1
  have bP := hI.2.2.2.2.1.2.2.2.2.2.2.2.2.2.1
  have hv1 : inR (nI c) 1 20 = true := by
    unfold inR
    show (!decide (nI c < nI 1) && !decide (nI 20 < nI c)) = true
    rw [decide_eq_false (Int32.not_lt.mpr (nI_le (a := 1) (b := c) h1 (by omega))), decide_eq_false (Int32.not_lt.mpr (nI_le (a := c) (b := 20) hc (by decide)))]
    rfl
  have hv2 : inR (nI n) 1 96 = true := by
    unfold inR
    show (!decide (nI n < nI 1) && !decide (nI 96 < nI n)) = true
    rw [decide_eq_false (Int32.not_lt.mpr (nI_le (a := 1) (b := n) h2 (by omega))), decide_eq_false (Int32.not_lt.mpr (nI_le (a := n) (b := 96) hn (by decide)))]
    rfl
  have hv4 : inR (nI p) 0 (nI (gP g) - 1) = true := in_of hp8 (by omega)
  refine g_aload_n (pc := 0) dX1_span_0 rfl ?_
  refine g_iload_n (pc := 1) dX1_span_1 rfl ?_
  refine g_iconst (pc := 2) (v := 1) dX1_span_2 (by decide) ?_
  refine g_bipush (pc := 3) (v := 20) dX1_span_3 (by decide) ?_
  refine g_cS (pc := 5) (M' := mX1_isIn) (as := [_, _, _]) i_X1_252 eX1_isIn dX1_span_5 (k_isIn _ _ _) (by omega) rfl rfl (Nat.le_of_ble_eq_true rfl) ?_
  refine g_ifB_eq (pc := 8) 50 dX1_span_8 (by decide) (fun c_8 => absurd (hv1.symm.trans c_8) (by decide)) (fun c_8 => ?_)
  refine g_iload_n (pc := 11) dX1_span_11 rfl ?_
  refine g_iconst (pc := 12) (v := 1) dX1_span_12 (by decide) ?_
  refine g_bipush (pc := 13) (v := 96) dX1_span_13 (by decide) ?_
  refine g_cS (pc := 15) (M' := mX1_isIn) (as := [_, _, _]) i_X1_252 eX1_isIn dX1_span_15 (k_isIn _ _ _) (by omega) rfl rfl (Nat.le_of_ble_eq_true rfl) ?_
  refine g_ifB_eq (pc := 18) 50 dX1_span_18 (by decide) (fun c_18 => absurd (hv2.symm.trans c_18) (by decide)) (fun c_18 => ?_)
  refine g_iload (pc := 21) dX1_span_21 rfl ?_
  refine g_iconst (pc := 23) (v := 0) dX1_span_23 (by decide) ?_
  refine g_iconst (pc := 24) (v := 2) dX1_span_24 (by decide) ?_
  refine g_cS (pc := 25) (M' := mX1_isIn) (as := [_, _, _]) i_X1_252 eX1_isIn dX1_span_25 (k_isIn _ _ _) (by omega) rfl rfl (Nat.le_of_ble_eq_true rfl) ?_
  refine g_ifB_eq (pc := 28) 50 dX1_span_28 (by decide) (fun c_28 => absurd (hw.symm.trans c_28) (by decide)) (fun c_28 => ?_)
  refine g_iload (pc := 31) dX1_span_31 rfl ?_
  refine g_iconst (pc := 33) (v := 0) dX1_span_33 (by decide) ?_
  refine g_aload_n (pc := 34) dX1_span_34 rfl ?_
  refine g_cV (pc := 35) (M' := mX1_pilgrims) (as := []) (ci := 1) rfl i_X1_167_1 eX1_pilgrims dX1_span_35 hI.1 (k_pilgrims (by omega) hI) (by omega) rfl rfl (Nat.le_of_ble_eq_true rfl) ?_
  refine g_iconst (pc := 38) (v := 1) dX1_span_38 (by decide) ?_
  refine g_isub (pc := 39) dX1_span_39 ?_
  refine g_cS (pc := 40) (M' := mX1_isIn) (as := [_, _, _]) i_X1_252 eX1_isIn dX1_span_40 (k_isIn _ _ _) (by omega) rfl rfl (Nat.le_of_ble_eq_true rfl) ?_
  refine g_ifB_eq (pc := 43) 50 dX1_span_43 (by decide) (fun c_43 => absurd (hv4.symm.trans c_43) (by decide)) (fun c_43 => ?_)
  refine g_iconst (pc := 46) (v := 1) dX1_span_46 (by decide) ?_
  refine g_goto (pc := 47) 51 dX1_span_47 (by decide) ?_
  refine g_cVv (pc := 51) (M' := mX1_need) (as := [_]) (ci := 1) rfl i_X1_183_1 eX1_need dX1_span_51 hI.1 (k_needT) (by omega) rfl rfl (Nat.le_of_ble_eq_true rfl) ?_
  refine g_iconst (pc := 54) (v := -1) dX1_span_54 (by decide) ?_
  refine g_istore (pc := 55) (ls' := [_, _, _, _, _, _, _, _, _, _, _]) dX1_span_55 (by decide) rfl rfl ?_
  refine g_iconst (pc := 57) (v := 0) dX1_span_57 (by decide) ?_
  refine g_istore (pc := 58) (ls' := [_, _, _, _, _, _, _, _, _, _, _]) dX1_span_58 (by decide) rfl rfl ?_
  refine g_iconst (pc := 60) (v := 0) dX1_span_60 (by decide) ?_
  refine g_istore (pc := 61) (ls' := [_, _, _, _, _, _, _, _, _, _, _]) dX1_span_61 (by decide) rfl rfl ?_
  refine g_iconst (pc := 63) (v := 0) dX1_span_63 (by decide) ?_
  refine g_istore (pc := 64) (ls' := [_, _, _, _, _, _, _, _, _, _, _]) dX1_span_64 (by decide) rfl rfl ?_
  refine l_kspan (by omega) hz hb hc hn hp8 c 0 h W _ rfl (Nat.zero_le _) hI hF pE.rf (fun h W' u hI hF hp => ?_)
  refine g_iload (pc := 147) dX1_span_147 rfl ?_
  refine g_if_ne (pc := 149) 157 dX1_span_149 (by decide) (fun c_149 => ?_) (fun c_149 => ?_)
  · refine g_iload (pc := 157) dX1_span_157 rfl ?_
    refine g_iconst (pc := 159) (v := 1) dX1_span_159 (by decide) ?_
    refine g_icmp_ne (pc := 160) 168 dX1_span_160 (by decide) (fun c_160 => ?_) (fun c_160 => ?_)
    · refine g_iload (pc := 168) dX1_span_168 rfl ?_
      refine g_ireturn (pc := 170) dX1_span_170 rfl (by first | exact rfl | exact j_nb _) ?_
      exact ⟨rv (by unfold spaI; rw [if_neg c_149, if_neg c_160]), W', hI, hF, hp⟩
    · refine g_iload (pc := 163) dX1_span_163 rfl ?_
      refine g_goto (pc := 165) 170 dX1_span_165 (by decide) ?_
      refine g_ireturn (pc := 170) dX1_span_170 rfl (by first | exact rfl | exact j_nb _) ?_
      exact ⟨rv (by unfold spaI; rw [if_neg c_149, if_pos c_160]), W', hI, hF, hp⟩
  · refine g_iload (pc := 152) dX1_span_152 rfl ?_
    refine g_goto (pc := 154) 170 dX1_span_154 (by decide) ?_
    refine g_ireturn (pc := 170) dX1_span_170 rfl (by first | exact rfl | exact j_nb _) ?_
    exact ⟨rv (by unfold spaI; rw [if_pos c_149]), W', hI, hF, hp⟩
end
section
variable {E : jE} {d : Nat} {h : jH} {ac : Nat → Nat} {W : mV} {g : HD} {F : (Nat → Int32) → Int32}
set_option maxHeartbeats 2000000 in
theorem x_year (hd : 20 ≤ d) (hI : InvC ac W g F h) (x n w : Int32) (hv : (inR n 1 96 && inR w 0 3) = false) : Ct E d 1 6 mX1_year [vR (nC ac 1), vI x, vI n, vI w] h (cX ac W g F h nmIA 1) := by
  refine ct_of (by decide) (Nat.le_of_ble_eq_true rfl) rfl ?_
  have hF : cFr h h := cFr.rf
  have b8 := hI.2.2.2.2.1.2.2.2.2.2.2.2.1
  have b10 := hI.2.2.2.2.1.2.2.2.2.2.2.2.2.1
  have bP := hI.2.2.2.2.1.2.2.2.2.2.2.2.2.2.1
  refine g_aload_n (pc := 0) dX1_year_0 rfl ?_
  refine g_iload_n (pc := 1) dX1_year_1 rfl ?_
  refine g_iconst (pc := 2) (v := 1) dX1_year_2 (by decide) ?_
  refine g_bipush (pc := 3) (v := 96) dX1_year_3 (by decide) ?_
  refine g_cS (pc := 5) (M' := mX1_isIn) (as := [_, _, _]) i_X1_252 eX1_isIn dX1_year_5 (k_isIn _ _ _) (by omega) rfl rfl (Nat.le_of_ble_eq_true rfl) ?_
  refine g_ifB_eq (pc := 8) 24 dX1_year_8 (by decide) (fun c_8 => ?_) (fun c_8 => ?_)
  · refine g_iconst (pc := 24) (v := 0) dX1_year_24 (by decide) ?_
    exact c_tV (pc := 25) (M' := mX1_need) (as := [_]) (ci := 1) rfl i_X1_183_1 eX1_need dX1_year_25 hI.1 (k_needF (by omega) hI) (by omega) rfl rfl (Nat.le_of_ble_eq_true rfl) (by decide) hF (by omega) (by omega)
  · refine g_iload_n (pc := 11) dX1_year_11 rfl ?_
    refine g_iconst (pc := 12) (v := 0) dX1_year_12 (by decide) ?_
    refine g_iconst (pc := 13) (v := 3) dX1_year_13 (by decide) ?_
    refine g_cS (pc := 14) (M' := mX1_isIn) (as := [_, _, _]) i_X1_252 eX1_isIn dX1_year_14 (k_isIn _ _ _) (by omega) rfl rfl (Nat.le_of_ble_eq_true rfl) ?_
    refine g_ifB_eq (pc := 17) 24 dX1_year_17 (by decide) (fun c_17 => ?_) (fun c_17 => ?_)
    · refine g_iconst (pc := 24) (v := 0) dX1_year_24 (by decide) ?_
      exact c_tV (pc := 25) (M' := mX1_need) (as := [_]) (ci := 1) rfl i_X1_183_1 eX1_need dX1_year_25 hI.1 (k_needF (by omega) hI) (by omega) rfl rfl (Nat.le_of_ble_eq_true rfl) (by decide) hF (by omega) (by omega)
    · refine g_iconst (pc := 20) (v := 1) dX1_year_20 (by decide) ?_
      refine g_goto (pc := 21) 25 dX1_year_21 (by decide) ?_
      exfalso
      rw [c_8, c_17] at hv
      exact absurd hv (by decide)
set_option maxHeartbeats 2000000 in
theorem x_span (hd : 20 ≤ d) (hI : InvC ac W g F h) (x c n w p : Int32) (hv : (inR c 1 20 && inR n 1 96 && inR w 0 2 && inR p 0 (nI (gP g) - 1)) = false) : Ct E d 1 6 mX1_span [vR (nC ac 1), vI x, vI c, vI n, vI w, vI p] h (cX ac W g F h nmIA 1) := by
  refine ct_of (by decide) (Nat.le_of_ble_eq_true rfl) rfl ?_
  have hF : cFr h h := cFr.rf
  have b8 := hI.2.2.2.2.1.2.2.2.2.2.2.2.1
  have b10 := hI.2.2.2.2.1.2.2.2.2.2.2.2.2.1
  have bP := hI.2.2.2.2.1.2.2.2.2.2.2.2.2.2.1
  refine g_aload_n (pc := 0) dX1_span_0 rfl ?_
  refine g_iload_n (pc := 1) dX1_span_1 rfl ?_
  refine g_iconst (pc := 2) (v := 1) dX1_span_2 (by decide) ?_
  refine g_bipush (pc := 3) (v := 20) dX1_span_3 (by decide) ?_
  refine g_cS (pc := 5) (M' := mX1_isIn) (as := [_, _, _]) i_X1_252 eX1_isIn dX1_span_5 (k_isIn _ _ _) (by omega) rfl rfl (Nat.le_of_ble_eq_true rfl) ?_
  refine g_ifB_eq (pc := 8) 50 dX1_span_8 (by decide) (fun c_8 => ?_) (fun c_8 => ?_)
  · refine g_iconst (pc := 50) (v := 0) dX1_span_50 (by decide) ?_
    exact c_tV (pc := 51) (M' := mX1_need) (as := [_]) (ci := 1) rfl i_X1_183_1 eX1_need dX1_span_51 hI.1 (k_needF (by omega) hI) (by omega) rfl rfl (Nat.le_of_ble_eq_true rfl) (by decide) hF (by omega) (by omega)
  · refine g_iload_n (pc := 11) dX1_span_11 rfl ?_
    refine g_iconst (pc := 12) (v := 1) dX1_span_12 (by decide) ?_
    refine g_bipush (pc := 13) (v := 96) dX1_span_13 (by decide) ?_
    refine g_cS (pc := 15) (M' := mX1_isIn) (as := [_, _, _]) i_X1_252 eX1_isIn dX1_span_15 (k_isIn _ _ _) (by omega) rfl rfl (Nat.le_of_ble_eq_true rfl) ?_
    refine g_ifB_eq (pc := 18) 50 dX1_span_18 (by decide) (fun c_18 => ?_) (fun c_18 => ?_)
    · refine g_iconst (pc := 50) (v := 0) dX1_span_50 (by decide) ?_
      exact c_tV (pc := 51) (M' := mX1_need) (as := [_]) (ci := 1) rfl i_X1_183_1 eX1_need dX1_span_51 hI.1 (k_needF (by omega) hI) (by omega) rfl rfl (Nat.le_of_ble_eq_true rfl) (by decide) hF (by omega) (by omega)
    · refine g_iload (pc := 21) dX1_span_21 rfl ?_
      refine g_iconst (pc := 23) (v := 0) dX1_span_23 (by decide) ?_
      refine g_iconst (pc := 24) (v := 2) dX1_span_24 (by decide) ?_
      refine g_cS (pc := 25) (M' := mX1_isIn) (as := [_, _, _]) i_X1_252 eX1_isIn dX1_span_25 (k_isIn _ _ _) (by omega) rfl rfl (Nat.le_of_ble_eq_true rfl) ?_
      refine g_ifB_eq (pc := 28) 50 dX1_span_28 (by decide) (fun c_28 => ?_) (fun c_28 => ?_)
      · refine g_iconst (pc := 50) (v := 0) dX1_span_50 (by decide) ?_
        exact c_tV (pc := 51) (M' := mX1_need) (as := [_]) (ci := 1) rfl i_X1_183_1 eX1_need dX1_span_51 hI.1 (k_needF (by omega) hI) (by omega) rfl rfl (Nat.le_of_ble_eq_true rfl) (by decide) hF (by omega) (by omega)
      · refine g_iload (pc := 31) dX1_span_31 rfl ?_
        refine g_iconst (pc := 33) (v := 0) dX1_span_33 (by decide) ?_
        refine g_aload_n (pc := 34) dX1_span_34 rfl ?_
        refine g_cV (pc := 35) (M' := mX1_pilgrims) (as := []) (ci := 1) rfl i_X1_167_1 eX1_pilgrims dX1_span_35 hI.1 (k_pilgrims (by omega) hI) (by omega) rfl rfl (Nat.le_of_ble_eq_true rfl) ?_
        refine g_iconst (pc := 38) (v := 1) dX1_span_38 (by decide) ?_
        refine g_isub (pc := 39) dX1_span_39 ?_
        refine g_cS (pc := 40) (M' := mX1_isIn) (as := [_, _, _]) i_X1_252 eX1_isIn dX1_span_40 (k_isIn _ _ _) (by omega) rfl rfl (Nat.le_of_ble_eq_true rfl) ?_
        refine g_ifB_eq (pc := 43) 50 dX1_span_43 (by decide) (fun c_43 => ?_) (fun c_43 => ?_)
        · refine g_iconst (pc := 50) (v := 0) dX1_span_50 (by decide) ?_
          exact c_tV (pc := 51) (M' := mX1_need) (as := [_]) (ci := 1) rfl i_X1_183_1 eX1_need dX1_span_51 hI.1 (k_needF (by omega) hI) (by omega) rfl rfl (Nat.le_of_ble_eq_true rfl) (by decide) hF (by omega) (by omega)
        · refine g_iconst (pc := 46) (v := 1) dX1_span_46 (by decide) ?_
          refine g_goto (pc := 47) 51 dX1_span_47 (by decide) ?_
          exfalso
          rw [c_8, c_18, c_28, c_43] at hv
          exact absurd hv (by decide)
end
