/-! THE COMPONENT: a house changes, second half. Printed by m_c6.py -/
set_option maxRecDepth 100000
theorem j_up_self {f : Nat → Int32} {k : Nat} : j_up f k (f k) = f := by
  funext j
  unfold j_up
  by_cases e : j = k
  · rw [if_pos e, e]
  · rw [if_neg e]
theorem lapF_at {D : Nat → Nat → Nat} {R : Nat → Int32} {s r : Nat} : lapF D R s r (16 + r) = R (16 + r) := by unfold lapF; rw [if_neg (by omega)]
theorem lapF_no {D : Nat → Nat → Nat} {R : Nat → Int32} {s r : Nat} (h : ¬ kpS D R s r = true) : lapF D R s (r + 1) = lapF D R s r := by
  rw [← lapF_s, if_neg h, j_up_self]
theorem dieF_at {D : Nat → Nat → Nat} {R : Nat → Int32} {s r : Nat} : dieF D R s r (16 + r) = R (16 + r) := by unfold dieF; rw [if_neg (by omega)]
theorem dieF_no {D : Nat → Nat → Nat} {R : Nat → Int32} {s r : Nat} (h : ¬ D 0 r = s) : dieF D R s (r + 1) = dieF D R s r := by
  rw [← dieF_s (y := dieF D R s r (16 + r)) (by rw [if_neg h, dieF_at]), j_up_self]
def dyF (R : Nat → Int32) (r : Nat) : Nat → Int32 := fun j => if 16 ≤ j ∧ j < 16 + r ∧ ¬ R j = -1 then R j + 1 else R j
theorem dyF_0 {R : Nat → Int32} : dyF R 0 = R := by
  funext j
  unfold dyF
  rw [if_neg (by omega)]
theorem dyF_at {R : Nat → Int32} {r : Nat} : dyF R r (16 + r) = R (16 + r) := by unfold dyF; rw [if_neg (by omega)]
theorem dyF_s {R : Nat → Int32} {r : Nat} {y : Int32} (hy : y = if R (16 + r) = -1 then R (16 + r) else R (16 + r) + 1) : j_up (dyF R r) (16 + r) y = dyF R (r + 1) := by
  funext j
  by_cases e : j = 16 + r
  · subst e
    rw [j_up_same, hy]
    unfold dyF
    by_cases q : R (16 + r) = -1
    · rw [if_pos q, if_neg (fun w => w.2.2 q)]
    · rw [if_neg q, if_pos ⟨by omega, by omega, q⟩]
  · rw [j_up_ne e]
    unfold dyF
    by_cases q : 16 ≤ j ∧ j < 16 + r ∧ ¬ R j = -1
    · rw [if_pos q, if_pos ⟨q.1, by omega, q.2.2⟩]
    · rw [if_neg q, if_neg (fun w => q ⟨w.1, by omega, w.2.2⟩)]
section
variable {E : jE} {d : Nat} {h : jH} {ac : Nat → Nat} {W : mV} {g : HD} {F : (Nat → Int32) → Int32} {i : Nat} {R : Nat → Int32}
set_option maxHeartbeats 2000000 in
theorem l_klap {bc bs s : Nat} {h0 : jH} (hd : 5 ≤ d) (hl0 : liv W i) (hs : s < 8) : ∀ (m r : Nat) (h : jH) (W' : mV), gR g - r = m → r ≤ gR g → InvC ac W' g F h → cFr h0 h → HZ g W' i (j_up (lapF (gD g) R s r) (8 + s) (R (8 + s) + 1)) → hE i W W' → G E d bc bs mX10_lapses 22 [some (vR (nC ac (100 + i))), some (vI (nI s)), some (vI (nI r))] [] h (hQ ac W g F h0 i (lapR (gD g) (gR g) R s) (some (vI 1))) := by
  intro m
  induction m with
  | zero =>
    intro r h W' hm hr hI hF hz he
    have e : r = gR g := by omega
    subst e
    have b8 := hI.2.2.2.2.1.2.2.2.2.2.2.2.1
    have b10 := hI.2.2.2.2.1.2.2.2.2.2.2.2.2.1
    have bP := hI.2.2.2.2.1.2.2.2.2.2.2.2.2.2.1
    have hl := he.lv hl0
    have hi := hl.lt
    refine g_iload_n (pc := 22) dX10_lapses_22 rfl ?_
    refine g_aload_n (pc := 23) dX10_lapses_23 rfl ?_
    refine g_getfield (pc := 24) f_X10_3_10 dX10_lapses_24 (hI.2.2.2.1 i hl).1 rfl ?_
    refine g_cV (pc := 27) (M' := mX1_relics) (as := []) (ci := 1) rfl i_X10_50_1 eX1_relics dX10_lapses_27 hI.1 (k_relics (by omega) hI) (by omega) rfl rfl (Nat.le_of_ble_eq_true rfl) ?_
    refine g_icmp_ge (pc := 30) 74 dX10_lapses_30 (by decide) (fun c_30 => ?_) (fun c_30 => absurd (nI_le (Nat.le_refl _) (by omega)) c_30)
    refine g_iconst (pc := 74) (v := 1) dX10_lapses_74 (by decide) ?_
    refine g_ireturn (pc := 75) dX10_lapses_75 rfl (by first | exact rfl | exact j_nb _) ?_
    exact ⟨rfl, W', hI, hF, hz, he⟩
  | succ m ih =>
    intro r h W' hm hr hI hF hz he
    have b8 := hI.2.2.2.2.1.2.2.2.2.2.2.2.1
    have b10 := hI.2.2.2.2.1.2.2.2.2.2.2.2.2.1
    have bP := hI.2.2.2.2.1.2.2.2.2.2.2.2.2.2.1
    have hl := he.lv hl0
    have hi := hl.lt
    have hD := hI.2.2.2.2.1.2.2.2.2.2.2.2.2.2.2.1 r (by omega)
    have hdy : W' (200 + i) r = R (16 + r) := by rw [hz.1 r (by omega), j_up_ne (by omega), lapF_at]
    refine g_iload_n (pc := 22) dX10_lapses_22 rfl ?_
    refine g_aload_n (pc := 23) dX10_lapses_23 rfl ?_
    refine g_getfield (pc := 24) f_X10_3_10 dX10_lapses_24 (hI.2.2.2.1 i hl).1 rfl ?_
    refine g_cV (pc := 27) (M' := mX1_relics) (as := []) (ci := 1) rfl i_X10_50_1 eX1_relics dX10_lapses_27 hI.1 (k_relics (by omega) hI) (by omega) rfl rfl (Nat.le_of_ble_eq_true rfl) ?_
    refine g_icmp_ge (pc := 30) 74 dX10_lapses_30 (by decide) (fun c_30 => absurd c_30 (by intro w; have := (nI_leI (by omega) (by omega)).mp w; omega)) (fun c_30 => ?_)
    refine g_aload_n (pc := 33) dX10_lapses_33 rfl ?_
    refine g_getfield (pc := 34) f_X10_3_10 dX10_lapses_34 (hI.2.2.2.1 i hl).1 rfl ?_
    refine g_iload_n (pc := 37) dX10_lapses_37 rfl ?_
    refine g_cV (pc := 38) (M' := mX1_relicOf) (as := [_]) (ci := 1) rfl i_X10_60_1 eX1_relicOf dX10_lapses_38 hI.1 (k_relicOf (by omega) hI r (by omega)) (by omega) rfl rfl (Nat.le_of_ble_eq_true rfl) ?_
    refine g_getfield (pc := 41) f_X10_64_15 dX10_lapses_41 (hI.2.2.2.2.1.2.2.2.2.2.1 r (by omega)) rfl ?_
    refine g_iload_n (pc := 44) dX10_lapses_44 rfl ?_
    refine g_icmp_ne (pc := 45) 68 dX10_lapses_45 (by decide) (fun c_45 => ?_) (fun c_45 => ?_)
    · refine g_iinc (pc := 68) (ls' := [_, _, _]) dX10_lapses_68 rfl (by first | exact nI_1 _ | exact rfl) (by decide) rfl rfl ?_
      refine g_goto (pc := 71) 22 dX10_lapses_71 (by decide) ?_
      refine ih (r + 1) h W' (by omega) (by omega) hI hF ?_ he
      rw [lapF_no (by unfold kpS kpd; rw [decide_eq_false (fun w => c_45 (by rw [w])), Bool.false_and]; decide)]
      exact hz
    · refine g_aload_n (pc := 48) dX10_lapses_48 rfl ?_
      refine g_getfield (pc := 49) f_X10_15_10 dX10_lapses_49 (hI.2.2.2.1 i hl).1 rfl ?_
      refine g_iload_n (pc := 52) dX10_lapses_52 rfl ?_
      refine g_iaload (pc := 53) dX10_lapses_53 (hI.2.2.2.1 i hl).2.1 (j := r) rfl (by omega) (by first | decide | omega) rfl ?_
      rw [hdy]
      refine g_iconst (pc := 54) (v := -1) dX10_lapses_54 (by decide) ?_
      refine g_icmp_eq (pc := 55) 68 dX10_lapses_55 (by decide) (fun c_55 => ?_) (fun c_55 => ?_)
      · refine g_iinc (pc := 68) (ls' := [_, _, _]) dX10_lapses_68 rfl (by first | exact nI_1 _ | exact rfl) (by decide) rfl rfl ?_
        refine g_goto (pc := 71) 22 dX10_lapses_71 (by decide) ?_
        refine ih (r + 1) h W' (by omega) (by omega) hI hF ?_ he
        rw [lapF_no (by unfold kpS kpd; rw [c_55]; simp)]
        exact hz
      · refine g_aload_n (pc := 58) dX10_lapses_58 rfl ?_
        refine g_getfield (pc := 59) f_X10_15_10 dX10_lapses_59 (hI.2.2.2.1 i hl).1 rfl ?_
        refine g_iload_n (pc := 62) dX10_lapses_62 rfl ?_
        refine g_dup2 (pc := 63) dX10_lapses_63 rfl rfl ?_
        refine g_iaload (pc := 64) dX10_lapses_64 (hI.2.2.2.1 i hl).2.1 (j := r) rfl (by omega) (by first | decide | omega) rfl ?_
        rw [hdy]
        refine g_iconst (pc := 65) (v := 2) dX10_lapses_65 (by decide) ?_
        refine g_idiv (pc := 66) dX10_lapses_66 (by decide) ?_
        refine c_hast200 (pc := 67) (i := i) hI hl dX10_lapses_67 (j := r) rfl (by omega) (fun h hI fr => ?_)
        replace hF := cFr.tr hF fr
        refine g_iinc (pc := 68) (ls' := [_, _, _]) dX10_lapses_68 rfl (by first | exact nI_1 _ | exact rfl) (by decide) rfl rfl ?_
        refine g_goto (pc := 71) 22 dX10_lapses_71 (by decide) ?_
        refine ih (r + 1) h _ (by omega) (by omega) hI hF ?_ (he.sa (by omega) hi)
        have q := hz.days (y := R (16 + r) / 2) hi b8 (show r < 10 by omega)
        rw [j_up_cm (by omega)] at q
        have e := lapF_s (D := gD g) (R := R) (s := s) (r := r)
        rw [if_pos (by unfold kpS kpd; rw [decide_eq_true ((nI_eq (by omega) (by omega)).mp c_45), decide_eq_true c_55]; rfl), lapF_at] at e
        rw [← e]
        exact q
set_option maxHeartbeats 1000000 in
theorem k_lapses (hd : 6 ≤ d) (hI : InvC ac W g F h) (hl : liv W i) (hz : HZ g W i R) (s : Nat) (hs : s < gS g) : Ct E d 0 0 mX10_lapses [vR (nC ac (100 + i)), vI (nI s)] h (hQ ac W g F h i (if clI (gD g) (gR g) R s = true then lapR (gD g) (gR g) R s else R) (some (vI (bI (clI (gD g) (gR g) R s))))) := by
  refine ct_of (by decide) (Nat.le_of_ble_eq_true rfl) rfl ?_
  have hF : cFr h h := cFr.rf
  have b8 := hI.2.2.2.2.1.2.2.2.2.2.2.2.1
  have b10 := hI.2.2.2.2.1.2.2.2.2.2.2.2.2.1
  have bP := hI.2.2.2.2.1.2.2.2.2.2.2.2.2.2.1
  have hi := hl.lt
  refine g_aload_n (pc := 0) dX10_lapses_0 rfl ?_
  refine g_iload_n (pc := 1) dX10_lapses_1 rfl ?_
  refine g_cV (pc := 2) (M' := mX10_canLapse) (as := [_]) (ci := 10) rfl i_X10_114_10 eX10_canLapse dX10_lapses_2 (hI.2.2.2.1 i hl).1 (k_canLapse (by omega) hI hl hz s hs) (by omega) rfl rfl (Nat.le_of_ble_eq_true rfl) ?_
  refine g_ifB_ne (pc := 5) 10 dX10_lapses_5 (by decide) (fun c_5 => ?_) (fun c_5 => ?_)
  · refine g_aload_n (pc := 10) dX10_lapses_10 rfl ?_
    refine g_getfield (pc := 11) f_X10_19_10 dX10_lapses_11 (hI.2.2.2.1 i hl).1 rfl ?_
    refine g_iload_n (pc := 14) dX10_lapses_14 rfl ?_
    refine g_dup2 (pc := 15) dX10_lapses_15 rfl rfl ?_
    refine g_iaload (pc := 16) dX10_lapses_16 (hI.2.2.2.1 i hl).2.2.1 (j := s) rfl (by omega) (by first | decide | omega) rfl ?_
    rw [hz.2.1 s (by omega)]
    refine g_iconst (pc := 17) (v := 1) dX10_lapses_17 (by decide) ?_
    refine g_iadd (pc := 18) dX10_lapses_18 ?_
    refine c_hast300 (pc := 19) (i := i) hI hl dX10_lapses_19 (j := s) rfl (by omega) (fun h hI fr => ?_)
    replace hF := cFr.tr hF fr
    refine g_iconst (pc := 20) (v := 0) dX10_lapses_20 (by decide) ?_
    refine g_istore_n (pc := 21) (ls' := [_, _, _]) dX10_lapses_21 (by decide) rfl rfl ?_
    rw [c_5, if_pos rfl]
    refine l_klap (by omega) hl (by omega) (gR g) 0 h _ rfl (Nat.zero_le _) hI hF ?_ (hE.rf.sa (by omega) hi)
    rw [lapF_0]
    exact hz.laps hi b8 (by omega)
  · refine g_iconst (pc := 8) (v := 0) dX10_lapses_8 (by decide) ?_
    refine g_ireturn (pc := 9) dX10_lapses_9 rfl (by first | exact rfl | exact j_nb _) ?_
    rw [c_5, if_neg (by decide)]
    exact ⟨rfl, W, hI, hF, hz, hE.rf⟩
set_option maxHeartbeats 2000000 in
theorem l_kpas {bc bs : Nat} {h0 : jH} (hd : 5 ≤ d) (hl0 : liv W i) : ∀ (m r : Nat) (h : jH) (W' : mV), gR g - r = m → r ≤ gR g → InvC ac W' g F h → cFr h0 h → HZ g W' i (dyF R r) → hE i W W' → G E d bc bs mX10_passes 2 [some (vR (nC ac (100 + i))), some (vI (nI r))] [] h (hQ ac W g F h0 i (dayR (gR g) R) none) := by
  intro m
  induction m with
  | zero =>
    intro r h W' hm hr hI hF hz he
    have e : r = gR g := by omega
    subst e
    have b8 := hI.2.2.2.2.1.2.2.2.2.2.2.2.1
    have b10 := hI.2.2.2.2.1.2.2.2.2.2.2.2.2.1
    have bP := hI.2.2.2.2.1.2.2.2.2.2.2.2.2.2.1
    have hl := he.lv hl0
    have hi := hl.lt
    refine g_iload_n (pc := 2) dX10_passes_2 rfl ?_
    refine g_aload_n (pc := 3) dX10_passes_3 rfl ?_
    refine g_getfield (pc := 4) f_X10_3_10 dX10_passes_4 (hI.2.2.2.1 i hl).1 rfl ?_
    refine g_cV (pc := 7) (M' := mX1_relics) (as := []) (ci := 1) rfl i_X10_50_1 eX1_relics dX10_passes_7 hI.1 (k_relics (by omega) hI) (by omega) rfl rfl (Nat.le_of_ble_eq_true rfl) ?_
    refine g_icmp_ge (pc := 10) 43 dX10_passes_10 (by decide) (fun c_10 => ?_) (fun c_10 => absurd (nI_le (Nat.le_refl _) (by omega)) c_10)
    refine g_aload_n (pc := 43) dX10_passes_43 rfl ?_
    refine g_iconst (pc := 44) (v := 0) dX10_passes_44 (by decide) ?_
    refine c_hput (pc := 45) (i := i) hI hl w_X10_38_10 (by decide) dX10_passes_45 (fun h hI fr => ?_)
    replace hF := cFr.tr hF fr
    replace hl : liv (sv W' (100 + i) 4 0) i := (liv_sv (by omega)).mpr hl
    refine g_aload_n (pc := 48) dX10_passes_48 rfl ?_
    refine g_dup (pc := 49) dX10_passes_49 rfl ?_
    refine g_getfield (pc := 50) f_X10_41_10 dX10_passes_50 (hI.2.2.2.1 i hl).1 rfl ?_
    refine g_iconst (pc := 53) (v := 1) dX10_passes_53 (by decide) ?_
    refine g_iadd (pc := 54) dX10_passes_54 ?_
    rw [sv_nj (by decide)]
    refine c_hput (pc := 55) (i := i) hI hl w_X10_41_10 (by decide) dX10_passes_55 (fun h hI fr => ?_)
    replace hF := cFr.tr hF fr
    refine g_return (pc := 58) dX10_passes_58 rfl ?_
    refine ⟨rfl, _, hI, hF, HZ.fld (R := dayF R (gR g)) (R' := dayR (gR g) R) (hz.fld (R' := dayF R (gR g)) (fun j h1 h2 => ?_) (fun j h1 h2 => ?_) ?_ ?_ ?_) (fun j h1 h2 => ?_) (fun j h1 h2 => ?_) ?_ ?_ ?_, (he.sf (by decide)).sf (by decide)⟩
    · unfold dayF dyF
      by_cases q : 16 ≤ j ∧ j < 16 + gR g ∧ ¬ R j = -1
      · rw [if_pos q, if_pos q]
      · rw [if_neg q, if_neg q, if_neg (by omega)]
    · unfold dayF dyF
      rw [if_neg (by omega), if_neg (by omega), if_neg (by omega)]
    · rw [if_neg (by decide), hz.2.2.2.1]
      exact bits_congr (fun q hq => by unfold livB dayF dyF; rw [if_neg (by omega), if_neg (by omega), if_neg (by omega)])
    · rw [if_pos rfl]
      refine b_ext (fun q hq => ?_)
      rw [b_0, bt_bits (by omega) hq]
      by_cases w : q < gR g
      · unfold useB dayF
        rw [if_neg (by omega), if_pos (by omega)]
        simp
      · rw [decide_eq_false w]; rfl
    · rw [if_neg (by decide), hz.2.2.2.2.2]
      unfold dayF dyF
      rw [if_neg (by omega), if_neg (by omega), if_neg (by omega)]
    · unfold dayR; rw [j_up_ne (by omega)]
    · unfold dayR; rw [j_up_ne (by omega)]
    · rw [if_neg (by decide), sv_nj (by decide), hz.2.2.2.1]
      exact bits_congr (fun q hq => by unfold livB dayR dyF; rw [j_up_ne (by omega)]; unfold dayF; rw [if_neg (by omega), if_neg (by omega), if_neg (by omega)])
    · rw [if_neg (by decide), sv_same]
      refine b_ext (fun q hq => ?_)
      rw [b_0, bt_bits (by omega) hq]
      by_cases w : q < gR g
      · unfold useB dayR
        rw [j_up_ne (by omega)]
        unfold dayF
        rw [if_neg (by omega), if_pos (by omega)]
        simp
      · rw [decide_eq_false w]; rfl
    · rw [if_pos rfl, hz.2.2.2.2.2, day_44]
      unfold dyF
      rw [if_neg (by omega)]
  | succ m ih =>
    intro r h W' hm hr hI hF hz he
    have b8 := hI.2.2.2.2.1.2.2.2.2.2.2.2.1
    have b10 := hI.2.2.2.2.1.2.2.2.2.2.2.2.2.1
    have bP := hI.2.2.2.2.1.2.2.2.2.2.2.2.2.2.1
    have hl := he.lv hl0
    have hi := hl.lt
    have hdy : W' (200 + i) r = R (16 + r) := by rw [hz.1 r (by omega), dyF_at]
    refine g_iload_n (pc := 2) dX10_passes_2 rfl ?_
    refine g_aload_n (pc := 3) dX10_passes_3 rfl ?_
    refine g_getfield (pc := 4) f_X10_3_10 dX10_passes_4 (hI.2.2.2.1 i hl).1 rfl ?_
    refine g_cV (pc := 7) (M' := mX1_relics) (as := []) (ci := 1) rfl i_X10_50_1 eX1_relics dX10_passes_7 hI.1 (k_relics (by omega) hI) (by omega) rfl rfl (Nat.le_of_ble_eq_true rfl) ?_
    refine g_icmp_ge (pc := 10) 43 dX10_passes_10 (by decide) (fun c_10 => absurd c_10 (by intro w; have := (nI_leI (by omega) (by omega)).mp w; omega)) (fun c_10 => ?_)
    refine g_aload_n (pc := 13) dX10_passes_13 rfl ?_
    refine g_getfield (pc := 14) f_X10_15_10 dX10_passes_14 (hI.2.2.2.1 i hl).1 rfl ?_
    refine g_iload_n (pc := 17) dX10_passes_17 rfl ?_
    refine g_dup2 (pc := 18) dX10_passes_18 rfl rfl ?_
    refine g_iaload (pc := 19) dX10_passes_19 (hI.2.2.2.1 i hl).2.1 (j := r) rfl (by omega) (by first | decide | omega) rfl ?_
    rw [hdy]
    refine g_aload_n (pc := 20) dX10_passes_20 rfl ?_
    refine g_getfield (pc := 21) f_X10_15_10 dX10_passes_21 (hI.2.2.2.1 i hl).1 rfl ?_
    refine g_iload_n (pc := 24) dX10_passes_24 rfl ?_
    refine g_iaload (pc := 25) dX10_passes_25 (hI.2.2.2.1 i hl).2.1 (j := r) rfl (by omega) (by first | decide | omega) rfl ?_
    rw [hdy]
    refine g_iconst (pc := 26) (v := -1) dX10_passes_26 (by decide) ?_
    refine g_icmp_ne (pc := 27) 34 dX10_passes_27 (by decide) (fun c_27 => ?_) (fun c_27 => ?_)
    · refine g_iconst (pc := 34) (v := 1) dX10_passes_34 (by decide) ?_
      refine g_iadd (pc := 35) dX10_passes_35 ?_
      refine c_hast200 (pc := 36) (i := i) hI hl dX10_passes_36 (j := r) rfl (by omega) (fun h hI fr => ?_)
      replace hF := cFr.tr hF fr
      refine g_iinc (pc := 37) (ls' := [_, _]) dX10_passes_37 rfl (by first | exact nI_1 _ | exact rfl) (by decide) rfl rfl ?_
      refine g_goto (pc := 40) 2 dX10_passes_40 (by decide) ?_
      refine ih (r + 1) h _ (by omega) (by omega) hI hF ?_ (he.sa (by omega) hi)
      have q := hz.days (y := R (16 + r) + 1) hi b8 (show r < 10 by omega)
      rw [dyF_s (by rw [if_neg c_27])] at q
      exact q
    · refine g_iconst (pc := 30) (v := 0) dX10_passes_30 (by decide) ?_
      refine g_goto (pc := 31) 35 dX10_passes_31 (by decide) ?_
      refine g_iadd (pc := 35) dX10_passes_35 ?_
      refine c_hast200 (pc := 36) (i := i) hI hl dX10_passes_36 (j := r) rfl (by omega) (fun h hI fr => ?_)
      replace hF := cFr.tr hF fr
      refine g_iinc (pc := 37) (ls' := [_, _]) dX10_passes_37 rfl (by first | exact nI_1 _ | exact rfl) (by decide) rfl rfl ?_
      refine g_goto (pc := 40) 2 dX10_passes_40 (by decide) ?_
      refine ih (r + 1) h _ (by omega) (by omega) hI hF ?_ (he.sa (by omega) hi)
      have q := hz.days (y := R (16 + r) + 0) hi b8 (show r < 10 by omega)
      rw [dyF_s (by rw [if_pos c_27, Int32.add_zero])] at q
      exact q
theorem k_passes (hd : 5 ≤ d) (hI : InvC ac W g F h) (hl : liv W i) (hz : HZ g W i R) : Ct E d 0 0 mX10_passes [vR (nC ac (100 + i))] h (hQ ac W g F h i (dayR (gR g) R) none) := by
  refine ct_of (by decide) (Nat.le_of_ble_eq_true rfl) rfl ?_
  refine g_iconst (pc := 0) (v := 0) dX10_passes_0 (by decide) ?_
  refine g_istore_n (pc := 1) (ls' := [_, _]) dX10_passes_1 (by decide) rfl rfl ?_
  exact l_kpas hd hl (gR g) 0 h W rfl (Nat.zero_le _) hI cFr.rf (by rw [dyF_0]; exact hz) hE.rf
set_option maxHeartbeats 2000000 in
theorem l_kdie {bc bs s : Nat} {h0 : jH} (hd : 5 ≤ d) (hl0 : liv W i) (hs : s < 8) : ∀ (m r : Nat) (h : jH) (W' : mV), gR g - r = m → r ≤ gR g → InvC ac W' g F h → cFr h0 h → HZ g W' i (j_up (dieF (gD g) R s r) s 1) → hE i W W' → G E d bc bs mX10_dies 29 [some (vR (nC ac (100 + i))), some (vI (nI s)), some (vI (nI r))] [] h (hQ ac W g F h0 i (dieR (gD g) (gR g) R s) (some (vI 1))) := by
  intro m
  induction m with
  | zero =>
    intro r h W' hm hr hI hF hz he
    have e : r = gR g := by omega
    subst e
    have b8 := hI.2.2.2.2.1.2.2.2.2.2.2.2.1
    have b10 := hI.2.2.2.2.1.2.2.2.2.2.2.2.2.1
    have bP := hI.2.2.2.2.1.2.2.2.2.2.2.2.2.2.1
    have hl := he.lv hl0
    have hi := hl.lt
    refine g_iload_n (pc := 29) dX10_dies_29 rfl ?_
    refine g_aload_n (pc := 30) dX10_dies_30 rfl ?_
    refine g_getfield (pc := 31) f_X10_3_10 dX10_dies_31 (hI.2.2.2.1 i hl).1 rfl ?_
    refine g_cV (pc := 34) (M' := mX1_relics) (as := []) (ci := 1) rfl i_X10_50_1 eX1_relics dX10_dies_34 hI.1 (k_relics (by omega) hI) (by omega) rfl rfl (Nat.le_of_ble_eq_true rfl) ?_
    refine g_icmp_ge (pc := 37) 68 dX10_dies_37 (by decide) (fun c_37 => ?_) (fun c_37 => absurd (nI_le (Nat.le_refl _) (by omega)) c_37)
    refine g_iconst (pc := 68) (v := 1) dX10_dies_68 (by decide) ?_
    refine g_ireturn (pc := 69) dX10_dies_69 rfl (by first | exact rfl | exact j_nb _) ?_
    exact ⟨rfl, W', hI, hF, hz, he⟩
  | succ m ih =>
    intro r h W' hm hr hI hF hz he
    have b8 := hI.2.2.2.2.1.2.2.2.2.2.2.2.1
    have b10 := hI.2.2.2.2.1.2.2.2.2.2.2.2.2.1
    have bP := hI.2.2.2.2.1.2.2.2.2.2.2.2.2.2.1
    have hl := he.lv hl0
    have hi := hl.lt
    have hD := hI.2.2.2.2.1.2.2.2.2.2.2.2.2.2.2.1 r (by omega)
    refine g_iload_n (pc := 29) dX10_dies_29 rfl ?_
    refine g_aload_n (pc := 30) dX10_dies_30 rfl ?_
    refine g_getfield (pc := 31) f_X10_3_10 dX10_dies_31 (hI.2.2.2.1 i hl).1 rfl ?_
    refine g_cV (pc := 34) (M' := mX1_relics) (as := []) (ci := 1) rfl i_X10_50_1 eX1_relics dX10_dies_34 hI.1 (k_relics (by omega) hI) (by omega) rfl rfl (Nat.le_of_ble_eq_true rfl) ?_
    refine g_icmp_ge (pc := 37) 68 dX10_dies_37 (by decide) (fun c_37 => absurd c_37 (by intro w; have := (nI_leI (by omega) (by omega)).mp w; omega)) (fun c_37 => ?_)
    refine g_aload_n (pc := 40) dX10_dies_40 rfl ?_
    refine g_getfield (pc := 41) f_X10_3_10 dX10_dies_41 (hI.2.2.2.1 i hl).1 rfl ?_
    refine g_iload_n (pc := 44) dX10_dies_44 rfl ?_
    refine g_cV (pc := 45) (M' := mX1_relicOf) (as := [_]) (ci := 1) rfl i_X10_60_1 eX1_relicOf dX10_dies_45 hI.1 (k_relicOf (by omega) hI r (by omega)) (by omega) rfl rfl (Nat.le_of_ble_eq_true rfl) ?_
    refine g_getfield (pc := 48) f_X10_64_15 dX10_dies_48 (hI.2.2.2.2.1.2.2.2.2.2.1 r (by omega)) rfl ?_
    refine g_iload_n (pc := 51) dX10_dies_51 rfl ?_
    refine g_icmp_ne (pc := 52) 62 dX10_dies_52 (by decide) (fun c_52 => ?_) (fun c_52 => ?_)
    · refine g_iinc (pc := 62) (ls' := [_, _, _]) dX10_dies_62 rfl (by first | exact nI_1 _ | exact rfl) (by decide) rfl rfl ?_
      refine g_goto (pc := 65) 29 dX10_dies_65 (by decide) ?_
      refine ih (r + 1) h W' (by omega) (by omega) hI hF ?_ he
      rw [dieF_no (fun w => c_52 (by rw [w]))]
      exact hz
    · refine g_aload_n (pc := 55) dX10_dies_55 rfl ?_
      refine g_getfield (pc := 56) f_X10_15_10 dX10_dies_56 (hI.2.2.2.1 i hl).1 rfl ?_
      refine g_iload_n (pc := 59) dX10_dies_59 rfl ?_
      refine g_iconst (pc := 60) (v := -1) dX10_dies_60 (by decide) ?_
      refine c_hast200 (pc := 61) (i := i) hI hl dX10_dies_61 (j := r) rfl (by omega) (fun h hI fr => ?_)
      replace hF := cFr.tr hF fr
      refine g_iinc (pc := 62) (ls' := [_, _, _]) dX10_dies_62 rfl (by first | exact nI_1 _ | exact rfl) (by decide) rfl rfl ?_
      refine g_goto (pc := 65) 29 dX10_dies_65 (by decide) ?_
      refine ih (r + 1) h _ (by omega) (by omega) hI hF ?_ (he.sa (by omega) hi)
      have q := hz.days (y := -1) hi b8 (show r < 10 by omega)
      rw [j_up_cm (by omega), dieF_s (by rw [if_pos ((nI_eq (by omega) (by omega)).mp c_52)])] at q
      exact q
theorem liv_die {R : Nat → Int32} {n s : Nat} (hn : n ≤ 8) (hs : s < n) : bitsI (livB R) n &&& (bitI s ^^^ -1) = bitsI (livB (j_up R s 1)) n := by
  refine b_ext (fun i hi => ?_)
  rw [b_and, bt_bits (by omega) hi, b_xor, bt_bit (by omega) hi, b_m1 i hi, bt_bits (by omega) hi]
  unfold livB
  by_cases e : i = s
  · subst e
    rw [j_up_same]
    simp
  · rw [j_up_ne e, decide_eq_false e]
    simp
set_option maxHeartbeats 1000000 in
theorem k_dies (hd : 6 ≤ d) (hI : InvC ac W g F h) (hl : liv W i) (hz : HZ g W i R) (hb : HB R) (s : Nat) (hs : s < gS g) : Ct E d 0 0 mX10_dies [vR (nC ac (100 + i)), vI (nI s)] h (hQ ac W g F h i (actR F (gD g) (gR g) R (4, s, 0, 0)) (some (vI (bI (actB F (gD g) (gR g) R (4, s, 0, 0)))))) := by
  refine ct_of (by decide) (Nat.le_of_ble_eq_true rfl) rfl ?_
  have hF : cFr h h := cFr.rf
  have b8 := hI.2.2.2.2.1.2.2.2.2.2.2.2.1
  have b10 := hI.2.2.2.2.1.2.2.2.2.2.2.2.2.1
  have bP := hI.2.2.2.2.1.2.2.2.2.2.2.2.2.2.1
  have hi := hl.lt
  have hlv : livB R s = actB F (gD g) (gR g) R (4, s, 0, 0) := by
    show livB R s = !(decide (R s = 1))
    unfold livB
    rcases hb.1 s (by omega) with w | w <;> rw [w] <;> decide
  unfold actR
  rw [← hlv]
  refine g_aload_n (pc := 0) dX10_dies_0 rfl ?_
  refine g_getfield (pc := 1) f_X10_35_10 dX10_dies_1 (hI.2.2.2.1 i hl).1 rfl ?_
  refine g_iload_n (pc := 4) dX10_dies_4 rfl ?_
  refine g_cS (pc := 5) (M' := mX1_has) (as := [_, _]) i_X10_107 eX1_has dX10_dies_5 (k_has _ _) (by omega) rfl rfl (Nat.le_of_ble_eq_true rfl) ?_
  rw [has_liv hz b8 hs]
  refine g_ifB_ne (pc := 8) 13 dX10_dies_8 (by decide) (fun c_8 => ?_) (fun c_8 => ?_)
  · refine g_aload_n (pc := 13) dX10_dies_13 rfl ?_
    refine g_dup (pc := 14) dX10_dies_14 rfl ?_
    refine g_getfield (pc := 15) f_X10_35_10 dX10_dies_15 (hI.2.2.2.1 i hl).1 rfl ?_
    refine g_iconst (pc := 18) (v := 1) dX10_dies_18 (by decide) ?_
    refine g_iload_n (pc := 19) dX10_dies_19 rfl ?_
    refine g_ishl (pc := 20) dX10_dies_20 ?_
    refine g_iconst (pc := 21) (v := -1) dX10_dies_21 (by decide) ?_
    refine g_ixor (pc := 22) dX10_dies_22 ?_
    refine g_iand (pc := 23) dX10_dies_23 ?_
    rw [hz.2.2.2.1, show (1 : Int32) <<< (nI s &&& 31) = bitI s from rfl, liv_die b8 hs]
    refine c_hput (pc := 24) (i := i) hI hl w_X10_35_10 (by decide) dX10_dies_24 (fun h hI fr => ?_)
    replace hF := cFr.tr hF fr
    refine g_iconst (pc := 27) (v := 0) dX10_dies_27 (by decide) ?_
    refine g_istore_n (pc := 28) (ls' := [_, _, _]) dX10_dies_28 (by decide) rfl rfl ?_
    rw [c_8, if_pos rfl]
    refine l_kdie (by omega) hl (by omega) (gR g) 0 h _ rfl (Nat.zero_le _) hI hF ?_ (hE.rf.sf (by decide))
    rw [dieF_0]
    refine hz.fld (fun j h1 h2 => j_up_ne (by omega)) (fun j h1 h2 => j_up_ne (by omega)) (if_pos rfl) ?_ ?_
    · rw [if_neg (by decide), hz.2.2.2.2.1]
      exact bits_congr (fun q hq => by unfold useB; rw [j_up_ne (by omega)])
    · rw [if_neg (by decide), hz.2.2.2.2.2, j_up_ne (by omega)]
  · refine g_iconst (pc := 11) (v := 0) dX10_dies_11 (by decide) ?_
    refine g_ireturn (pc := 12) dX10_dies_12 rfl (by first | exact rfl | exact j_nb _) ?_
    rw [c_8, if_neg (by decide)]
    exact ⟨rfl, W, hI, hF, hz, hE.rf⟩
theorem k_day (hd : 6 ≤ d) (hI : InvC ac W g F h) (hl : liv W i) (hz : HZ g W i R) (hg : RG R) : Ct E d 0 0 mX10_day [vR (nC ac (100 + i))] h (hQ ac W g F h i (actR F (gD g) (gR g) R (5, 0, 0, 0)) (some (vI (bI (actB F (gD g) (gR g) R (5, 0, 0, 0)))))) := by
  refine ct_of (by decide) (Nat.le_of_ble_eq_true rfl) rfl ?_
  have hF : cFr h h := cFr.rf
  obtain ⟨⟨y, hy1, hy2, -⟩, -⟩ := hg
  have hac : actB F (gD g) (gR g) R (5, 0, 0, 0) = decide (¬ R 44 = 500) := by
    show decide (R 44 < 500) = _
    rw [hy2]
    by_cases w : y = 500
    · subst w; decide
    · rw [decide_eq_true (show nI y < 500 from nI_lt (a := y) (b := 500) (by omega) (by decide)), decide_eq_true (show ¬ nI y = 500 from fun e => w ((nI_eq (a := y) (b := 500) (by omega) (by decide)).mp e))]
  unfold actR
  rw [hac]
  refine g_aload_n (pc := 0) dX10_day_0 rfl ?_
  refine g_getfield (pc := 1) f_X10_41_10 dX10_day_1 (hI.2.2.2.1 i hl).1 rfl ?_
  rw [hz.2.2.2.2.2]
  refine g_sipush (pc := 4) (v := 500) dX10_day_4 (by decide) ?_
  refine g_icmp_ne (pc := 7) 12 dX10_day_7 (by decide) (fun c_7 => ?_) (fun c_7 => ?_)
  · refine g_aload_n (pc := 12) dX10_day_12 rfl ?_
    refine g_callV (pc := 13) (M' := mX10_passes) (as := []) (ci := 10) rfl i_X10_121_10 eX10_passes dX10_day_13 (hI.2.2.2.1 i hl).1 (k_passes (by omega) hI hl hz) (by omega) rfl rfl (Nat.le_of_ble_eq_true rfl) (by omega) (by omega) (fun C9 x9 h9 q9 => ?_) (fun r9 h9 q9 => ?_)
    · cases q9.1
    obtain ⟨e9, W9, hI9, fr9, hz9, he9⟩ := q9
    cases e9
    replace hF := cFr.tr hF fr9
    refine g_iconst (pc := 16) (v := 1) dX10_day_16 (by decide) ?_
    refine g_ireturn (pc := 17) dX10_day_17 rfl (by first | exact rfl | exact j_nb _) ?_
    rw [decide_eq_true c_7, if_pos rfl]
    exact ⟨rfl, W9, hI9, hF, hz9, he9⟩
  · refine g_iconst (pc := 10) (v := 0) dX10_day_10 (by decide) ?_
    refine g_ireturn (pc := 11) dX10_day_11 rfl (by first | exact rfl | exact j_nb _) ?_
    rw [decide_eq_false (fun w => w c_7), if_neg (by decide)]
    exact ⟨rfl, W, hI, hF, hz, hE.rf⟩
end
