/-! THE REFERENCE: days, cures, copies, sums. Printed by m_row2.py -/
set_option maxRecDepth 100000
theorem arrV_ext {cA : ClassId} {n : Nat} {f f' : Nat → Value} (h : ∀ j, j < n → f j = f' j) : arrV cA n f = arrV cA n f' := by
  unfold arrV
  congr 2
  funext j
  exact h j.1 j.2
/-- what stands behind an array's end doesn't matter -/
theorem g_ext {E : jE} {d bc bs : Nat} {M : jM} {pc : Nat} {ls : List (Option jV)} {st : List jV} {h : jH} {Q : jR → jH → Prop} {x : jN} {t n : Nat} {f : Nat → jV} (f' : Nat → jV) (hx : h x = some (oA t n f)) (he : ∀ j, j < n → f j = f' j) (k : G E d bc bs M pc ls st (hs h x (oA t n f')) Q) : G E d bc bs M pc ls st h Q := by
  intro p e s m args below meth c R H locs cells slots A F r z l lo hc hs
  refine k p e s m args below meth c R H locs cells slots A F (r.less hx ?_) z l lo hc hs
  show H[x.2]? = some (arrV _ _ _)
  rw [← arrV_ext (fun j hj => congrArg j_v (he j hj))]
  exact r.1 _ _ hx
theorem InvM.arrR {am : Nat → Nat} {V : mV} {h : jH} {k n : Nat} {R : Nat → Int32} (hI : InvM am V h) (hn : mlen k = n) (h0 : n ≠ 0) : InvM am (svR V k R) (hs h (nMa am k) (iA n R)) := by
  subst hn
  have hk := mlen_lt h0
  refine ⟨?_, fun q hq => ?_, fun q hq => ?_, fun q i hi => ?_, ?_, ?_⟩
  · rw [hs_nr (by simp <;> omega), show mF am (svR V k R) = mF am V by unfold mF; rw [svR_ne (show 0 ≠ k by omega)]]
    exact hI.1
  · by_cases e : q = k
    · subst e
      rw [hs_same, svR_row]
    · rw [hs_nr (by simp <;> omega), svR_ne e]
      exact hI.2.1 q hq
  · have := mgo_lt hq
    rw [hs_nr (by simp <;> (intro e; subst e; omega))]
    exact hI.2.2.1 q hq
  · have := mgo_lt (k := q) (by omega)
    rw [hs_nr (by simp <;> omega), svR_ne (by omega)]
    exact hI.2.2.2.1 q i hi
  · rw [hs_nr (by simp <;> omega)]
    exact hI.2.2.2.2.1
  · rw [hs_nr (by simp <;> omega)]
    exact hI.2.2.2.2.2
theorem InvM.rowR {am : Nat → Nat} {V : mV} {h : jH} {k i n : Nat} {R : Nat → Int32} (hI : InvM am V h) (hn : mgi k = n) (hi : i < mgo k) : InvM am (svR V (1000 * k + i) R) (hs h (nMr am k i) (iA n R)) := by
  subst hn
  have hk := mgo_lt (k := k) (by omega)
  refine ⟨?_, fun q hq => ?_, fun q hq => ?_, fun q i' hi' => ?_, ?_, ?_⟩
  · rw [hs_nr (by simp <;> omega), show mF am (svR V (1000 * k + i) R) = mF am V by unfold mF; rw [svR_ne (show 0 ≠ 1000 * k + i by omega)]]
    exact hI.1
  · have := mlen_lt hq
    rw [hs_nr (by simp <;> omega), svR_ne (by omega)]
    exact hI.2.1 q hq
  · have := mgo_lt hq
    rw [hs_nr (by simp <;> omega)]
    exact hI.2.2.1 q hq
  · have := mgo_lt (k := q) (by omega)
    by_cases e : q = k ∧ i' = i
    · obtain ⟨e1, e2⟩ := e
      subst e1; subst e2
      rw [hs_same, svR_row]
    · rw [hs_nr (by simp <;> omega), svR_ne (by omega)]
      exact hI.2.2.2.1 q i' hi'
  · rw [hs_nr (by simp <;> omega)]
    exact hI.2.2.2.2.1
  · rw [hs_nr (by simp <;> omega)]
    exact hI.2.2.2.2.2
def dayF (R : Nat → Int32) (r : Nat) : Nat → Int32 := fun j => if 16 ≤ j ∧ j < 16 + r ∧ ¬ R j = -1 then R j + 1 else if 26 ≤ j ∧ j < 26 + r then 0 else R j
/-- a day goes by -/
def dayR (nR : Nat) (R : Nat → Int32) : Nat → Int32 := j_up (dayF R nR) 44 (R 44 + 1)
theorem dayF_0 {R : Nat → Int32} : dayF R 0 = R := by
  funext j
  unfold dayF
  rw [if_neg (by omega), if_neg (by omega)]
theorem dayF_s {R : Nat → Int32} {r : Nat} (hr : r < 10) {y : Int32} (hy : y = if kpd R r = true then R (16 + r) + 1 else R (16 + r)) : j_up (j_up (dayF R r) (16 + r) y) (26 + r) 0 = dayF R (r + 1) := by
  funext j
  by_cases e : j = 26 + r
  · subst e
    rw [j_up_same]
    unfold dayF
    rw [if_neg (by omega), if_pos (by omega)]
  · rw [j_up_ne e]
    by_cases e1 : j = 16 + r
    · subst e1
      rw [j_up_same, hy]
      unfold dayF kpd
      by_cases q : R (16 + r) = -1
      · rw [if_neg (by simp [q]), if_neg (fun w => w.2.2 q), if_neg (by omega)]
      · rw [if_pos (by simp [q]), if_pos ⟨by omega, by omega, q⟩]
    · rw [j_up_ne e1]
      unfold dayF
      by_cases q : 16 ≤ j ∧ j < 16 + r ∧ ¬ R j = -1
      · rw [if_pos q, if_pos ⟨q.1, by omega, q.2.2⟩]
      · have q' : ¬ (16 ≤ j ∧ j < 16 + (r + 1) ∧ ¬ R j = -1) := fun w => q ⟨w.1, by omega, w.2.2⟩
        rw [if_neg q, if_neg q']
        by_cases q2 : 26 ≤ j ∧ j < 26 + r
        · have q3 : 26 ≤ j ∧ j < 26 + (r + 1) := by omega
          rw [if_pos q2, if_pos q3]
        · have q3 : ¬ (26 ≤ j ∧ j < 26 + (r + 1)) := by omega
          rw [if_neg q2, if_neg q3]
def sumI (f : Nat → Int32) : Nat → Int32
  | 0 => 0
  | k + 1 => sumI f k + f k
def crd (R : Nat → Int32) (p : Nat) : Bool := !(decide (R (36 + p) = -1))
section
variable {E : jE} {d : Nat} {h : jH} {am : Nat → Nat} {V : mV} {D : Nat → Nat → Nat} {nS nR nP k : Nat}
set_option maxHeartbeats 4000000 in
theorem l_dayEnds {bc bs : Nat} {h0 : jH} (hd : 1 ≤ d) (hT0 : MT V D nS nR nP) (hk : mlen k = 45) : ∀ (m r : Nat) (h : jH), nR - r = m → r ≤ nR → InvM am (svR V k (dayF (V k) r)) h → mFr h0 h → G E d bc bs mX11_dayEnds 2 [some (vR (nMo am)), some (vR (nMa am k)), some (vI (nI r))] [] h (mQ am (svR V k (dayR nR (V k))) h0 none) := by
  intro m
  induction m with
  | zero =>
    intro r h hm hr hI hF
    have e : r = nR := by omega
    subst e
    have h10 := hT0.2.2.2.2.1
    have hT := hT0.row (R := dayF (V k) r) hk
    refine g_iload_n (pc := 2) dX11_dayEnds_2 rfl ?_
    refine g_aload_n (pc := 3) dX11_dayEnds_3 rfl ?_
    refine g_getfield (pc := 4) f_X11_23_11 dX11_dayEnds_4 hI.1 mf_12 ?_
    refine g_iconst (pc := 7) (v := 1) dX11_dayEnds_7 (by decide) ?_
    refine g_iaload (pc := 8) dX11_dayEnds_8 (mA hI 12 3 rfl (by decide)) (j := 1) (by decide) (by omega) (by decide) rfl ?_
    rw [hT.2.1]
    refine g_icmp_ge (pc := 9) 47 dX11_dayEnds_9 (by decide) (fun c_9 => ?_) (fun c_9 => absurd (nI_le (Nat.le_refl _) (by omega)) c_9)
    refine g_aload_n (pc := 47) dX11_dayEnds_47 rfl ?_
    refine g_bipush (pc := 48) (v := 44) dX11_dayEnds_48 (by decide) ?_
    refine g_dup2 (pc := 50) dX11_dayEnds_50 rfl rfl ?_
    refine g_iaload (pc := 51) dX11_dayEnds_51 (mA hI k 45 hk (by decide)) (j := 44) (by decide) (by omega) (by decide) rfl ?_
    refine g_iconst (pc := 52) (v := 1) dX11_dayEnds_52 (by decide) ?_
    refine g_iadd (pc := 53) dX11_dayEnds_53 ?_
    refine m_iast (pc := 54) (k := k) (n := 45) hI hk (by decide) dX11_dayEnds_54 (j := 44) (by decide) (by omega) (by decide) (fun h hI fr => ?_)
    replace hF := mFr.tr hF fr
    refine g_return (pc := 55) dX11_dayEnds_55 rfl ?_
    refine ⟨rfl, ?_, hF⟩
    rw [sv_svR, svR_row] at hI
    rw [show dayF (V k) r 44 = V k 44 by unfold dayF; rw [if_neg (by omega), if_neg (by omega)]] at hI
    exact hI
  | succ m ih =>
    intro r h hm hr hI hF
    have h10 := hT0.2.2.2.2.1
    have hT := hT0.row (R := dayF (V k) r) hk
    refine g_iload_n (pc := 2) dX11_dayEnds_2 rfl ?_
    refine g_aload_n (pc := 3) dX11_dayEnds_3 rfl ?_
    refine g_getfield (pc := 4) f_X11_23_11 dX11_dayEnds_4 hI.1 mf_12 ?_
    refine g_iconst (pc := 7) (v := 1) dX11_dayEnds_7 (by decide) ?_
    refine g_iaload (pc := 8) dX11_dayEnds_8 (mA hI 12 3 rfl (by decide)) (j := 1) (by decide) (by omega) (by decide) rfl ?_
    rw [hT.2.1]
    refine g_icmp_ge (pc := 9) 47 dX11_dayEnds_9 (by decide) (fun c_9 => absurd c_9 (by intro w; have := (nI_leI (by omega) (by omega)).mp w; omega)) (fun c_9 => ?_)
    refine g_aload_n (pc := 12) dX11_dayEnds_12 rfl ?_
    refine g_bipush (pc := 13) (v := 16) dX11_dayEnds_13 (by decide) ?_
    refine g_iload_n (pc := 15) dX11_dayEnds_15 rfl ?_
    refine g_iadd (pc := 16) dX11_dayEnds_16 ?_
    refine g_dup2 (pc := 17) dX11_dayEnds_17 rfl rfl ?_
    refine g_iaload (pc := 18) dX11_dayEnds_18 (mA hI k 45 hk (by decide)) (j := 16 + r) (nI_add 16 r) (by omega) (by decide) rfl ?_
    refine g_aload_n (pc := 19) dX11_dayEnds_19 rfl ?_
    refine g_iload_n (pc := 20) dX11_dayEnds_20 rfl ?_
    refine g_cS (pc := 21) (M' := mX11_isKept) (as := [_, _]) i_X11_267 eX11_isKept dX11_dayEnds_21 (c_isKept hI hk r (by omega)) (by omega) rfl rfl (Nat.le_of_ble_eq_true rfl) ?_
    rw [svR_row, show kpd (dayF (V k) r) r = kpd (V k) r by unfold kpd dayF; rw [if_neg (by omega), if_neg (by omega)]]
    refine g_ifB_eq (pc := 24) 31 dX11_dayEnds_24 (by decide) (fun c_24 => ?_) (fun c_24 => ?_)
    · refine g_iconst (pc := 31) (v := 0) dX11_dayEnds_31 (by decide) ?_
      refine g_iadd (pc := 32) dX11_dayEnds_32 ?_
      refine m_iast (pc := 33) (k := k) (n := 45) hI hk (by decide) dX11_dayEnds_33 (j := 16 + r) (nI_add 16 r) (by omega) (by decide) (fun h hI fr => ?_)
      replace hF := mFr.tr hF fr
      refine g_aload_n (pc := 34) dX11_dayEnds_34 rfl ?_
      refine g_bipush (pc := 35) (v := 26) dX11_dayEnds_35 (by decide) ?_
      refine g_iload_n (pc := 37) dX11_dayEnds_37 rfl ?_
      refine g_iadd (pc := 38) dX11_dayEnds_38 ?_
      refine g_iconst (pc := 39) (v := 0) dX11_dayEnds_39 (by decide) ?_
      refine m_iast (pc := 40) (k := k) (n := 45) hI hk (by decide) dX11_dayEnds_40 (j := 26 + r) (nI_add 26 r) (by omega) (by decide) (fun h hI fr => ?_)
      replace hF := mFr.tr hF fr
      refine g_iinc (pc := 41) (ls' := [_, _, _]) dX11_dayEnds_41 rfl (by first | exact nI_1 _ | exact rfl) (by decide) rfl rfl ?_
      refine g_goto (pc := 44) 2 dX11_dayEnds_44 (by decide) ?_
      refine ih (r + 1) h (by omega) (by omega) ?_ hF
      rw [sv_svR, sv_svR, dayF_s (by omega) (by rw [c_24]; show _ = (if _ then _ else _); rw [if_neg (by decide), Int32.add_zero]; unfold dayF; rw [if_neg (by omega), if_neg (by omega)])] at hI
      exact hI
    · refine g_iconst (pc := 27) (v := 1) dX11_dayEnds_27 (by decide) ?_
      refine g_goto (pc := 28) 32 dX11_dayEnds_28 (by decide) ?_
      refine g_iadd (pc := 32) dX11_dayEnds_32 ?_
      refine m_iast (pc := 33) (k := k) (n := 45) hI hk (by decide) dX11_dayEnds_33 (j := 16 + r) (nI_add 16 r) (by omega) (by decide) (fun h hI fr => ?_)
      replace hF := mFr.tr hF fr
      refine g_aload_n (pc := 34) dX11_dayEnds_34 rfl ?_
      refine g_bipush (pc := 35) (v := 26) dX11_dayEnds_35 (by decide) ?_
      refine g_iload_n (pc := 37) dX11_dayEnds_37 rfl ?_
      refine g_iadd (pc := 38) dX11_dayEnds_38 ?_
      refine g_iconst (pc := 39) (v := 0) dX11_dayEnds_39 (by decide) ?_
      refine m_iast (pc := 40) (k := k) (n := 45) hI hk (by decide) dX11_dayEnds_40 (j := 26 + r) (nI_add 26 r) (by omega) (by decide) (fun h hI fr => ?_)
      replace hF := mFr.tr hF fr
      refine g_iinc (pc := 41) (ls' := [_, _, _]) dX11_dayEnds_41 rfl (by first | exact nI_1 _ | exact rfl) (by decide) rfl rfl ?_
      refine g_goto (pc := 44) 2 dX11_dayEnds_44 (by decide) ?_
      refine ih (r + 1) h (by omega) (by omega) ?_ hF
      rw [sv_svR, sv_svR, dayF_s (by omega) (by rw [c_24]; show _ = (if _ then _ else _); rw [if_pos rfl]; unfold dayF; rw [if_neg (by omega), if_neg (by omega)])] at hI
      exact hI
theorem c_dayEnds (hd : 1 ≤ d) (hI : InvM am V h) (hT : MT V D nS nR nP) (hk : mlen k = 45) : Ct E d 0 0 mX11_dayEnds [vR (nMo am), vR (nMa am k)] h (mQ am (svR V k (dayR nR (V k))) h none) := by
  refine ct_of (by decide) (Nat.le_of_ble_eq_true rfl) rfl ?_
  refine g_iconst (pc := 0) (v := 0) dX11_dayEnds_0 (by decide) ?_
  refine g_istore_n (pc := 1) (ls' := [_, _, _]) dX11_dayEnds_1 (by decide) rfl rfl ?_
  exact l_dayEnds hd hT hk nR 0 h rfl (Nat.zero_le _) (by rw [dayF_0, svR_self]; exact hI) mFr.rf
def curR (R : Nat → Int32) (r p : Nat) : Nat → Int32 := j_up (j_up R (36 + p) (nI r)) (26 + r) 1
theorem c_cures (hd : 8 ≤ d) (hI : InvM am V h) (hT : MT V D nS nR nP) (hl : okL V) (hk : mlen k = 45) (r p : Nat) (hr : r < nR) (hp : p < nP) : Ct E d 0 0 mX11_cures [vR (nMo am), vR (nMa am k), vI (nI r), vI (nI p)] h (mQ am (if ccI (mlaw V) D nR (V k) r p = true then svR V k (curR (V k) r p) else V) h (some (vI (bI (ccI (mlaw V) D nR (V k) r p))))) := by
  refine ct_of (by decide) (Nat.le_of_ble_eq_true rfl) rfl ?_
  have hF : mFr h h := mFr.rf
  have h10 := hT.2.2.2.2.1
  have h8 := hT.2.2.2.2.2.1
  refine g_aload_n (pc := 0) dX11_cures_0 rfl ?_
  refine g_aload_n (pc := 1) dX11_cures_1 rfl ?_
  refine g_iload_n (pc := 2) dX11_cures_2 rfl ?_
  refine g_iload_n (pc := 3) dX11_cures_3 rfl ?_
  refine m_cP (pc := 4) (M' := mX11_canCure) (as := [_, _, _]) i_X11_299_11 eX11_canCure hI dX11_cures_4 (c_canCure (by omega) hI hT hl hk r p hr hp) (by omega) rfl rfl (Nat.le_of_ble_eq_true rfl) ?_
  refine g_ifB_ne (pc := 7) 12 dX11_cures_7 (by decide) (fun c_7 => ?_) (fun c_7 => ?_)
  · refine g_aload_n (pc := 12) dX11_cures_12 rfl ?_
    refine g_bipush (pc := 13) (v := 36) dX11_cures_13 (by decide) ?_
    refine g_iload_n (pc := 15) dX11_cures_15 rfl ?_
    refine g_iadd (pc := 16) dX11_cures_16 ?_
    refine g_iload_n (pc := 17) dX11_cures_17 rfl ?_
    refine m_iast (pc := 18) (k := k) (n := 45) hI hk (by decide) dX11_cures_18 (j := 36 + p) (nI_add 36 p) (by omega) (by decide) (fun h hI fr => ?_)
    replace hF := mFr.tr hF fr
    refine g_aload_n (pc := 19) dX11_cures_19 rfl ?_
    refine g_bipush (pc := 20) (v := 26) dX11_cures_20 (by decide) ?_
    refine g_iload_n (pc := 22) dX11_cures_22 rfl ?_
    refine g_iadd (pc := 23) dX11_cures_23 ?_
    refine g_iconst (pc := 24) (v := 1) dX11_cures_24 (by decide) ?_
    refine m_iast (pc := 25) (k := k) (n := 45) hI hk (by decide) dX11_cures_25 (j := 26 + r) (nI_add 26 r) (by omega) (by decide) (fun h hI fr => ?_)
    replace hF := mFr.tr hF fr
    refine g_iconst (pc := 26) (v := 1) dX11_cures_26 (by decide) ?_
    refine g_ireturn (pc := 27) dX11_cures_27 rfl (by first | exact rfl | exact j_nb _) ?_
    rw [c_7]
    first
      | exact ⟨rfl, by rw [if_neg (by decide)]; exact hI, hF⟩
      | (rw [sv_R (V := V), sv_svR] at hI
         exact ⟨rfl, by rw [if_pos rfl]; exact hI, hF⟩)
  · refine g_iconst (pc := 10) (v := 0) dX11_cures_10 (by decide) ?_
    refine g_ireturn (pc := 11) dX11_cures_11 rfl (by first | exact rfl | exact j_nb _) ?_
    rw [c_7]
    first
      | exact ⟨rfl, by rw [if_neg (by decide)]; exact hI, hF⟩
      | (rw [sv_R (V := V), sv_svR] at hI
         exact ⟨rfl, by rw [if_pos rfl]; exact hI, hF⟩)
set_option maxHeartbeats 4000000 in
theorem l_copies {bc bs : Nat} {x y : jN} {f g : Nat → Int32} (hx : h x = some (iA 45 f)) (hne : x ≠ y) (hro : y.1 ≠ 0) : ∀ (m r : Nat), 45 - r = m → r ≤ 45 → G E d bc bs mX11_copies 2 [some (vR x), some (vR y), some (vI (nI r))] [] (hs h y (iA 45 (fun j => if j < r then f j else g j))) (fun o h' => o = .inl none ∧ h' = hs h y (iA 45 f)) := by
  intro m
  induction m with
  | zero =>
    intro r hm hr
    have e : r = 45 := by omega
    subst e
    refine g_iload_n (pc := 2) dX11_copies_2 rfl ?_
    refine g_bipush (pc := 3) (v := 45) dX11_copies_3 (by decide) ?_
    refine g_icmp_ge (pc := 5) 20 dX11_copies_5 (by decide) (fun c_5 => ?_) (fun c_5 => absurd (by decide) c_5)
    refine g_ext (fun j => vI (f j)) hs_same (fun j hj => by simp [hj]) ?_
    rw [hs_hs]
    refine g_return (pc := 20) dX11_copies_20 rfl ?_
    exact ⟨rfl, rfl⟩
  | succ m ih =>
    intro r hm hr
    refine g_iload_n (pc := 2) dX11_copies_2 rfl ?_
    refine g_bipush (pc := 3) (v := 45) dX11_copies_3 (by decide) ?_
    refine g_icmp_ge (pc := 5) 20 dX11_copies_5 (by decide) (fun c_5 => absurd c_5 (by intro w; have := (nI_leI (a := 45) (by decide) (by omega)).mp w; omega)) (fun c_5 => ?_)
    refine g_aload_n (pc := 8) dX11_copies_8 rfl ?_
    refine g_iload_n (pc := 9) dX11_copies_9 rfl ?_
    refine g_aload_n (pc := 10) dX11_copies_10 rfl ?_
    refine g_iload_n (pc := 11) dX11_copies_11 rfl ?_
    refine g_iaload (pc := 12) dX11_copies_12 ((hs_ne hne).trans hx) rfl (by omega) (by decide) rfl ?_
    refine g_iastore (pc := 13) dX11_copies_13 hs_same hro rfl (by omega) (by decide) ?_
    rw [hs_hs, show j_up (fun j => if j < r then f j else g j) r (f r) = fun j => if j < r + 1 then f j else g j from funext fun j => by unfold j_up; by_cases e : j = r <;> by_cases w : j < r <;> simp [e, w] <;> omega]
    refine g_iinc (pc := 14) (ls' := [_, _, _]) dX11_copies_14 rfl (by first | exact nI_1 _ | exact rfl) (by decide) rfl rfl ?_
    refine g_goto (pc := 17) 2 dX11_copies_17 (by decide) ?_
    exact ih (r + 1) (by omega) (by omega)
theorem c_copies {x y : jN} {f g : Nat → Int32} (hx : h x = some (iA 45 f)) (hy : h y = some (iA 45 g)) (hne : x ≠ y) (hro : y.1 ≠ 0) : Ct E d 0 0 mX11_copies [vR x, vR y] h (fun o h' => o = .inl none ∧ h' = hs h y (iA 45 f)) := by
  refine ct_of (by decide) (Nat.le_of_ble_eq_true rfl) rfl ?_
  refine g_iconst (pc := 0) (v := 0) dX11_copies_0 (by decide) ?_
  refine g_istore_n (pc := 1) (ls' := [_, _, _]) dX11_copies_1 (by decide) rfl rfl ?_
  have q := l_copies (E := E) (d := d) (bc := 0) (bs := 0) (g := g) hx hne hro 45 0 rfl (by decide)
  rw [show (fun j => if j < 0 then f j else g j) = g from funext fun j => by simp, hs_self hy] at q
  exact q
set_option maxHeartbeats 2000000 in
theorem l_powersIn {bc bs : Nat} (hd : 6 ≤ d) (hI : InvM am V h) (hT : MT V D nS nR nP) (hl : okL V) (hk : mlen k = 45) : ∀ (m r : Nat), nR - r = m → r ≤ nR → G E d bc bs mX11_powersIn 4 [some (vR (nMo am)), some (vR (nMa am k)), some (vI (sumI (pwr (mlaw V) D nR (V k)) r)), some (vI (nI r))] [] h (qR (some (vI (sumI (pwr (mlaw V) D nR (V k)) nR))) h) := by
  intro m
  induction m with
  | zero =>
    intro r hm hr
    have e : r = nR := by omega
    subst e
    have h10 := hT.2.2.2.2.1
    refine g_iload_n (pc := 4) dX11_powersIn_4 rfl ?_
    refine g_aload_n (pc := 5) dX11_powersIn_5 rfl ?_
    refine g_getfield (pc := 6) f_X11_23_11 dX11_powersIn_6 hI.1 mf_12 ?_
    refine g_iconst (pc := 9) (v := 1) dX11_powersIn_9 (by decide) ?_
    refine g_iaload (pc := 10) dX11_powersIn_10 (mA hI 12 3 rfl (by decide)) (j := 1) (by decide) (by omega) (by decide) rfl ?_
    rw [hT.2.1]
    refine g_icmp_ge (pc := 11) 29 dX11_powersIn_11 (by decide) (fun c_11 => ?_) (fun c_11 => absurd (nI_le (Nat.le_refl _) (by omega)) c_11)
    refine g_iload_n (pc := 29) dX11_powersIn_29 rfl ?_
    refine g_ireturn (pc := 30) dX11_powersIn_30 rfl (by first | exact rfl | exact j_nb _) ?_
    exact ⟨rfl, rfl⟩
  | succ m ih =>
    intro r hm hr
    have h10 := hT.2.2.2.2.1
    refine g_iload_n (pc := 4) dX11_powersIn_4 rfl ?_
    refine g_aload_n (pc := 5) dX11_powersIn_5 rfl ?_
    refine g_getfield (pc := 6) f_X11_23_11 dX11_powersIn_6 hI.1 mf_12 ?_
    refine g_iconst (pc := 9) (v := 1) dX11_powersIn_9 (by decide) ?_
    refine g_iaload (pc := 10) dX11_powersIn_10 (mA hI 12 3 rfl (by decide)) (j := 1) (by decide) (by omega) (by decide) rfl ?_
    rw [hT.2.1]
    refine g_icmp_ge (pc := 11) 29 dX11_powersIn_11 (by decide) (fun c_11 => absurd c_11 (by intro w; have := (nI_leI (by omega) (by omega)).mp w; omega)) (fun c_11 => ?_)
    refine g_iload_n (pc := 14) dX11_powersIn_14 rfl ?_
    refine g_aload_n (pc := 15) dX11_powersIn_15 rfl ?_
    refine g_aload_n (pc := 16) dX11_powersIn_16 rfl ?_
    refine g_iload_n (pc := 17) dX11_powersIn_17 rfl ?_
    refine m_cP (pc := 18) (M' := mX11_power) (as := [_, _]) i_X11_289_11 eX11_power hI dX11_powersIn_18 (c_power (by omega) hI hT hl hk r (by omega)) (by omega) rfl rfl (Nat.le_of_ble_eq_true rfl) ?_
    refine g_iadd (pc := 21) dX11_powersIn_21 ?_
    refine g_istore_n (pc := 22) (ls' := [_, _, _, _]) dX11_powersIn_22 (by decide) rfl rfl ?_
    refine g_iinc (pc := 23) (ls' := [_, _, _, _]) dX11_powersIn_23 rfl (by first | exact nI_1 _ | exact rfl) (by decide) rfl rfl ?_
    refine g_goto (pc := 26) 4 dX11_powersIn_26 (by decide) ?_
    exact ih (r + 1) (by omega) (by omega)
theorem c_powersIn (hd : 6 ≤ d) (hI : InvM am V h) (hT : MT V D nS nR nP) (hl : okL V) (hk : mlen k = 45) : Ct E d 0 0 mX11_powersIn [vR (nMo am), vR (nMa am k)] h (qR (some (vI (sumI (pwr (mlaw V) D nR (V k)) nR))) h) := by
  refine ct_of (by decide) (Nat.le_of_ble_eq_true rfl) rfl ?_
  refine g_iconst (pc := 0) (v := 0) dX11_powersIn_0 (by decide) ?_
  refine g_istore_n (pc := 1) (ls' := [_, _, _, _]) dX11_powersIn_1 (by decide) rfl rfl ?_
  refine g_iconst (pc := 2) (v := 0) dX11_powersIn_2 (by decide) ?_
  refine g_istore_n (pc := 3) (ls' := [_, _, _, _]) dX11_powersIn_3 (by decide) rfl rfl ?_
  exact l_powersIn hd hI hT hl hk nR 0 rfl (Nat.zero_le _)
set_option maxHeartbeats 2000000 in
theorem l_curedIn {bc bs : Nat} (hI : InvM am V h) (hT : MT V D nS nR nP) (hk : mlen k = 45) : ∀ (m r : Nat), nP - r = m → r ≤ nP → G E d bc bs mX11_curedIn 4 [some (vR (nMo am)), some (vR (nMa am k)), some (vI (bitsI (crd (V k)) r)), some (vI (nI r))] [] h (qR (some (vI (bitsI (crd (V k)) nP))) h) := by
  intro m
  induction m with
  | zero =>
    intro r hm hr
    have e : r = nP := by omega
    subst e
    have h8 := hT.2.2.2.2.2.1
    refine g_iload_n (pc := 4) dX11_curedIn_4 rfl ?_
    refine g_aload_n (pc := 5) dX11_curedIn_5 rfl ?_
    refine g_getfield (pc := 6) f_X11_23_11 dX11_curedIn_6 hI.1 mf_12 ?_
    refine g_iconst (pc := 9) (v := 2) dX11_curedIn_9 (by decide) ?_
    refine g_iaload (pc := 10) dX11_curedIn_10 (mA hI 12 3 rfl (by decide)) (j := 2) (by decide) (by omega) (by decide) rfl ?_
    rw [hT.2.2.1]
    refine g_icmp_ge (pc := 11) 40 dX11_curedIn_11 (by decide) (fun c_11 => ?_) (fun c_11 => absurd (nI_le (Nat.le_refl _) (by omega)) c_11)
    refine g_iload_n (pc := 40) dX11_curedIn_40 rfl ?_
    refine g_ireturn (pc := 41) dX11_curedIn_41 rfl (by first | exact rfl | exact j_nb _) ?_
    exact ⟨rfl, rfl⟩
  | succ m ih =>
    intro r hm hr
    have h8 := hT.2.2.2.2.2.1
    refine g_iload_n (pc := 4) dX11_curedIn_4 rfl ?_
    refine g_aload_n (pc := 5) dX11_curedIn_5 rfl ?_
    refine g_getfield (pc := 6) f_X11_23_11 dX11_curedIn_6 hI.1 mf_12 ?_
    refine g_iconst (pc := 9) (v := 2) dX11_curedIn_9 (by decide) ?_
    refine g_iaload (pc := 10) dX11_curedIn_10 (mA hI 12 3 rfl (by decide)) (j := 2) (by decide) (by omega) (by decide) rfl ?_
    rw [hT.2.2.1]
    refine g_icmp_ge (pc := 11) 40 dX11_curedIn_11 (by decide) (fun c_11 => absurd c_11 (by intro w; have := (nI_leI (by omega) (by omega)).mp w; omega)) (fun c_11 => ?_)
    refine g_iload_n (pc := 14) dX11_curedIn_14 rfl ?_
    refine g_aload_n (pc := 15) dX11_curedIn_15 rfl ?_
    refine g_bipush (pc := 16) (v := 36) dX11_curedIn_16 (by decide) ?_
    refine g_iload_n (pc := 18) dX11_curedIn_18 rfl ?_
    refine g_iadd (pc := 19) dX11_curedIn_19 ?_
    refine g_iaload (pc := 20) dX11_curedIn_20 (mA hI k 45 hk (by decide)) (j := 36 + r) (nI_add 36 r) (by omega) (by decide) rfl ?_
    refine g_iconst (pc := 21) (v := -1) dX11_curedIn_21 (by decide) ?_
    refine g_icmp_ne (pc := 22) 29 dX11_curedIn_22 (by decide) (fun c_22 => ?_) (fun c_22 => ?_)
    · refine g_iconst (pc := 29) (v := 1) dX11_curedIn_29 (by decide) ?_
      refine g_iload_n (pc := 30) dX11_curedIn_30 rfl ?_
      refine g_ishl (pc := 31) dX11_curedIn_31 ?_
      refine g_ior (pc := 32) dX11_curedIn_32 ?_
      refine g_istore_n (pc := 33) (ls' := [_, _, _, _]) dX11_curedIn_33 (by decide) rfl rfl ?_
      refine g_iinc (pc := 34) (ls' := [_, _, _, _]) dX11_curedIn_34 rfl (by first | exact nI_1 _ | exact rfl) (by decide) rfl rfl ?_
      refine g_goto (pc := 37) 4 dX11_curedIn_37 (by decide) ?_
      have e : bitsI (crd (V k)) (r + 1) = _ := show bitsI (crd (V k)) r ||| (if crd (V k) r = true then bitI r else 0) = _ from by rw [if_pos (by unfold crd; simp [c_22])]
      have q := ih (r + 1) (by omega) (by omega)
      rw [e] at q
      exact q
    · refine g_iconst (pc := 25) (v := 0) dX11_curedIn_25 (by decide) ?_
      refine g_goto (pc := 26) 32 dX11_curedIn_26 (by decide) ?_
      refine g_ior (pc := 32) dX11_curedIn_32 ?_
      refine g_istore_n (pc := 33) (ls' := [_, _, _, _]) dX11_curedIn_33 (by decide) rfl rfl ?_
      refine g_iinc (pc := 34) (ls' := [_, _, _, _]) dX11_curedIn_34 rfl (by first | exact nI_1 _ | exact rfl) (by decide) rfl rfl ?_
      refine g_goto (pc := 37) 4 dX11_curedIn_37 (by decide) ?_
      have e : bitsI (crd (V k)) (r + 1) = _ := show bitsI (crd (V k)) r ||| (if crd (V k) r = true then bitI r else 0) = _ from by rw [if_neg (by unfold crd; simp [c_22])]
      have q := ih (r + 1) (by omega) (by omega)
      rw [e] at q
      exact q
theorem c_curedIn (hI : InvM am V h) (hT : MT V D nS nR nP) (hk : mlen k = 45) : Ct E d 0 0 mX11_curedIn [vR (nMo am), vR (nMa am k)] h (qR (some (vI (bitsI (crd (V k)) nP))) h) := by
  refine ct_of (by decide) (Nat.le_of_ble_eq_true rfl) rfl ?_
  refine g_iconst (pc := 0) (v := 0) dX11_curedIn_0 (by decide) ?_
  refine g_istore_n (pc := 1) (ls' := [_, _, _, _]) dX11_curedIn_1 (by decide) rfl rfl ?_
  refine g_iconst (pc := 2) (v := 0) dX11_curedIn_2 (by decide) ?_
  refine g_istore_n (pc := 3) (ls' := [_, _, _, _]) dX11_curedIn_3 (by decide) rfl rfl ?_
  exact l_curedIn hI hT hk nP 0 rfl (Nat.zero_le _)
end
