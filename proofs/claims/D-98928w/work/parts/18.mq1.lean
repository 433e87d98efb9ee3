/-! THE REFERENCE: questions. Printed by m_q1.py -/
set_option maxRecDepth 100000
/-- refused: which exception, which count -/
def refV (V : mV) (w : Int32) (r : Nat) : mV := sv (sv V 0 0 w) 10 r (V 10 r + 1)
/-- a question begins -/
def thr0 (V : mV) : mV := sv V 0 0 0
theorem thr0_0 {V : mV} : thr0 V 0 0 = 0 := sv_same
theorem refV_thr0 {V : mV} {w : Int32} {r : Nat} : refV (thr0 V) w r = refV V w r := by
  unfold refV thr0
  rw [sv_sv, sv_ne (show 10 ≠ 0 by decide)]
theorem MT.f0 {V : mV} {D : Nat → Nat → Nat} {nS nR nP j : Nat} {y : Int32} (h : MT V D nS nR nP) : MT (sv V 0 j y) D nS nR nP := by
  unfold MT at h ⊢
  rw [sv_ne (show 12 ≠ 0 by decide), sv_ne (show 14 ≠ 0 by decide)]
  refine ⟨h.1, h.2.1, h.2.2.1, h.2.2.2.1, h.2.2.2.2.1, h.2.2.2.2.2.1, fun r hr => ?_, fun p hp => ?_, h.2.2.2.2.2.2.2.2⟩
  · rw [sv_ne (show 1000 * 18 + r ≠ 0 by omega)]; exact h.2.2.2.2.2.2.1 r hr
  · rw [sv_ne (show 1000 * 20 + p ≠ 0 by omega)]; exact h.2.2.2.2.2.2.2.1 p hp
theorem mlaw_f0 {V : mV} {j : Nat} {y : Int32} (hj : j ≠ 21) : mlaw (sv V 0 j y) = mlaw V := by
  unfold mlaw
  rw [sv_nj (fun e => hj e.symm)]
  congr 1
  funext i
  rw [sv_ne (show 1000 * 23 + i ≠ 0 by omega)]
theorem okL.f0 {V : mV} {j : Nat} {y : Int32} (h : okL V) (hj : j ≠ 21) : okL (sv V 0 j y) := by
  obtain ⟨L, h1, h2⟩ := h
  refine ⟨L, by rw [sv_nj (fun e => hj e.symm)]; exact h1, ?_⟩
  rw [show (fun i => sv V 0 j y (1000 * 23 + i)) = fun i => V (1000 * 23 + i) from funext fun i => sv_ne (by omega)]
  exact h2
section
variable {E : jE} {d : Nat} {h : jH} {am : Nat → Nat} {V : mV} {D : Nat → Nat → Nat} {nS nR nP k : Nat}
theorem c_badT (hI : InvM am V h) (h0 : V 0 0 = 0) (w : Int32) (hw : w ≠ 0) (r : Nat) (hr : r < 2) : Ct E d 0 0 mX11_bad [vR (nMo am), vI 1, vI w, vI (nI r)] h (mQ am (refV V w r) h (some (vI (bI true)))) := by
  have q := c_bad (E := E) (d := d) hI true w r hr
  have e : mBad V true w r = refV V w r := by unfold mBad refV; rw [if_pos ⟨rfl, h0⟩, sv_ne (show 10 ≠ 0 by decide)]
  rw [e, show refV V w r 0 0 = w by unfold refV; rw [sv_ne (show 0 ≠ 10 by decide), sv_same], decide_eq_true hw] at q
  exact q
theorem c_badF (hI : InvM am V h) (h0 : V 0 0 = 0) (w : Int32) (r : Nat) (hr : r < 2) : Ct E d 0 0 mX11_bad [vR (nMo am), vI 0, vI w, vI (nI r)] h (mQ am V h (some (vI (bI false)))) := by
  have q := c_bad (E := E) (d := d) hI false w r hr
  have e : mBad V false w r = V := by unfold mBad; rw [if_neg (by simp)]
  rw [e, h0] at q
  exact q

theorem c_isSister (hI : InvM am V h) (hT : MT V D nS nR nP) (hd : 1 ≤ d) (s : Int32) : Ct E d 0 0 mX11_isSister [vR (nMo am), vI s] h (qR (some (vI (bI (inR s 0 (nI nS - 1))))) h) := by
  refine ct_of (by decide) (Nat.le_of_ble_eq_true rfl) rfl ?_
  refine g_iload_n (pc := 0) dX11_isSister_0 rfl ?_
  refine g_iconst (pc := 1) (v := 0) dX11_isSister_1 (by decide) ?_
  refine g_aload_n (pc := 2) dX11_isSister_2 rfl ?_
  refine g_getfield (pc := 3) f_X11_23_11 dX11_isSister_3 hI.1 mf_12 ?_
  refine g_iconst (pc := 6) (v := 0) dX11_isSister_6 (by decide) ?_
  refine g_iaload (pc := 7) dX11_isSister_7 (mA hI 12 3 rfl (by decide)) (j := 0) (by decide) (by omega) (by decide) rfl ?_
  rw [hT.1]
  refine g_iconst (pc := 8) (v := 1) dX11_isSister_8 (by decide) ?_
  refine g_isub (pc := 9) dX11_isSister_9 ?_
  refine g_cS (pc := 10) (M' := mX11_in) (as := [_, _, _]) i_X11_137 eX11_in dX11_isSister_10 (c_in _ _ _) (by omega) rfl rfl (Nat.le_of_ble_eq_true rfl) ?_
  refine g_ireturn (pc := 13) dX11_isSister_13 rfl (by first | exact rfl | exact j_nb _) ?_
  exact ⟨rfl, rfl⟩

theorem c_isRelic (hI : InvM am V h) (hT : MT V D nS nR nP) (hd : 1 ≤ d) (s : Int32) : Ct E d 0 0 mX11_isRelic [vR (nMo am), vI s] h (qR (some (vI (bI (inR s 0 (nI nR - 1))))) h) := by
  refine ct_of (by decide) (Nat.le_of_ble_eq_true rfl) rfl ?_
  refine g_iload_n (pc := 0) dX11_isRelic_0 rfl ?_
  refine g_iconst (pc := 1) (v := 0) dX11_isRelic_1 (by decide) ?_
  refine g_aload_n (pc := 2) dX11_isRelic_2 rfl ?_
  refine g_getfield (pc := 3) f_X11_23_11 dX11_isRelic_3 hI.1 mf_12 ?_
  refine g_iconst (pc := 6) (v := 1) dX11_isRelic_6 (by decide) ?_
  refine g_iaload (pc := 7) dX11_isRelic_7 (mA hI 12 3 rfl (by decide)) (j := 1) (by decide) (by omega) (by decide) rfl ?_
  rw [hT.2.1]
  refine g_iconst (pc := 8) (v := 1) dX11_isRelic_8 (by decide) ?_
  refine g_isub (pc := 9) dX11_isRelic_9 ?_
  refine g_cS (pc := 10) (M' := mX11_in) (as := [_, _, _]) i_X11_137 eX11_in dX11_isRelic_10 (c_in _ _ _) (by omega) rfl rfl (Nat.le_of_ble_eq_true rfl) ?_
  refine g_ireturn (pc := 13) dX11_isRelic_13 rfl (by first | exact rfl | exact j_nb _) ?_
  exact ⟨rfl, rfl⟩

theorem c_isPerson (hI : InvM am V h) (hT : MT V D nS nR nP) (hd : 1 ≤ d) (s : Int32) : Ct E d 0 0 mX11_isPerson [vR (nMo am), vI s] h (qR (some (vI (bI (inR s 0 (nI nP - 1))))) h) := by
  refine ct_of (by decide) (Nat.le_of_ble_eq_true rfl) rfl ?_
  refine g_iload_n (pc := 0) dX11_isPerson_0 rfl ?_
  refine g_iconst (pc := 1) (v := 0) dX11_isPerson_1 (by decide) ?_
  refine g_aload_n (pc := 2) dX11_isPerson_2 rfl ?_
  refine g_getfield (pc := 3) f_X11_23_11 dX11_isPerson_3 hI.1 mf_12 ?_
  refine g_iconst (pc := 6) (v := 2) dX11_isPerson_6 (by decide) ?_
  refine g_iaload (pc := 7) dX11_isPerson_7 (mA hI 12 3 rfl (by decide)) (j := 2) (by decide) (by omega) (by decide) rfl ?_
  rw [hT.2.2.1]
  refine g_iconst (pc := 8) (v := 1) dX11_isPerson_8 (by decide) ?_
  refine g_isub (pc := 9) dX11_isPerson_9 ?_
  refine g_cS (pc := 10) (M' := mX11_in) (as := [_, _, _]) i_X11_137 eX11_in dX11_isPerson_10 (c_in _ _ _) (by omega) rfl rfl (Nat.le_of_ble_eq_true rfl) ?_
  refine g_ireturn (pc := 13) dX11_isPerson_13 rfl (by first | exact rfl | exact j_nb _) ?_
  exact ⟨rfl, rfl⟩
theorem c_mfault (hI : InvM am V h) : Ct E d 0 0 mX11_fault [vR (nMo am)] h (mQ am (thr0 V) h (some (vI (V 0 3)))) := by
  refine ct_of (by decide) (Nat.le_of_ble_eq_true rfl) rfl ?_
  have hF : mFr h h := mFr.rf
  refine g_aload_n (pc := 0) dX11_fault_0 rfl ?_
  refine g_iconst (pc := 1) (v := 0) dX11_fault_1 (by decide) ?_
  refine m_put (pc := 2) hI w_X11_103_11 rfl (by decide) dX11_fault_2 (fun h hI fr => ?_)
  replace hF := mFr.tr hF fr
  refine g_aload_n (pc := 5) dX11_fault_5 rfl ?_
  refine g_getfield (pc := 6) f_X11_9_11 dX11_fault_6 hI.1 mf_3 ?_
  rw [sv_nj (by decide)]
  refine g_ireturn (pc := 9) dX11_fault_9 rfl (by first | exact rfl | exact j_nb _) ?_
  exact ⟨rfl, hI, hF⟩
def statI (V : mV) (w : Int32) : Int32 := if w = 0 then V 10 0 else if w = 1 then V 10 1 else -1
theorem in01 {w : Int32} : inR w 0 1 = true ↔ w = 0 ∨ w = 1 := by
  unfold inR
  constructor
  · intro h
    simp at h
    obtain ⟨x, hx, rfl⟩ := nI_of2 (M := 1) (n := 1) rfl (by intro q; exact absurd h.1 (by simpa using k2_nle q)) h.2
    have : x = 0 ∨ x = 1 := by omega
    rcases this with rfl | rfl
    · exact Or.inl rfl
    · exact Or.inr rfl
  · rintro (rfl | rfl) <;> decide
theorem c_mstatus (hd : 1 ≤ d) (hI : InvM am V h) (w : Int32) : Ct E d 0 0 mX11_status [vR (nMo am), vI w] h (mQ am (thr0 V) h (some (vI (statI V w)))) := by
  refine ct_of (by decide) (Nat.le_of_ble_eq_true rfl) rfl ?_
  have hF : mFr h h := mFr.rf
  refine g_aload_n (pc := 0) dX11_status_0 rfl ?_
  refine g_iconst (pc := 1) (v := 0) dX11_status_1 (by decide) ?_
  refine m_put (pc := 2) hI w_X11_103_11 rfl (by decide) dX11_status_2 (fun h hI fr => ?_)
  replace hF := mFr.tr hF fr
  refine g_iload_n (pc := 5) dX11_status_5 rfl ?_
  refine g_iconst (pc := 6) (v := 0) dX11_status_6 (by decide) ?_
  refine g_iconst (pc := 7) (v := 1) dX11_status_7 (by decide) ?_
  refine g_cS (pc := 8) (M' := mX11_in) (as := [_, _, _]) i_X11_137 eX11_in dX11_status_8 (c_in _ _ _) (by omega) rfl rfl (Nat.le_of_ble_eq_true rfl) ?_
  refine g_ifB_eq (pc := 11) 23 dX11_status_11 (by decide) (fun c_11 => ?_) (fun c_11 => ?_)
  · refine g_iconst (pc := 23) (v := -1) dX11_status_23 (by decide) ?_
    refine g_ireturn (pc := 24) dX11_status_24 rfl (by first | exact rfl | exact j_nb _) ?_
    first
      | (refine ⟨?_, hI, hF⟩
         have hx2 : x = 0 ∨ x = 1 := by omega
         rcases hx2 with rfl | rfl <;> rfl)
      | (refine ⟨?_, hI, hF⟩
         have q : ¬ (w = 0 ∨ w = 1) := fun q => by rw [in01.mpr q] at c_11; cases c_11
         unfold statI
         rw [if_neg (fun e => q (Or.inl e)), if_neg (fun e => q (Or.inr e))])
  · have q := in01.mp c_11
    obtain ⟨x, hx, rfl⟩ : ∃ x, x < 2 ∧ w = nI x := by rcases q with rfl | rfl; exact ⟨0, by decide, rfl⟩; exact ⟨1, by decide, rfl⟩
    refine g_aload_n (pc := 14) dX11_status_14 rfl ?_
    refine g_getfield (pc := 15) f_X11_17_11 dX11_status_15 hI.1 mf_10 ?_
    refine g_iload_n (pc := 18) dX11_status_18 rfl ?_
    refine g_iaload (pc := 19) dX11_status_19 (mA hI 10 2 rfl (by decide)) rfl (by omega) (by decide) rfl ?_
    refine g_goto (pc := 20) 24 dX11_status_20 (by decide) ?_
    refine g_ireturn (pc := 24) dX11_status_24 rfl (by first | exact rfl | exact j_nb _) ?_
    first
      | (refine ⟨?_, hI, hF⟩
         have hx2 : x = 0 ∨ x = 1 := by omega
         rcases hx2 with rfl | rfl <;> rfl)
      | (refine ⟨?_, hI, hF⟩
         have q : ¬ (w = 0 ∨ w = 1) := fun q => by rw [in01.mpr q] at c_11; cases c_11
         unfold statI
         rw [if_neg (fun e => q (Or.inl e)), if_neg (fun e => q (Or.inr e))])
def cntI (V : mV) (w : Int32) : Int32 := if w = 0 then V 0 38 else if w = 1 then V 0 1 else if w = 2 then V 0 36 else -1
theorem c_mcount (hI : InvM am V h) (w : Int32) : Ct E d 0 0 mX11_count [vR (nMo am), vI w] h (mQ am (thr0 V) h (some (vI (cntI V w)))) := by
  refine ct_of (by decide) (Nat.le_of_ble_eq_true rfl) rfl ?_
  have hF : mFr h h := mFr.rf
  refine g_aload_n (pc := 0) dX11_count_0 rfl ?_
  refine g_iconst (pc := 1) (v := 0) dX11_count_1 (by decide) ?_
  refine m_put (pc := 2) hI w_X11_103_11 rfl (by decide) dX11_count_2 (fun h hI fr => ?_)
  replace hF := mFr.tr hF fr
  refine g_iload_n (pc := 5) dX11_count_5 rfl ?_
  refine g_if_ne (pc := 6) 16 dX11_count_6 (by decide) (fun c_6 => ?_) (fun c_6 => ?_)
  · refine g_iload_n (pc := 16) dX11_count_16 rfl ?_
    refine g_iconst (pc := 17) (v := 1) dX11_count_17 (by decide) ?_
    refine g_icmp_ne (pc := 18) 28 dX11_count_18 (by decide) (fun c_18 => ?_) (fun c_18 => ?_)
    · refine g_iload_n (pc := 28) dX11_count_28 rfl ?_
      refine g_iconst (pc := 29) (v := 2) dX11_count_29 (by decide) ?_
      refine g_icmp_ne (pc := 30) 40 dX11_count_30 (by decide) (fun c_30 => ?_) (fun c_30 => ?_)
      · refine g_iconst (pc := 40) (v := -1) dX11_count_40 (by decide) ?_
        refine g_ireturn (pc := 41) dX11_count_41 rfl (by first | exact rfl | exact j_nb _) ?_
        exact ⟨by simp [cntI, *], hI, hF⟩
      · refine g_aload_n (pc := 33) dX11_count_33 rfl ?_
        refine g_getfield (pc := 34) f_X11_206_11 dX11_count_34 hI.1 mf_36 ?_
        rw [sv_nj (by decide)]
        refine g_goto (pc := 37) 41 dX11_count_37 (by decide) ?_
        refine g_ireturn (pc := 41) dX11_count_41 rfl (by first | exact rfl | exact j_nb _) ?_
        exact ⟨by simp [cntI, *], hI, hF⟩
    · refine g_aload_n (pc := 21) dX11_count_21 rfl ?_
      refine g_getfield (pc := 22) f_X11_106_11 dX11_count_22 hI.1 mf_1 ?_
      rw [sv_nj (by decide)]
      refine g_goto (pc := 25) 41 dX11_count_25 (by decide) ?_
      refine g_ireturn (pc := 41) dX11_count_41 rfl (by first | exact rfl | exact j_nb _) ?_
      exact ⟨by simp [cntI, *], hI, hF⟩
  · refine g_aload_n (pc := 9) dX11_count_9 rfl ?_
    refine g_getfield (pc := 10) f_X11_212_11 dX11_count_10 hI.1 mf_38 ?_
    rw [sv_nj (by decide)]
    refine g_goto (pc := 13) 41 dX11_count_13 (by decide) ?_
    refine g_ireturn (pc := 41) dX11_count_41 rfl (by first | exact rfl | exact j_nb _) ?_
    exact ⟨by simp [cntI, *], hI, hF⟩
theorem r_mtold (hd : 1 ≤ d) (hI : InvM am V h) (w : Int32) (hv : inR w 0 10 = false) : Ct E d 0 0 mX11_told [vR (nMo am), vI w] h (mQ am (refV V 1 1) h (some (vI 0))) := by
  refine ct_of (by decide) (Nat.le_of_ble_eq_true rfl) rfl ?_
  have hF : mFr h h := mFr.rf
  refine g_aload_n (pc := 0) dX11_told_0 rfl ?_
  refine g_iconst (pc := 1) (v := 0) dX11_told_1 (by decide) ?_
  refine m_put (pc := 2) hI w_X11_103_11 rfl (by decide) dX11_told_2 (fun h hI fr => ?_)
  replace hF := mFr.tr hF fr
  change InvM am (thr0 V) h at hI
  refine g_aload_n (pc := 5) dX11_told_5 rfl ?_
  refine g_iload_n (pc := 6) dX11_told_6 rfl ?_
  refine g_iconst (pc := 7) (v := 0) dX11_told_7 (by decide) ?_
  refine g_bipush (pc := 8) (v := 10) dX11_told_8 (by decide) ?_
  refine g_cS (pc := 10) (M' := mX11_in) (as := [_, _, _]) i_X11_137 eX11_in dX11_told_10 (c_in _ _ _) (by omega) rfl rfl (Nat.le_of_ble_eq_true rfl) ?_
  refine g_ifB_ne (pc := 13) 20 dX11_told_13 (by decide) (fun c_13 => absurd (c_13.symm.trans hv) (by decide)) (fun c_13 => ?_)
  refine g_iconst (pc := 16) (v := 1) dX11_told_16 (by decide) ?_
  refine g_goto (pc := 17) 21 dX11_told_17 (by decide) ?_
  refine g_iconst (pc := 21) (v := 1) dX11_told_21 (by decide) ?_
  refine g_iconst (pc := 22) (v := 1) dX11_told_22 (by decide) ?_
  refine m_cV (pc := 23) (M' := mX11_bad) (as := [_, _, _]) i_X11_183_11 eX11_bad hI dX11_told_23 (c_badT hI thr0_0 1 (by decide) 1 (by decide)) (by omega) rfl rfl (Nat.le_of_ble_eq_true rfl) (fun h hI fr => ?_)
  replace hF := mFr.tr hF fr
  refine g_ifB_eq (pc := 26) 31 dX11_told_26 (by decide) (fun c_26 => absurd c_26 (by decide)) (fun c_26 => ?_)
  refine g_iconst (pc := 29) (v := 0) dX11_told_29 (by decide) ?_
  refine g_ireturn (pc := 30) dX11_told_30 rfl (by first | exact rfl | exact j_nb _) ?_
  rw [refV_thr0] at hI
  exact ⟨rfl, hI, hF⟩
theorem r_mstrongest (hd : 1 ≤ d) (hI : InvM am V h) (w : Int32) (hv : inR w 0 1 = false) : Ct E d 0 0 mX11_strongest [vR (nMo am), vI w] h (mQ am (refV V 1 1) h (some (vI 0))) := by
  refine ct_of (by decide) (Nat.le_of_ble_eq_true rfl) rfl ?_
  have hF : mFr h h := mFr.rf
  refine g_aload_n (pc := 0) dX11_strongest_0 rfl ?_
  refine g_iconst (pc := 1) (v := 0) dX11_strongest_1 (by decide) ?_
  refine m_put (pc := 2) hI w_X11_103_11 rfl (by decide) dX11_strongest_2 (fun h hI fr => ?_)
  replace hF := mFr.tr hF fr
  change InvM am (thr0 V) h at hI
  refine g_aload_n (pc := 5) dX11_strongest_5 rfl ?_
  refine g_iload_n (pc := 6) dX11_strongest_6 rfl ?_
  refine g_iconst (pc := 7) (v := 0) dX11_strongest_7 (by decide) ?_
  refine g_iconst (pc := 8) (v := 1) dX11_strongest_8 (by decide) ?_
  refine g_cS (pc := 9) (M' := mX11_in) (as := [_, _, _]) i_X11_137 eX11_in dX11_strongest_9 (c_in _ _ _) (by omega) rfl rfl (Nat.le_of_ble_eq_true rfl) ?_
  refine g_ifB_ne (pc := 12) 19 dX11_strongest_12 (by decide) (fun c_12 => absurd (c_12.symm.trans hv) (by decide)) (fun c_12 => ?_)
  refine g_iconst (pc := 15) (v := 1) dX11_strongest_15 (by decide) ?_
  refine g_goto (pc := 16) 20 dX11_strongest_16 (by decide) ?_
  refine g_iconst (pc := 20) (v := 1) dX11_strongest_20 (by decide) ?_
  refine g_iconst (pc := 21) (v := 1) dX11_strongest_21 (by decide) ?_
  refine m_cV (pc := 22) (M' := mX11_bad) (as := [_, _, _]) i_X11_183_11 eX11_bad hI dX11_strongest_22 (c_badT hI thr0_0 1 (by decide) 1 (by decide)) (by omega) rfl rfl (Nat.le_of_ble_eq_true rfl) (fun h hI fr => ?_)
  replace hF := mFr.tr hF fr
  refine g_ifB_eq (pc := 25) 30 dX11_strongest_25 (by decide) (fun c_25 => absurd c_25 (by decide)) (fun c_25 => ?_)
  refine g_iconst (pc := 28) (v := 0) dX11_strongest_28 (by decide) ?_
  refine g_ireturn (pc := 29) dX11_strongest_29 rfl (by first | exact rfl | exact j_nb _) ?_
  rw [refV_thr0] at hI
  exact ⟨rfl, hI, hF⟩
theorem r_mneeds (hd : 1 ≤ d) (hI : InvM am V h) (w : Int32) (hv : inR w 0 5 = false) : Ct E d 0 0 mX11_needs [vR (nMo am), vI w] h (mQ am (refV V 1 1) h (some (vI 0))) := by
  refine ct_of (by decide) (Nat.le_of_ble_eq_true rfl) rfl ?_
  have hF : mFr h h := mFr.rf
  refine g_aload_n (pc := 0) dX11_needs_0 rfl ?_
  refine g_iconst (pc := 1) (v := 0) dX11_needs_1 (by decide) ?_
  refine m_put (pc := 2) hI w_X11_103_11 rfl (by decide) dX11_needs_2 (fun h hI fr => ?_)
  replace hF := mFr.tr hF fr
  change InvM am (thr0 V) h at hI
  refine g_aload_n (pc := 5) dX11_needs_5 rfl ?_
  refine g_iload_n (pc := 6) dX11_needs_6 rfl ?_
  refine g_iconst (pc := 7) (v := 0) dX11_needs_7 (by decide) ?_
  refine g_iconst (pc := 8) (v := 5) dX11_needs_8 (by decide) ?_
  refine g_cS (pc := 9) (M' := mX11_in) (as := [_, _, _]) i_X11_137 eX11_in dX11_needs_9 (c_in _ _ _) (by omega) rfl rfl (Nat.le_of_ble_eq_true rfl) ?_
  refine g_ifB_ne (pc := 12) 19 dX11_needs_12 (by decide) (fun c_12 => absurd (c_12.symm.trans hv) (by decide)) (fun c_12 => ?_)
  refine g_iconst (pc := 15) (v := 1) dX11_needs_15 (by decide) ?_
  refine g_goto (pc := 16) 20 dX11_needs_16 (by decide) ?_
  refine g_iconst (pc := 20) (v := 1) dX11_needs_20 (by decide) ?_
  refine g_iconst (pc := 21) (v := 1) dX11_needs_21 (by decide) ?_
  refine m_cV (pc := 22) (M' := mX11_bad) (as := [_, _, _]) i_X11_183_11 eX11_bad hI dX11_needs_22 (c_badT hI thr0_0 1 (by decide) 1 (by decide)) (by omega) rfl rfl (Nat.le_of_ble_eq_true rfl) (fun h hI fr => ?_)
  replace hF := mFr.tr hF fr
  refine g_ifB_eq (pc := 25) 30 dX11_needs_25 (by decide) (fun c_25 => absurd c_25 (by decide)) (fun c_25 => ?_)
  refine g_iconst (pc := 28) (v := 0) dX11_needs_28 (by decide) ?_
  refine g_ireturn (pc := 29) dX11_needs_29 rfl (by first | exact rfl | exact j_nb _) ?_
  rw [refV_thr0] at hI
  exact ⟨rfl, hI, hF⟩
theorem r_meldest (hd : 1 ≤ d) (hI : InvM am V h) (w : Int32) (hv : inR w 0 1 = false) : Ct E d 0 0 mX11_eldest [vR (nMo am), vI w] h (mQ am (refV V 1 1) h (some (vI 0))) := by
  refine ct_of (by decide) (Nat.le_of_ble_eq_true rfl) rfl ?_
  have hF : mFr h h := mFr.rf
  refine g_aload_n (pc := 0) dX11_eldest_0 rfl ?_
  refine g_iconst (pc := 1) (v := 0) dX11_eldest_1 (by decide) ?_
  refine m_put (pc := 2) hI w_X11_103_11 rfl (by decide) dX11_eldest_2 (fun h hI fr => ?_)
  replace hF := mFr.tr hF fr
  change InvM am (thr0 V) h at hI
  refine g_aload_n (pc := 5) dX11_eldest_5 rfl ?_
  refine g_iload_n (pc := 6) dX11_eldest_6 rfl ?_
  refine g_iconst (pc := 7) (v := 0) dX11_eldest_7 (by decide) ?_
  refine g_iconst (pc := 8) (v := 1) dX11_eldest_8 (by decide) ?_
  refine g_cS (pc := 9) (M' := mX11_in) (as := [_, _, _]) i_X11_137 eX11_in dX11_eldest_9 (c_in _ _ _) (by omega) rfl rfl (Nat.le_of_ble_eq_true rfl) ?_
  refine g_ifB_ne (pc := 12) 19 dX11_eldest_12 (by decide) (fun c_12 => absurd (c_12.symm.trans hv) (by decide)) (fun c_12 => ?_)
  refine g_iconst (pc := 15) (v := 1) dX11_eldest_15 (by decide) ?_
  refine g_goto (pc := 16) 20 dX11_eldest_16 (by decide) ?_
  refine g_iconst (pc := 20) (v := 1) dX11_eldest_20 (by decide) ?_
  refine g_iconst (pc := 21) (v := 1) dX11_eldest_21 (by decide) ?_
  refine m_cV (pc := 22) (M' := mX11_bad) (as := [_, _, _]) i_X11_183_11 eX11_bad hI dX11_eldest_22 (c_badT hI thr0_0 1 (by decide) 1 (by decide)) (by omega) rfl rfl (Nat.le_of_ble_eq_true rfl) (fun h hI fr => ?_)
  replace hF := mFr.tr hF fr
  refine g_ifB_eq (pc := 25) 30 dX11_eldest_25 (by decide) (fun c_25 => absurd c_25 (by decide)) (fun c_25 => ?_)
  refine g_iconst (pc := 28) (v := 0) dX11_eldest_28 (by decide) ?_
  refine g_ireturn (pc := 29) dX11_eldest_29 rfl (by first | exact rfl | exact j_nb _) ?_
  rw [refV_thr0] at hI
  exact ⟨rfl, hI, hF⟩
theorem r_mweakest (hd : 1 ≤ d) (hI : InvM am V h) (w : Int32) (hv : inR w 0 1 = false) : Ct E d 0 0 mX11_weakest [vR (nMo am), vI w] h (mQ am (refV V 1 1) h (some (vI 0))) := by
  refine ct_of (by decide) (Nat.le_of_ble_eq_true rfl) rfl ?_
  have hF : mFr h h := mFr.rf
  refine g_aload_n (pc := 0) dX11_weakest_0 rfl ?_
  refine g_iconst (pc := 1) (v := 0) dX11_weakest_1 (by decide) ?_
  refine m_put (pc := 2) hI w_X11_103_11 rfl (by decide) dX11_weakest_2 (fun h hI fr => ?_)
  replace hF := mFr.tr hF fr
  change InvM am (thr0 V) h at hI
  refine g_aload_n (pc := 5) dX11_weakest_5 rfl ?_
  refine g_iload_n (pc := 6) dX11_weakest_6 rfl ?_
  refine g_iconst (pc := 7) (v := 0) dX11_weakest_7 (by decide) ?_
  refine g_iconst (pc := 8) (v := 1) dX11_weakest_8 (by decide) ?_
  refine g_cS (pc := 9) (M' := mX11_in) (as := [_, _, _]) i_X11_137 eX11_in dX11_weakest_9 (c_in _ _ _) (by omega) rfl rfl (Nat.le_of_ble_eq_true rfl) ?_
  refine g_ifB_ne (pc := 12) 19 dX11_weakest_12 (by decide) (fun c_12 => absurd (c_12.symm.trans hv) (by decide)) (fun c_12 => ?_)
  refine g_iconst (pc := 15) (v := 1) dX11_weakest_15 (by decide) ?_
  refine g_goto (pc := 16) 20 dX11_weakest_16 (by decide) ?_
  refine g_iconst (pc := 20) (v := 1) dX11_weakest_20 (by decide) ?_
  refine g_iconst (pc := 21) (v := 1) dX11_weakest_21 (by decide) ?_
  refine m_cV (pc := 22) (M' := mX11_bad) (as := [_, _, _]) i_X11_183_11 eX11_bad hI dX11_weakest_22 (c_badT hI thr0_0 1 (by decide) 1 (by decide)) (by omega) rfl rfl (Nat.le_of_ble_eq_true rfl) (fun h hI fr => ?_)
  replace hF := mFr.tr hF fr
  refine g_ifB_eq (pc := 25) 30 dX11_weakest_25 (by decide) (fun c_25 => absurd c_25 (by decide)) (fun c_25 => ?_)
  refine g_iconst (pc := 28) (v := 0) dX11_weakest_28 (by decide) ?_
  refine g_ireturn (pc := 29) dX11_weakest_29 rfl (by first | exact rfl | exact j_nb _) ?_
  rw [refV_thr0] at hI
  exact ⟨rfl, hI, hF⟩
end
