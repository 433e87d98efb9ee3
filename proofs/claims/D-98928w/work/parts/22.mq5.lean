/-! THE REFERENCE: sister, relic, pilgrim, can, would. Printed by m_q5.py -/
set_option maxRecDepth 100000
section
variable {E : jE} {d : Nat} {h : jH} {am : Nat → Nat} {V : mV} {D : Nat → Nat → Nat} {nS nR nP k : Nat}
theorem r1_msister (hd : 2 ≤ d) (hI : InvM am V h) (hT : MT V D nS nR nP) (s w : Int32) (hv : inR s 0 (nI nS - 1) = false) : Ct E d 0 0 mX11_sister [vR (nMo am), vI s, vI w] h (mQ am (refV V 1 0) h (some (vI 0))) := by
  refine ct_of (by decide) (Nat.le_of_ble_eq_true rfl) rfl ?_
  have hF : mFr h h := mFr.rf
  have hT := MT.f0 (j := 0) (y := 0) hT
  change MT (thr0 V) D nS nR nP at hT
  have b8 := hT.2.2.2.1
  have b10 := hT.2.2.2.2.1
  have bP := hT.2.2.2.2.2.1
  refine g_aload_n (pc := 0) dX11_sister_0 rfl ?_
  refine g_iconst (pc := 1) (v := 0) dX11_sister_1 (by decide) ?_
  refine m_put (pc := 2) hI w_X11_103_11 rfl (by decide) dX11_sister_2 (fun h hI fr => ?_)
  replace hF := mFr.tr hF fr
  change InvM am (thr0 V) h at hI
  refine g_aload_n (pc := 5) dX11_sister_5 rfl ?_
  refine g_aload_n (pc := 6) dX11_sister_6 rfl ?_
  refine g_iload_n (pc := 7) dX11_sister_7 rfl ?_
  refine m_cP (pc := 8) (M' := mX11_isSister) (as := [_]) i_X11_336_11 eX11_isSister hI dX11_sister_8 (c_isSister hI hT (by omega) _) (by omega) rfl rfl (Nat.le_of_ble_eq_true rfl) ?_
  refine g_ifB_ne (pc := 11) 18 dX11_sister_11 (by decide) (fun c_11 => absurd (c_11.symm.trans hv) (by decide)) (fun c_11 => ?_)
  refine g_iconst (pc := 14) (v := 1) dX11_sister_14 (by decide) ?_
  refine g_goto (pc := 15) 19 dX11_sister_15 (by decide) ?_
  refine g_iconst (pc := 19) (v := 1) dX11_sister_19 (by decide) ?_
  refine g_iconst (pc := 20) (v := 0) dX11_sister_20 (by decide) ?_
  refine m_cV (pc := 21) (M' := mX11_bad) (as := [_, _, _]) i_X11_183_11 eX11_bad hI dX11_sister_21 (c_badT hI thr0_0 1 (by decide) 0 (by decide)) (by omega) rfl rfl (Nat.le_of_ble_eq_true rfl) (fun h hI fr => ?_)
  replace hF := mFr.tr hF fr
  refine g_ifB_ne (pc := 24) 50 dX11_sister_24 (by decide) (fun c_24 => ?_) (fun c_24 => absurd c_24 (by decide))
  refine g_iconst (pc := 50) (v := 0) dX11_sister_50 (by decide) ?_
  refine g_ireturn (pc := 51) dX11_sister_51 rfl (by first | exact rfl | exact j_nb _) ?_
  rw [refV_thr0] at hI
  exact ⟨rfl, hI, hF⟩
theorem r2_msister (hd : 2 ≤ d) (hI : InvM am V h) (hT : MT V D nS nR nP) (s w : Int32) (hu : inR s 0 (nI nS - 1) = true) (hv : inR w 0 4 = false) : Ct E d 0 0 mX11_sister [vR (nMo am), vI s, vI w] h (mQ am (refV V 2 1) h (some (vI 0))) := by
  refine ct_of (by decide) (Nat.le_of_ble_eq_true rfl) rfl ?_
  have hF : mFr h h := mFr.rf
  have hT := MT.f0 (j := 0) (y := 0) hT
  change MT (thr0 V) D nS nR nP at hT
  have b8 := hT.2.2.2.1
  have b10 := hT.2.2.2.2.1
  have bP := hT.2.2.2.2.2.1
  refine g_aload_n (pc := 0) dX11_sister_0 rfl ?_
  refine g_iconst (pc := 1) (v := 0) dX11_sister_1 (by decide) ?_
  refine m_put (pc := 2) hI w_X11_103_11 rfl (by decide) dX11_sister_2 (fun h hI fr => ?_)
  replace hF := mFr.tr hF fr
  change InvM am (thr0 V) h at hI
  refine g_aload_n (pc := 5) dX11_sister_5 rfl ?_
  refine g_aload_n (pc := 6) dX11_sister_6 rfl ?_
  refine g_iload_n (pc := 7) dX11_sister_7 rfl ?_
  refine m_cP (pc := 8) (M' := mX11_isSister) (as := [_]) i_X11_336_11 eX11_isSister hI dX11_sister_8 (c_isSister hI hT (by omega) _) (by omega) rfl rfl (Nat.le_of_ble_eq_true rfl) ?_
  refine g_ifB_ne (pc := 11) 18 dX11_sister_11 (by decide) (fun c_11 => ?_) (fun c_11 => absurd (hu.symm.trans c_11) (by decide))
  refine g_iconst (pc := 18) (v := 0) dX11_sister_18 (by decide) ?_
  refine g_iconst (pc := 19) (v := 1) dX11_sister_19 (by decide) ?_
  refine g_iconst (pc := 20) (v := 0) dX11_sister_20 (by decide) ?_
  refine m_cV (pc := 21) (M' := mX11_bad) (as := [_, _, _]) i_X11_183_11 eX11_bad hI dX11_sister_21 (c_badF hI thr0_0 1 0 (by decide)) (by omega) rfl rfl (Nat.le_of_ble_eq_true rfl) (fun h hI fr => ?_)
  replace hF := mFr.tr hF fr
  refine g_ifB_ne (pc := 24) 50 dX11_sister_24 (by decide) (fun c_24 => absurd c_24 (by decide)) (fun c_24 => ?_)
  refine g_aload_n (pc := 27) dX11_sister_27 rfl ?_
  refine g_iload_n (pc := 28) dX11_sister_28 rfl ?_
  refine g_iconst (pc := 29) (v := 0) dX11_sister_29 (by decide) ?_
  refine g_iconst (pc := 30) (v := 4) dX11_sister_30 (by decide) ?_
  refine g_cS (pc := 31) (M' := mX11_in) (as := [_, _, _]) i_X11_137 eX11_in dX11_sister_31 (c_in _ _ _) (by omega) rfl rfl (Nat.le_of_ble_eq_true rfl) ?_
  refine g_ifB_ne (pc := 34) 41 dX11_sister_34 (by decide) (fun c_34 => absurd (c_34.symm.trans hv) (by decide)) (fun c_34 => ?_)
  refine g_iconst (pc := 37) (v := 1) dX11_sister_37 (by decide) ?_
  refine g_goto (pc := 38) 42 dX11_sister_38 (by decide) ?_
  refine g_iconst (pc := 42) (v := 2) dX11_sister_42 (by decide) ?_
  refine g_iconst (pc := 43) (v := 1) dX11_sister_43 (by decide) ?_
  refine m_cV (pc := 44) (M' := mX11_bad) (as := [_, _, _]) i_X11_183_11 eX11_bad hI dX11_sister_44 (c_badT hI thr0_0 2 (by decide) 1 (by decide)) (by omega) rfl rfl (Nat.le_of_ble_eq_true rfl) (fun h hI fr => ?_)
  replace hF := mFr.tr hF fr
  refine g_ifB_eq (pc := 47) 52 dX11_sister_47 (by decide) (fun c_47 => absurd c_47 (by decide)) (fun c_47 => ?_)
  refine g_iconst (pc := 50) (v := 0) dX11_sister_50 (by decide) ?_
  refine g_ireturn (pc := 51) dX11_sister_51 rfl (by first | exact rfl | exact j_nb _) ?_
  rw [refV_thr0] at hI
  exact ⟨rfl, hI, hF⟩
theorem r1_mrelic (hd : 2 ≤ d) (hI : InvM am V h) (hT : MT V D nS nR nP) (s w : Int32) (hv : inR s 0 (nI nR - 1) = false) : Ct E d 0 0 mX11_relic [vR (nMo am), vI s, vI w] h (mQ am (refV V 1 0) h (some (vI 0))) := by
  refine ct_of (by decide) (Nat.le_of_ble_eq_true rfl) rfl ?_
  have hF : mFr h h := mFr.rf
  have hT := MT.f0 (j := 0) (y := 0) hT
  change MT (thr0 V) D nS nR nP at hT
  have b8 := hT.2.2.2.1
  have b10 := hT.2.2.2.2.1
  have bP := hT.2.2.2.2.2.1
  refine g_aload_n (pc := 0) dX11_relic_0 rfl ?_
  refine g_iconst (pc := 1) (v := 0) dX11_relic_1 (by decide) ?_
  refine m_put (pc := 2) hI w_X11_103_11 rfl (by decide) dX11_relic_2 (fun h hI fr => ?_)
  replace hF := mFr.tr hF fr
  change InvM am (thr0 V) h at hI
  refine g_aload_n (pc := 5) dX11_relic_5 rfl ?_
  refine g_aload_n (pc := 6) dX11_relic_6 rfl ?_
  refine g_iload_n (pc := 7) dX11_relic_7 rfl ?_
  refine m_cP (pc := 8) (M' := mX11_isRelic) (as := [_]) i_X11_339_11 eX11_isRelic hI dX11_relic_8 (c_isRelic hI hT (by omega) _) (by omega) rfl rfl (Nat.le_of_ble_eq_true rfl) ?_
  refine g_ifB_ne (pc := 11) 18 dX11_relic_11 (by decide) (fun c_11 => absurd (c_11.symm.trans hv) (by decide)) (fun c_11 => ?_)
  refine g_iconst (pc := 14) (v := 1) dX11_relic_14 (by decide) ?_
  refine g_goto (pc := 15) 19 dX11_relic_15 (by decide) ?_
  refine g_iconst (pc := 19) (v := 1) dX11_relic_19 (by decide) ?_
  refine g_iconst (pc := 20) (v := 0) dX11_relic_20 (by decide) ?_
  refine m_cV (pc := 21) (M' := mX11_bad) (as := [_, _, _]) i_X11_183_11 eX11_bad hI dX11_relic_21 (c_badT hI thr0_0 1 (by decide) 0 (by decide)) (by omega) rfl rfl (Nat.le_of_ble_eq_true rfl) (fun h hI fr => ?_)
  replace hF := mFr.tr hF fr
  refine g_ifB_ne (pc := 24) 50 dX11_relic_24 (by decide) (fun c_24 => ?_) (fun c_24 => absurd c_24 (by decide))
  refine g_iconst (pc := 50) (v := 0) dX11_relic_50 (by decide) ?_
  refine g_ireturn (pc := 51) dX11_relic_51 rfl (by first | exact rfl | exact j_nb _) ?_
  rw [refV_thr0] at hI
  exact ⟨rfl, hI, hF⟩
theorem r2_mrelic (hd : 2 ≤ d) (hI : InvM am V h) (hT : MT V D nS nR nP) (s w : Int32) (hu : inR s 0 (nI nR - 1) = true) (hv : inR w 0 5 = false) : Ct E d 0 0 mX11_relic [vR (nMo am), vI s, vI w] h (mQ am (refV V 2 1) h (some (vI 0))) := by
  refine ct_of (by decide) (Nat.le_of_ble_eq_true rfl) rfl ?_
  have hF : mFr h h := mFr.rf
  have hT := MT.f0 (j := 0) (y := 0) hT
  change MT (thr0 V) D nS nR nP at hT
  have b8 := hT.2.2.2.1
  have b10 := hT.2.2.2.2.1
  have bP := hT.2.2.2.2.2.1
  refine g_aload_n (pc := 0) dX11_relic_0 rfl ?_
  refine g_iconst (pc := 1) (v := 0) dX11_relic_1 (by decide) ?_
  refine m_put (pc := 2) hI w_X11_103_11 rfl (by decide) dX11_relic_2 (fun h hI fr => ?_)
  replace hF := mFr.tr hF fr
  change InvM am (thr0 V) h at hI
  refine g_aload_n (pc := 5) dX11_relic_5 rfl ?_
  refine g_aload_n (pc := 6) dX11_relic_6 rfl ?_
  refine g_iload_n (pc := 7) dX11_relic_7 rfl ?_
  refine m_cP (pc := 8) (M' := mX11_isRelic) (as := [_]) i_X11_339_11 eX11_isRelic hI dX11_relic_8 (c_isRelic hI hT (by omega) _) (by omega) rfl rfl (Nat.le_of_ble_eq_true rfl) ?_
  refine g_ifB_ne (pc := 11) 18 dX11_relic_11 (by decide) (fun c_11 => ?_) (fun c_11 => absurd (hu.symm.trans c_11) (by decide))
  refine g_iconst (pc := 18) (v := 0) dX11_relic_18 (by decide) ?_
  refine g_iconst (pc := 19) (v := 1) dX11_relic_19 (by decide) ?_
  refine g_iconst (pc := 20) (v := 0) dX11_relic_20 (by decide) ?_
  refine m_cV (pc := 21) (M' := mX11_bad) (as := [_, _, _]) i_X11_183_11 eX11_bad hI dX11_relic_21 (c_badF hI thr0_0 1 0 (by decide)) (by omega) rfl rfl (Nat.le_of_ble_eq_true rfl) (fun h hI fr => ?_)
  replace hF := mFr.tr hF fr
  refine g_ifB_ne (pc := 24) 50 dX11_relic_24 (by decide) (fun c_24 => absurd c_24 (by decide)) (fun c_24 => ?_)
  refine g_aload_n (pc := 27) dX11_relic_27 rfl ?_
  refine g_iload_n (pc := 28) dX11_relic_28 rfl ?_
  refine g_iconst (pc := 29) (v := 0) dX11_relic_29 (by decide) ?_
  refine g_iconst (pc := 30) (v := 5) dX11_relic_30 (by decide) ?_
  refine g_cS (pc := 31) (M' := mX11_in) (as := [_, _, _]) i_X11_137 eX11_in dX11_relic_31 (c_in _ _ _) (by omega) rfl rfl (Nat.le_of_ble_eq_true rfl) ?_
  refine g_ifB_ne (pc := 34) 41 dX11_relic_34 (by decide) (fun c_34 => absurd (c_34.symm.trans hv) (by decide)) (fun c_34 => ?_)
  refine g_iconst (pc := 37) (v := 1) dX11_relic_37 (by decide) ?_
  refine g_goto (pc := 38) 42 dX11_relic_38 (by decide) ?_
  refine g_iconst (pc := 42) (v := 2) dX11_relic_42 (by decide) ?_
  refine g_iconst (pc := 43) (v := 1) dX11_relic_43 (by decide) ?_
  refine m_cV (pc := 44) (M' := mX11_bad) (as := [_, _, _]) i_X11_183_11 eX11_bad hI dX11_relic_44 (c_badT hI thr0_0 2 (by decide) 1 (by decide)) (by omega) rfl rfl (Nat.le_of_ble_eq_true rfl) (fun h hI fr => ?_)
  replace hF := mFr.tr hF fr
  refine g_ifB_eq (pc := 47) 52 dX11_relic_47 (by decide) (fun c_47 => absurd c_47 (by decide)) (fun c_47 => ?_)
  refine g_iconst (pc := 50) (v := 0) dX11_relic_50 (by decide) ?_
  refine g_ireturn (pc := 51) dX11_relic_51 rfl (by first | exact rfl | exact j_nb _) ?_
  rw [refV_thr0] at hI
  exact ⟨rfl, hI, hF⟩
theorem r1_mpilgrim (hd : 2 ≤ d) (hI : InvM am V h) (hT : MT V D nS nR nP) (s w : Int32) (hv : inR s 0 (nI nP - 1) = false) : Ct E d 0 0 mX11_pilgrim [vR (nMo am), vI s, vI w] h (mQ am (refV V 1 0) h (some (vI 0))) := by
  refine ct_of (by decide) (Nat.le_of_ble_eq_true rfl) rfl ?_
  have hF : mFr h h := mFr.rf
  have hT := MT.f0 (j := 0) (y := 0) hT
  change MT (thr0 V) D nS nR nP at hT
  have b8 := hT.2.2.2.1
  have b10 := hT.2.2.2.2.1
  have bP := hT.2.2.2.2.2.1
  refine g_aload_n (pc := 0) dX11_pilgrim_0 rfl ?_
  refine g_iconst (pc := 1) (v := 0) dX11_pilgrim_1 (by decide) ?_
  refine m_put (pc := 2) hI w_X11_103_11 rfl (by decide) dX11_pilgrim_2 (fun h hI fr => ?_)
  replace hF := mFr.tr hF fr
  change InvM am (thr0 V) h at hI
  refine g_aload_n (pc := 5) dX11_pilgrim_5 rfl ?_
  refine g_aload_n (pc := 6) dX11_pilgrim_6 rfl ?_
  refine g_iload_n (pc := 7) dX11_pilgrim_7 rfl ?_
  refine m_cP (pc := 8) (M' := mX11_isPerson) (as := [_]) i_X11_342_11 eX11_isPerson hI dX11_pilgrim_8 (c_isPerson hI hT (by omega) _) (by omega) rfl rfl (Nat.le_of_ble_eq_true rfl) ?_
  refine g_ifB_ne (pc := 11) 18 dX11_pilgrim_11 (by decide) (fun c_11 => absurd (c_11.symm.trans hv) (by decide)) (fun c_11 => ?_)
  refine g_iconst (pc := 14) (v := 1) dX11_pilgrim_14 (by decide) ?_
  refine g_goto (pc := 15) 19 dX11_pilgrim_15 (by decide) ?_
  refine g_iconst (pc := 19) (v := 1) dX11_pilgrim_19 (by decide) ?_
  refine g_iconst (pc := 20) (v := 0) dX11_pilgrim_20 (by decide) ?_
  refine m_cV (pc := 21) (M' := mX11_bad) (as := [_, _, _]) i_X11_183_11 eX11_bad hI dX11_pilgrim_21 (c_badT hI thr0_0 1 (by decide) 0 (by decide)) (by omega) rfl rfl (Nat.le_of_ble_eq_true rfl) (fun h hI fr => ?_)
  replace hF := mFr.tr hF fr
  refine g_ifB_ne (pc := 24) 50 dX11_pilgrim_24 (by decide) (fun c_24 => ?_) (fun c_24 => absurd c_24 (by decide))
  refine g_iconst (pc := 50) (v := 0) dX11_pilgrim_50 (by decide) ?_
  refine g_ireturn (pc := 51) dX11_pilgrim_51 rfl (by first | exact rfl | exact j_nb _) ?_
  rw [refV_thr0] at hI
  exact ⟨rfl, hI, hF⟩
theorem r2_mpilgrim (hd : 2 ≤ d) (hI : InvM am V h) (hT : MT V D nS nR nP) (s w : Int32) (hu : inR s 0 (nI nP - 1) = true) (hv : inR w 0 3 = false) : Ct E d 0 0 mX11_pilgrim [vR (nMo am), vI s, vI w] h (mQ am (refV V 2 1) h (some (vI 0))) := by
  refine ct_of (by decide) (Nat.le_of_ble_eq_true rfl) rfl ?_
  have hF : mFr h h := mFr.rf
  have hT := MT.f0 (j := 0) (y := 0) hT
  change MT (thr0 V) D nS nR nP at hT
  have b8 := hT.2.2.2.1
  have b10 := hT.2.2.2.2.1
  have bP := hT.2.2.2.2.2.1
  refine g_aload_n (pc := 0) dX11_pilgrim_0 rfl ?_
  refine g_iconst (pc := 1) (v := 0) dX11_pilgrim_1 (by decide) ?_
  refine m_put (pc := 2) hI w_X11_103_11 rfl (by decide) dX11_pilgrim_2 (fun h hI fr => ?_)
  replace hF := mFr.tr hF fr
  change InvM am (thr0 V) h at hI
  refine g_aload_n (pc := 5) dX11_pilgrim_5 rfl ?_
  refine g_aload_n (pc := 6) dX11_pilgrim_6 rfl ?_
  refine g_iload_n (pc := 7) dX11_pilgrim_7 rfl ?_
  refine m_cP (pc := 8) (M' := mX11_isPerson) (as := [_]) i_X11_342_11 eX11_isPerson hI dX11_pilgrim_8 (c_isPerson hI hT (by omega) _) (by omega) rfl rfl (Nat.le_of_ble_eq_true rfl) ?_
  refine g_ifB_ne (pc := 11) 18 dX11_pilgrim_11 (by decide) (fun c_11 => ?_) (fun c_11 => absurd (hu.symm.trans c_11) (by decide))
  refine g_iconst (pc := 18) (v := 0) dX11_pilgrim_18 (by decide) ?_
  refine g_iconst (pc := 19) (v := 1) dX11_pilgrim_19 (by decide) ?_
  refine g_iconst (pc := 20) (v := 0) dX11_pilgrim_20 (by decide) ?_
  refine m_cV (pc := 21) (M' := mX11_bad) (as := [_, _, _]) i_X11_183_11 eX11_bad hI dX11_pilgrim_21 (c_badF hI thr0_0 1 0 (by decide)) (by omega) rfl rfl (Nat.le_of_ble_eq_true rfl) (fun h hI fr => ?_)
  replace hF := mFr.tr hF fr
  refine g_ifB_ne (pc := 24) 50 dX11_pilgrim_24 (by decide) (fun c_24 => absurd c_24 (by decide)) (fun c_24 => ?_)
  refine g_aload_n (pc := 27) dX11_pilgrim_27 rfl ?_
  refine g_iload_n (pc := 28) dX11_pilgrim_28 rfl ?_
  refine g_iconst (pc := 29) (v := 0) dX11_pilgrim_29 (by decide) ?_
  refine g_iconst (pc := 30) (v := 3) dX11_pilgrim_30 (by decide) ?_
  refine g_cS (pc := 31) (M' := mX11_in) (as := [_, _, _]) i_X11_137 eX11_in dX11_pilgrim_31 (c_in _ _ _) (by omega) rfl rfl (Nat.le_of_ble_eq_true rfl) ?_
  refine g_ifB_ne (pc := 34) 41 dX11_pilgrim_34 (by decide) (fun c_34 => absurd (c_34.symm.trans hv) (by decide)) (fun c_34 => ?_)
  refine g_iconst (pc := 37) (v := 1) dX11_pilgrim_37 (by decide) ?_
  refine g_goto (pc := 38) 42 dX11_pilgrim_38 (by decide) ?_
  refine g_iconst (pc := 42) (v := 2) dX11_pilgrim_42 (by decide) ?_
  refine g_iconst (pc := 43) (v := 1) dX11_pilgrim_43 (by decide) ?_
  refine m_cV (pc := 44) (M' := mX11_bad) (as := [_, _, _]) i_X11_183_11 eX11_bad hI dX11_pilgrim_44 (c_badT hI thr0_0 2 (by decide) 1 (by decide)) (by omega) rfl rfl (Nat.le_of_ble_eq_true rfl) (fun h hI fr => ?_)
  replace hF := mFr.tr hF fr
  refine g_ifB_eq (pc := 47) 52 dX11_pilgrim_47 (by decide) (fun c_47 => absurd c_47 (by decide)) (fun c_47 => ?_)
  refine g_iconst (pc := 50) (v := 0) dX11_pilgrim_50 (by decide) ?_
  refine g_ireturn (pc := 51) dX11_pilgrim_51 rfl (by first | exact rfl | exact j_nb _) ?_
  rw [refV_thr0] at hI
  exact ⟨rfl, hI, hF⟩
set_option maxHeartbeats 4000000 in
theorem c_msister (hd : 8 ≤ d) (hI : InvM am V h) (hT : MT V D nS nR nP) (s x : Nat) (hs : s < nS) (hx : x ≤ 4) : Ct E d 0 0 mX11_sister [vR (nMo am), vI (nI s), vI (nI x)] h (mQ am (thr0 V) h (some (vI (sisS (thr0 V) D nR s x)))) := by
  refine ct_of (by decide) (Nat.le_of_ble_eq_true rfl) rfl ?_
  have hF : mFr h h := mFr.rf
  have hT := MT.f0 (j := 0) (y := 0) hT
  change MT (thr0 V) D nS nR nP at hT
  have b8 := hT.2.2.2.1
  have b10 := hT.2.2.2.2.1
  have bP := hT.2.2.2.2.2.1
  have hu := in_of hs (show nS ≤ 1000 by omega)
  have hv : inR (nI x) 0 4 = true := inC_of (n := 4) hx (by decide)
  refine g_aload_n (pc := 0) dX11_sister_0 rfl ?_
  refine g_iconst (pc := 1) (v := 0) dX11_sister_1 (by decide) ?_
  refine m_put (pc := 2) hI w_X11_103_11 rfl (by decide) dX11_sister_2 (fun h hI fr => ?_)
  replace hF := mFr.tr hF fr
  change InvM am (thr0 V) h at hI
  refine g_aload_n (pc := 5) dX11_sister_5 rfl ?_
  refine g_aload_n (pc := 6) dX11_sister_6 rfl ?_
  refine g_iload_n (pc := 7) dX11_sister_7 rfl ?_
  refine m_cP (pc := 8) (M' := mX11_isSister) (as := [_]) i_X11_336_11 eX11_isSister hI dX11_sister_8 (c_isSister hI hT (by omega) _) (by omega) rfl rfl (Nat.le_of_ble_eq_true rfl) ?_
  refine g_ifB_ne (pc := 11) 18 dX11_sister_11 (by decide) (fun c_11 => ?_) (fun c_11 => absurd (hu.symm.trans c_11) (by decide))
  refine g_iconst (pc := 18) (v := 0) dX11_sister_18 (by decide) ?_
  refine g_iconst (pc := 19) (v := 1) dX11_sister_19 (by decide) ?_
  refine g_iconst (pc := 20) (v := 0) dX11_sister_20 (by decide) ?_
  refine m_cV (pc := 21) (M' := mX11_bad) (as := [_, _, _]) i_X11_183_11 eX11_bad hI dX11_sister_21 (c_badF hI thr0_0 1 0 (by decide)) (by omega) rfl rfl (Nat.le_of_ble_eq_true rfl) (fun h hI fr => ?_)
  replace hF := mFr.tr hF fr
  refine g_ifB_ne (pc := 24) 50 dX11_sister_24 (by decide) (fun c_24 => absurd c_24 (by decide)) (fun c_24 => ?_)
  refine g_aload_n (pc := 27) dX11_sister_27 rfl ?_
  refine g_iload_n (pc := 28) dX11_sister_28 rfl ?_
  refine g_iconst (pc := 29) (v := 0) dX11_sister_29 (by decide) ?_
  refine g_iconst (pc := 30) (v := 4) dX11_sister_30 (by decide) ?_
  refine g_cS (pc := 31) (M' := mX11_in) (as := [_, _, _]) i_X11_137 eX11_in dX11_sister_31 (c_in _ _ _) (by omega) rfl rfl (Nat.le_of_ble_eq_true rfl) ?_
  refine g_ifB_ne (pc := 34) 41 dX11_sister_34 (by decide) (fun c_34 => ?_) (fun c_34 => absurd (hv.symm.trans c_34) (by decide))
  refine g_iconst (pc := 41) (v := 0) dX11_sister_41 (by decide) ?_
  refine g_iconst (pc := 42) (v := 2) dX11_sister_42 (by decide) ?_
  refine g_iconst (pc := 43) (v := 1) dX11_sister_43 (by decide) ?_
  refine m_cV (pc := 44) (M' := mX11_bad) (as := [_, _, _]) i_X11_183_11 eX11_bad hI dX11_sister_44 (c_badF hI thr0_0 2 1 (by decide)) (by omega) rfl rfl (Nat.le_of_ble_eq_true rfl) (fun h hI fr => ?_)
  replace hF := mFr.tr hF fr
  refine g_ifB_eq (pc := 47) 52 dX11_sister_47 (by decide) (fun c_47 => ?_) (fun c_47 => absurd c_47 (by decide))
  refine g_iconst (pc := 52) (v := 0) dX11_sister_52 (by decide) ?_
  refine g_istore_n (pc := 53) (ls' := [_, _, _, _, _]) dX11_sister_53 (by decide) rfl rfl ?_
  refine g_iconst (pc := 54) (v := 0) dX11_sister_54 (by decide) ?_
  refine g_istore (pc := 55) (ls' := [_, _, _, _, _]) dX11_sister_55 (by decide) rfl rfl ?_
  refine l_msister (by omega) hI hT s (by omega) _ nR 0 rfl (Nat.zero_le _) ?_
  refine g_iload_n (pc := 98) dX11_sister_98 rfl ?_
  have hxx : x = 0 ∨ x = 1 ∨ x = 2 ∨ x = 3 ∨ x = 4 := by omega
  rcases hxx with rfl | rfl | rfl | rfl | rfl
  · refine g_tableIn (pc := 99) (off := 29) 128 dX11_sister_99 (by decide) (by decide) (by decide) (by decide) ?_
    refine g_aload_n (pc := 128) dX11_sister_128 rfl ?_
    refine g_getfield (pc := 129) f_X11_29_11 dX11_sister_129 hI.1 mf_14 ?_
    refine g_iload_n (pc := 132) dX11_sister_132 rfl ?_
    refine g_iaload (pc := 133) dX11_sister_133 (mA hI 14 8 rfl (by decide)) rfl (by omega) (by decide) rfl ?_
    rw [(hT.2.2.2.2.2.2.2.2 s hs).1]
    refine g_ireturn (pc := 134) dX11_sister_134 rfl (by first | exact rfl | exact j_nb _) ?_
    exact ⟨rfl, hI, hF⟩
  · refine g_tableIn (pc := 99) (off := 36) 135 dX11_sister_99 (by decide) (by decide) (by decide) (by decide) ?_
    refine g_aload_n (pc := 135) dX11_sister_135 rfl ?_
    refine g_getfield (pc := 136) f_X11_73_11 dX11_sister_136 hI.1 mf_31 ?_
    refine g_bipush (pc := 139) (v := 8) dX11_sister_139 (by decide) ?_
    refine g_iload_n (pc := 141) dX11_sister_141 rfl ?_
    refine g_iadd (pc := 142) dX11_sister_142 ?_
    refine g_iaload (pc := 143) dX11_sister_143 (mA hI 31 45 rfl (by decide)) (j := 8 + s) (nI_add 8 s) (by omega) (by decide) rfl ?_
    refine g_ireturn (pc := 144) dX11_sister_144 rfl (by first | exact rfl | exact j_nb _) ?_
    exact ⟨rfl, hI, hF⟩
  · refine g_tableIn (pc := 99) (off := 46) 145 dX11_sister_99 (by decide) (by decide) (by decide) (by decide) ?_
    refine g_iload_n (pc := 145) dX11_sister_145 rfl ?_
    refine g_ireturn (pc := 146) dX11_sister_146 rfl (by first | exact rfl | exact j_nb _) ?_
    exact ⟨rfl, hI, hF⟩
  · refine g_tableIn (pc := 99) (off := 48) 147 dX11_sister_99 (by decide) (by decide) (by decide) (by decide) ?_
    refine g_aload_n (pc := 147) dX11_sister_147 rfl ?_
    refine g_aload_n (pc := 148) dX11_sister_148 rfl ?_
    refine g_getfield (pc := 149) f_X11_73_11 dX11_sister_149 hI.1 mf_31 ?_
    refine g_iload_n (pc := 152) dX11_sister_152 rfl ?_
    refine m_cP (pc := 153) (M' := mX11_keptOf) (as := [_, _]) i_X11_274_11 eX11_keptOf hI dX11_sister_153 (c_keptOf (by omega) hI hT (k := 31) rfl s (by omega)) (by omega) rfl rfl (Nat.le_of_ble_eq_true rfl) ?_
    refine g_ireturn (pc := 156) dX11_sister_156 rfl (by first | exact rfl | exact j_nb _) ?_
    exact ⟨rfl, hI, hF⟩
  · refine g_tableOut (pc := 99) 157 dX11_sister_99 (by decide) (by decide) ?_
    refine g_aload_n (pc := 157) dX11_sister_157 rfl ?_
    refine g_getfield (pc := 158) f_X11_35_11 dX11_sister_158 hI.1 mf_16 ?_
    refine g_iload_n (pc := 161) dX11_sister_161 rfl ?_
    refine g_iaload (pc := 162) dX11_sister_162 (mA hI 16 8 rfl (by decide)) rfl (by omega) (by decide) rfl ?_
    refine g_ireturn (pc := 163) dX11_sister_163 rfl (by first | exact rfl | exact j_nb _) ?_
    exact ⟨rfl, hI, hF⟩
set_option maxHeartbeats 4000000 in
theorem c_mrelic (hd : 8 ≤ d) (hI : InvM am V h) (hT : MT V D nS nR nP) (hl : okL V) (a x : Nat) (ha : a < nR) (hx : x ≤ 5) : Ct E d 0 0 mX11_relic [vR (nMo am), vI (nI a), vI (nI x)] h (mQ am (thr0 V) h (some (vI (relS (thr0 V) D nR nP a x)))) := by
  refine ct_of (by decide) (Nat.le_of_ble_eq_true rfl) rfl ?_
  have hF : mFr h h := mFr.rf
  have hT := MT.f0 (j := 0) (y := 0) hT
  change MT (thr0 V) D nS nR nP at hT
  have b8 := hT.2.2.2.1
  have b10 := hT.2.2.2.2.1
  have bP := hT.2.2.2.2.2.1
  have hl := okL.f0 (j := 0) (y := 0) hl (by decide)
  change okL (thr0 V) at hl
  have hu := in_of ha (show nR ≤ 1000 by omega)
  have hv : inR (nI x) 0 5 = true := inC_of (n := 5) hx (by decide)
  have hrr := hT.2.2.2.2.2.2.1 a ha
  refine g_aload_n (pc := 0) dX11_relic_0 rfl ?_
  refine g_iconst (pc := 1) (v := 0) dX11_relic_1 (by decide) ?_
  refine m_put (pc := 2) hI w_X11_103_11 rfl (by decide) dX11_relic_2 (fun h hI fr => ?_)
  replace hF := mFr.tr hF fr
  change InvM am (thr0 V) h at hI
  refine g_aload_n (pc := 5) dX11_relic_5 rfl ?_
  refine g_aload_n (pc := 6) dX11_relic_6 rfl ?_
  refine g_iload_n (pc := 7) dX11_relic_7 rfl ?_
  refine m_cP (pc := 8) (M' := mX11_isRelic) (as := [_]) i_X11_339_11 eX11_isRelic hI dX11_relic_8 (c_isRelic hI hT (by omega) _) (by omega) rfl rfl (Nat.le_of_ble_eq_true rfl) ?_
  refine g_ifB_ne (pc := 11) 18 dX11_relic_11 (by decide) (fun c_11 => ?_) (fun c_11 => absurd (hu.symm.trans c_11) (by decide))
  refine g_iconst (pc := 18) (v := 0) dX11_relic_18 (by decide) ?_
  refine g_iconst (pc := 19) (v := 1) dX11_relic_19 (by decide) ?_
  refine g_iconst (pc := 20) (v := 0) dX11_relic_20 (by decide) ?_
  refine m_cV (pc := 21) (M' := mX11_bad) (as := [_, _, _]) i_X11_183_11 eX11_bad hI dX11_relic_21 (c_badF hI thr0_0 1 0 (by decide)) (by omega) rfl rfl (Nat.le_of_ble_eq_true rfl) (fun h hI fr => ?_)
  replace hF := mFr.tr hF fr
  refine g_ifB_ne (pc := 24) 50 dX11_relic_24 (by decide) (fun c_24 => absurd c_24 (by decide)) (fun c_24 => ?_)
  refine g_aload_n (pc := 27) dX11_relic_27 rfl ?_
  refine g_iload_n (pc := 28) dX11_relic_28 rfl ?_
  refine g_iconst (pc := 29) (v := 0) dX11_relic_29 (by decide) ?_
  refine g_iconst (pc := 30) (v := 5) dX11_relic_30 (by decide) ?_
  refine g_cS (pc := 31) (M' := mX11_in) (as := [_, _, _]) i_X11_137 eX11_in dX11_relic_31 (c_in _ _ _) (by omega) rfl rfl (Nat.le_of_ble_eq_true rfl) ?_
  refine g_ifB_ne (pc := 34) 41 dX11_relic_34 (by decide) (fun c_34 => ?_) (fun c_34 => absurd (hv.symm.trans c_34) (by decide))
  refine g_iconst (pc := 41) (v := 0) dX11_relic_41 (by decide) ?_
  refine g_iconst (pc := 42) (v := 2) dX11_relic_42 (by decide) ?_
  refine g_iconst (pc := 43) (v := 1) dX11_relic_43 (by decide) ?_
  refine m_cV (pc := 44) (M' := mX11_bad) (as := [_, _, _]) i_X11_183_11 eX11_bad hI dX11_relic_44 (c_badF hI thr0_0 2 1 (by decide)) (by omega) rfl rfl (Nat.le_of_ble_eq_true rfl) (fun h hI fr => ?_)
  replace hF := mFr.tr hF fr
  refine g_ifB_eq (pc := 47) 52 dX11_relic_47 (by decide) (fun c_47 => ?_) (fun c_47 => absurd c_47 (by decide))
  refine g_iconst (pc := 52) (v := 0) dX11_relic_52 (by decide) ?_
  refine g_istore_n (pc := 53) (ls' := [_, _, _, _, _]) dX11_relic_53 (by decide) rfl rfl ?_
  refine g_iconst (pc := 54) (v := 0) dX11_relic_54 (by decide) ?_
  refine g_istore (pc := 55) (ls' := [_, _, _, _, _]) dX11_relic_55 (by decide) rfl rfl ?_
  refine l_mrelic (by omega) hI hT hl a ha _ nP 0 rfl (Nat.zero_le _) ?_
  refine g_iload_n (pc := 113) dX11_relic_113 rfl ?_
  have hxx : x = 0 ∨ x = 1 ∨ x = 2 ∨ x = 3 ∨ x = 4 ∨ x = 5 := by omega
  rcases hxx with rfl | rfl | rfl | rfl | rfl | rfl
  · refine g_tableOut (pc := 114) 162 dX11_relic_114 (by decide) (by decide) ?_
    refine g_aload_n (pc := 162) dX11_relic_162 rfl ?_
    refine g_getfield (pc := 163) f_X11_43_11 dX11_relic_163 hI.1 mf_18 ?_
    refine g_iload_n (pc := 166) dX11_relic_166 rfl ?_
    refine g_aaload (pc := 167) (t := 5) rfl rfl dX11_relic_167 (mG hI 18 10 rfl (by decide)) rfl (by omega) (by decide) rfl ?_
    refine g_iload_n (pc := 168) dX11_relic_168 rfl ?_
    refine g_iaload (pc := 169) dX11_relic_169 (mR hI 18 3 _ rfl (by show _ < 10; omega)) (j := 0) rfl (by omega) (by decide) rfl ?_
    rw [hrr.1]
    refine g_ireturn (pc := 170) dX11_relic_170 rfl (by first | exact rfl | exact j_nb _) ?_
    exact ⟨rfl, hI, hF⟩
  · refine g_tableOut (pc := 114) 162 dX11_relic_114 (by decide) (by decide) ?_
    refine g_aload_n (pc := 162) dX11_relic_162 rfl ?_
    refine g_getfield (pc := 163) f_X11_43_11 dX11_relic_163 hI.1 mf_18 ?_
    refine g_iload_n (pc := 166) dX11_relic_166 rfl ?_
    refine g_aaload (pc := 167) (t := 5) rfl rfl dX11_relic_167 (mG hI 18 10 rfl (by decide)) rfl (by omega) (by decide) rfl ?_
    refine g_iload_n (pc := 168) dX11_relic_168 rfl ?_
    refine g_iaload (pc := 169) dX11_relic_169 (mR hI 18 3 _ rfl (by show _ < 10; omega)) (j := 1) rfl (by omega) (by decide) rfl ?_
    rw [hrr.2.1]
    refine g_ireturn (pc := 170) dX11_relic_170 rfl (by first | exact rfl | exact j_nb _) ?_
    exact ⟨rfl, hI, hF⟩
  · refine g_tableOut (pc := 114) 162 dX11_relic_114 (by decide) (by decide) ?_
    refine g_aload_n (pc := 162) dX11_relic_162 rfl ?_
    refine g_getfield (pc := 163) f_X11_43_11 dX11_relic_163 hI.1 mf_18 ?_
    refine g_iload_n (pc := 166) dX11_relic_166 rfl ?_
    refine g_aaload (pc := 167) (t := 5) rfl rfl dX11_relic_167 (mG hI 18 10 rfl (by decide)) rfl (by omega) (by decide) rfl ?_
    refine g_iload_n (pc := 168) dX11_relic_168 rfl ?_
    refine g_iaload (pc := 169) dX11_relic_169 (mR hI 18 3 _ rfl (by show _ < 10; omega)) (j := 2) rfl (by omega) (by decide) rfl ?_
    rw [hrr.2.2.1]
    refine g_ireturn (pc := 170) dX11_relic_170 rfl (by first | exact rfl | exact j_nb _) ?_
    exact ⟨rfl, hI, hF⟩
  · refine g_tableIn (pc := 114) (off := 26) 140 dX11_relic_114 (by decide) (by decide) (by decide) (by decide) ?_
    refine g_aload_n (pc := 140) dX11_relic_140 rfl ?_
    refine g_getfield (pc := 141) f_X11_73_11 dX11_relic_141 hI.1 mf_31 ?_
    refine g_bipush (pc := 144) (v := 16) dX11_relic_144 (by decide) ?_
    refine g_iload_n (pc := 146) dX11_relic_146 rfl ?_
    refine g_iadd (pc := 147) dX11_relic_147 ?_
    refine g_iaload (pc := 148) dX11_relic_148 (mA hI 31 45 rfl (by decide)) (j := 16 + a) (nI_add 16 a) (by omega) (by decide) rfl ?_
    refine g_ireturn (pc := 149) dX11_relic_149 rfl (by first | exact rfl | exact j_nb _) ?_
    exact ⟨rfl, hI, hF⟩
  · refine g_tableIn (pc := 114) (off := 36) 150 dX11_relic_114 (by decide) (by decide) (by decide) (by decide) ?_
    refine g_aload_n (pc := 150) dX11_relic_150 rfl ?_
    refine g_aload_n (pc := 151) dX11_relic_151 rfl ?_
    refine g_getfield (pc := 152) f_X11_73_11 dX11_relic_152 hI.1 mf_31 ?_
    refine g_iload_n (pc := 155) dX11_relic_155 rfl ?_
    refine m_cP (pc := 156) (M' := mX11_power) (as := [_, _]) i_X11_289_11 eX11_power hI dX11_relic_156 (c_power (by omega) hI hT hl (k := 31) rfl a ha) (by omega) rfl rfl (Nat.le_of_ble_eq_true rfl) ?_
    refine g_ireturn (pc := 159) dX11_relic_159 rfl (by first | exact rfl | exact j_nb _) ?_
    exact ⟨rfl, hI, hF⟩
  · refine g_tableIn (pc := 114) (off := 46) 160 dX11_relic_114 (by decide) (by decide) (by decide) (by decide) ?_
    refine g_iload_n (pc := 160) dX11_relic_160 rfl ?_
    refine g_ireturn (pc := 161) dX11_relic_161 rfl (by first | exact rfl | exact j_nb _) ?_
    exact ⟨rfl, hI, hF⟩
set_option maxHeartbeats 4000000 in
theorem c_mpilgrim (hd : 8 ≤ d) (hI : InvM am V h) (hT : MT V D nS nR nP) (hl : okL V) (a x : Nat) (ha : a < nP) (hx : x ≤ 3) : Ct E d 0 0 mX11_pilgrim [vR (nMo am), vI (nI a), vI (nI x)] h (mQ am (thr0 V) h (some (vI (pilS (thr0 V) D nR a x)))) := by
  refine ct_of (by decide) (Nat.le_of_ble_eq_true rfl) rfl ?_
  have hF : mFr h h := mFr.rf
  have hT := MT.f0 (j := 0) (y := 0) hT
  change MT (thr0 V) D nS nR nP at hT
  have b8 := hT.2.2.2.1
  have b10 := hT.2.2.2.2.1
  have bP := hT.2.2.2.2.2.1
  have hl := okL.f0 (j := 0) (y := 0) hl (by decide)
  change okL (thr0 V) at hl
  have hu := in_of ha (show nP ≤ 1000 by omega)
  have hv : inR (nI x) 0 3 = true := inC_of (n := 3) hx (by decide)
  have hpp := hT.2.2.2.2.2.2.2.1 a ha
  refine g_aload_n (pc := 0) dX11_pilgrim_0 rfl ?_
  refine g_iconst (pc := 1) (v := 0) dX11_pilgrim_1 (by decide) ?_
  refine m_put (pc := 2) hI w_X11_103_11 rfl (by decide) dX11_pilgrim_2 (fun h hI fr => ?_)
  replace hF := mFr.tr hF fr
  change InvM am (thr0 V) h at hI
  refine g_aload_n (pc := 5) dX11_pilgrim_5 rfl ?_
  refine g_aload_n (pc := 6) dX11_pilgrim_6 rfl ?_
  refine g_iload_n (pc := 7) dX11_pilgrim_7 rfl ?_
  refine m_cP (pc := 8) (M' := mX11_isPerson) (as := [_]) i_X11_342_11 eX11_isPerson hI dX11_pilgrim_8 (c_isPerson hI hT (by omega) _) (by omega) rfl rfl (Nat.le_of_ble_eq_true rfl) ?_
  refine g_ifB_ne (pc := 11) 18 dX11_pilgrim_11 (by decide) (fun c_11 => ?_) (fun c_11 => absurd (hu.symm.trans c_11) (by decide))
  refine g_iconst (pc := 18) (v := 0) dX11_pilgrim_18 (by decide) ?_
  refine g_iconst (pc := 19) (v := 1) dX11_pilgrim_19 (by decide) ?_
  refine g_iconst (pc := 20) (v := 0) dX11_pilgrim_20 (by decide) ?_
  refine m_cV (pc := 21) (M' := mX11_bad) (as := [_, _, _]) i_X11_183_11 eX11_bad hI dX11_pilgrim_21 (c_badF hI thr0_0 1 0 (by decide)) (by omega) rfl rfl (Nat.le_of_ble_eq_true rfl) (fun h hI fr => ?_)
  replace hF := mFr.tr hF fr
  refine g_ifB_ne (pc := 24) 50 dX11_pilgrim_24 (by decide) (fun c_24 => absurd c_24 (by decide)) (fun c_24 => ?_)
  refine g_aload_n (pc := 27) dX11_pilgrim_27 rfl ?_
  refine g_iload_n (pc := 28) dX11_pilgrim_28 rfl ?_
  refine g_iconst (pc := 29) (v := 0) dX11_pilgrim_29 (by decide) ?_
  refine g_iconst (pc := 30) (v := 3) dX11_pilgrim_30 (by decide) ?_
  refine g_cS (pc := 31) (M' := mX11_in) (as := [_, _, _]) i_X11_137 eX11_in dX11_pilgrim_31 (c_in _ _ _) (by omega) rfl rfl (Nat.le_of_ble_eq_true rfl) ?_
  refine g_ifB_ne (pc := 34) 41 dX11_pilgrim_34 (by decide) (fun c_34 => ?_) (fun c_34 => absurd (hv.symm.trans c_34) (by decide))
  refine g_iconst (pc := 41) (v := 0) dX11_pilgrim_41 (by decide) ?_
  refine g_iconst (pc := 42) (v := 2) dX11_pilgrim_42 (by decide) ?_
  refine g_iconst (pc := 43) (v := 1) dX11_pilgrim_43 (by decide) ?_
  refine m_cV (pc := 44) (M' := mX11_bad) (as := [_, _, _]) i_X11_183_11 eX11_bad hI dX11_pilgrim_44 (c_badF hI thr0_0 2 1 (by decide)) (by omega) rfl rfl (Nat.le_of_ble_eq_true rfl) (fun h hI fr => ?_)
  replace hF := mFr.tr hF fr
  refine g_ifB_eq (pc := 47) 52 dX11_pilgrim_47 (by decide) (fun c_47 => ?_) (fun c_47 => absurd c_47 (by decide))
  refine g_iconst (pc := 52) (v := 0) dX11_pilgrim_52 (by decide) ?_
  refine g_istore_n (pc := 53) (ls' := [_, _, _, _, _]) dX11_pilgrim_53 (by decide) rfl rfl ?_
  refine g_iconst (pc := 54) (v := 0) dX11_pilgrim_54 (by decide) ?_
  refine g_istore (pc := 55) (ls' := [_, _, _, _, _]) dX11_pilgrim_55 (by decide) rfl rfl ?_
  refine l_mpilgrim (by omega) hI hT hl a ha _ nR 0 rfl (Nat.zero_le _) ?_
  have hxx : x = 0 ∨ x = 1 ∨ x = 2 ∨ x = 3 := by omega
  rcases hxx with rfl | rfl | rfl | rfl
  · refine g_iload_n (pc := 99) dX11_pilgrim_99 rfl ?_
    refine g_iconst (pc := 100) (v := 2) dX11_pilgrim_100 (by decide) ?_
    refine g_icmp_ge (pc := 101) 115 dX11_pilgrim_101 (by decide) (fun c_101 => absurd c_101 (by decide)) (fun c_101 => ?_)
    refine g_aload_n (pc := 104) dX11_pilgrim_104 rfl ?_
    refine g_getfield (pc := 105) f_X11_49_11 dX11_pilgrim_105 hI.1 mf_20 ?_
    refine g_iload_n (pc := 108) dX11_pilgrim_108 rfl ?_
    refine g_aaload (pc := 109) (t := 5) rfl rfl dX11_pilgrim_109 (mG hI 20 8 rfl (by decide)) rfl (by omega) (by decide) rfl ?_
    refine g_iload_n (pc := 110) dX11_pilgrim_110 rfl ?_
    refine g_iaload (pc := 111) dX11_pilgrim_111 (mR hI 20 2 _ rfl (by show _ < 8; omega)) (j := 0) rfl (by omega) (by decide) rfl ?_
    rw [hpp.1]
    refine g_goto (pc := 112) 133 dX11_pilgrim_112 (by decide) ?_
    refine g_ireturn (pc := 133) dX11_pilgrim_133 rfl (by first | exact rfl | exact j_nb _) ?_
    exact ⟨rfl, hI, hF⟩
  · refine g_iload_n (pc := 99) dX11_pilgrim_99 rfl ?_
    refine g_iconst (pc := 100) (v := 2) dX11_pilgrim_100 (by decide) ?_
    refine g_icmp_ge (pc := 101) 115 dX11_pilgrim_101 (by decide) (fun c_101 => absurd c_101 (by decide)) (fun c_101 => ?_)
    refine g_aload_n (pc := 104) dX11_pilgrim_104 rfl ?_
    refine g_getfield (pc := 105) f_X11_49_11 dX11_pilgrim_105 hI.1 mf_20 ?_
    refine g_iload_n (pc := 108) dX11_pilgrim_108 rfl ?_
    refine g_aaload (pc := 109) (t := 5) rfl rfl dX11_pilgrim_109 (mG hI 20 8 rfl (by decide)) rfl (by omega) (by decide) rfl ?_
    refine g_iload_n (pc := 110) dX11_pilgrim_110 rfl ?_
    refine g_iaload (pc := 111) dX11_pilgrim_111 (mR hI 20 2 _ rfl (by show _ < 8; omega)) (j := 1) rfl (by omega) (by decide) rfl ?_
    rw [hpp.2.1]
    refine g_goto (pc := 112) 133 dX11_pilgrim_112 (by decide) ?_
    refine g_ireturn (pc := 133) dX11_pilgrim_133 rfl (by first | exact rfl | exact j_nb _) ?_
    exact ⟨rfl, hI, hF⟩
  · refine g_iload_n (pc := 99) dX11_pilgrim_99 rfl ?_
    refine g_iconst (pc := 100) (v := 2) dX11_pilgrim_100 (by decide) ?_
    refine g_icmp_ge (pc := 101) 115 dX11_pilgrim_101 (by decide) (fun c_101 => ?_) (fun c_101 => absurd (by decide) c_101)
    refine g_iload_n (pc := 115) dX11_pilgrim_115 rfl ?_
    refine g_iconst (pc := 116) (v := 2) dX11_pilgrim_116 (by decide) ?_
    refine g_icmp_ne (pc := 117) 132 dX11_pilgrim_117 (by decide) (fun c_117 => absurd rfl c_117) (fun c_117 => ?_)
    refine g_aload_n (pc := 120) dX11_pilgrim_120 rfl ?_
    refine g_getfield (pc := 121) f_X11_73_11 dX11_pilgrim_121 hI.1 mf_31 ?_
    refine g_bipush (pc := 124) (v := 36) dX11_pilgrim_124 (by decide) ?_
    refine g_iload_n (pc := 126) dX11_pilgrim_126 rfl ?_
    refine g_iadd (pc := 127) dX11_pilgrim_127 ?_
    refine g_iaload (pc := 128) dX11_pilgrim_128 (mA hI 31 45 rfl (by decide)) (j := 36 + a) (nI_add 36 a) (by omega) (by decide) rfl ?_
    refine g_goto (pc := 129) 133 dX11_pilgrim_129 (by decide) ?_
    refine g_ireturn (pc := 133) dX11_pilgrim_133 rfl (by first | exact rfl | exact j_nb _) ?_
    exact ⟨rfl, hI, hF⟩
  · refine g_iload_n (pc := 99) dX11_pilgrim_99 rfl ?_
    refine g_iconst (pc := 100) (v := 2) dX11_pilgrim_100 (by decide) ?_
    refine g_icmp_ge (pc := 101) 115 dX11_pilgrim_101 (by decide) (fun c_101 => ?_) (fun c_101 => absurd (by decide) c_101)
    refine g_iload_n (pc := 115) dX11_pilgrim_115 rfl ?_
    refine g_iconst (pc := 116) (v := 2) dX11_pilgrim_116 (by decide) ?_
    refine g_icmp_ne (pc := 117) 132 dX11_pilgrim_117 (by decide) (fun c_117 => ?_) (fun c_117 => absurd c_117 (by decide))
    refine g_iload_n (pc := 132) dX11_pilgrim_132 rfl ?_
    refine g_ireturn (pc := 133) dX11_pilgrim_133 rfl (by first | exact rfl | exact j_nb _) ?_
    exact ⟨rfl, hI, hF⟩
theorem r1_mcan (hd : 2 ≤ d) (hI : InvM am V h) (hT : MT V D nS nR nP) (s w : Int32) (hv : (inR s 0 (nI nR - 1) && inR w 0 (nI nP - 1)) = false) : Ct E d 0 0 mX11_can [vR (nMo am), vI s, vI w] h (mQ am (refV V 1 0) h (some (vI 0))) := by
  refine ct_of (by decide) (Nat.le_of_ble_eq_true rfl) rfl ?_
  have hF : mFr h h := mFr.rf
  have hT := MT.f0 (j := 0) (y := 0) hT
  change MT (thr0 V) D nS nR nP at hT
  have b8 := hT.2.2.2.1
  have b10 := hT.2.2.2.2.1
  have bP := hT.2.2.2.2.2.1
  refine g_aload_n (pc := 0) dX11_can_0 rfl ?_
  refine g_iconst (pc := 1) (v := 0) dX11_can_1 (by decide) ?_
  refine m_put (pc := 2) hI w_X11_103_11 rfl (by decide) dX11_can_2 (fun h hI fr => ?_)
  replace hF := mFr.tr hF fr
  change InvM am (thr0 V) h at hI
  refine g_aload_n (pc := 5) dX11_can_5 rfl ?_
  refine g_aload_n (pc := 6) dX11_can_6 rfl ?_
  refine g_iload_n (pc := 7) dX11_can_7 rfl ?_
  refine m_cP (pc := 8) (M' := mX11_isRelic) (as := [_]) i_X11_339_11 eX11_isRelic hI dX11_can_8 (c_isRelic hI hT (by omega) _) (by omega) rfl rfl (Nat.le_of_ble_eq_true rfl) ?_
  refine g_ifB_eq (pc := 11) 22 dX11_can_11 (by decide) (fun c_11 => ?_) (fun c_11 => ?_)
  · refine g_iconst (pc := 22) (v := 1) dX11_can_22 (by decide) ?_
    refine g_goto (pc := 23) 27 dX11_can_23 (by decide) ?_
    refine g_iconst (pc := 27) (v := 1) dX11_can_27 (by decide) ?_
    refine g_iconst (pc := 28) (v := 0) dX11_can_28 (by decide) ?_
    refine m_cV (pc := 29) (M' := mX11_bad) (as := [_, _, _]) i_X11_183_11 eX11_bad hI dX11_can_29 (c_badT hI thr0_0 1 (by decide) 0 (by decide)) (by omega) rfl rfl (Nat.le_of_ble_eq_true rfl) (fun h hI fr => ?_)
    replace hF := mFr.tr hF fr
    refine g_ifB_eq (pc := 32) 37 dX11_can_32 (by decide) (fun c_32 => absurd c_32 (by decide)) (fun c_32 => ?_)
    refine g_iconst (pc := 35) (v := 0) dX11_can_35 (by decide) ?_
    refine g_ireturn (pc := 36) dX11_can_36 rfl (by first | exact rfl | exact j_nb _) ?_
    rw [refV_thr0] at hI
    exact ⟨rfl, hI, hF⟩
  · refine g_aload_n (pc := 14) dX11_can_14 rfl ?_
    refine g_iload_n (pc := 15) dX11_can_15 rfl ?_
    refine m_cP (pc := 16) (M' := mX11_isPerson) (as := [_]) i_X11_342_11 eX11_isPerson hI dX11_can_16 (c_isPerson hI hT (by omega) _) (by omega) rfl rfl (Nat.le_of_ble_eq_true rfl) ?_
    refine g_ifB_ne (pc := 19) 26 dX11_can_19 (by decide) (fun c_19 => ?_) (fun c_19 => ?_)
    · exfalso
      rw [c_11, c_19] at hv
      cases hv
    · refine g_iconst (pc := 22) (v := 1) dX11_can_22 (by decide) ?_
      refine g_goto (pc := 23) 27 dX11_can_23 (by decide) ?_
      refine g_iconst (pc := 27) (v := 1) dX11_can_27 (by decide) ?_
      refine g_iconst (pc := 28) (v := 0) dX11_can_28 (by decide) ?_
      refine m_cV (pc := 29) (M' := mX11_bad) (as := [_, _, _]) i_X11_183_11 eX11_bad hI dX11_can_29 (c_badT hI thr0_0 1 (by decide) 0 (by decide)) (by omega) rfl rfl (Nat.le_of_ble_eq_true rfl) (fun h hI fr => ?_)
      replace hF := mFr.tr hF fr
      refine g_ifB_eq (pc := 32) 37 dX11_can_32 (by decide) (fun c_32 => absurd c_32 (by decide)) (fun c_32 => ?_)
      refine g_iconst (pc := 35) (v := 0) dX11_can_35 (by decide) ?_
      refine g_ireturn (pc := 36) dX11_can_36 rfl (by first | exact rfl | exact j_nb _) ?_
      rw [refV_thr0] at hI
      exact ⟨rfl, hI, hF⟩
set_option maxHeartbeats 1000000 in
theorem c_mcan (hd : 8 ≤ d) (hI : InvM am V h) (hT : MT V D nS nR nP) (hl : okL V) (a b : Nat) (ha : a < nR) (hb : b < nP) : Ct E d 0 0 mX11_can [vR (nMo am), vI (nI a), vI (nI b)] h (mQ am (thr0 V) h (some (vI (bI (ccI (mlaw (thr0 V)) D nR (thr0 V 31) a b))))) := by
  refine ct_of (by decide) (Nat.le_of_ble_eq_true rfl) rfl ?_
  have hF : mFr h h := mFr.rf
  have hT := MT.f0 (j := 0) (y := 0) hT
  change MT (thr0 V) D nS nR nP at hT
  have b8 := hT.2.2.2.1
  have b10 := hT.2.2.2.2.1
  have bP := hT.2.2.2.2.2.1
  have hl := okL.f0 (j := 0) (y := 0) hl (by decide)
  change okL (thr0 V) at hl
  have hu := in_of ha (show nR ≤ 1000 by omega)
  have hv := in_of hb (show nP ≤ 1000 by omega)
  refine g_aload_n (pc := 0) dX11_can_0 rfl ?_
  refine g_iconst (pc := 1) (v := 0) dX11_can_1 (by decide) ?_
  refine m_put (pc := 2) hI w_X11_103_11 rfl (by decide) dX11_can_2 (fun h hI fr => ?_)
  replace hF := mFr.tr hF fr
  change InvM am (thr0 V) h at hI
  refine g_aload_n (pc := 5) dX11_can_5 rfl ?_
  refine g_aload_n (pc := 6) dX11_can_6 rfl ?_
  refine g_iload_n (pc := 7) dX11_can_7 rfl ?_
  refine m_cP (pc := 8) (M' := mX11_isRelic) (as := [_]) i_X11_339_11 eX11_isRelic hI dX11_can_8 (c_isRelic hI hT (by omega) _) (by omega) rfl rfl (Nat.le_of_ble_eq_true rfl) ?_
  refine g_ifB_eq (pc := 11) 22 dX11_can_11 (by decide) (fun c_11 => absurd (hu.symm.trans c_11) (by decide)) (fun c_11 => ?_)
  refine g_aload_n (pc := 14) dX11_can_14 rfl ?_
  refine g_iload_n (pc := 15) dX11_can_15 rfl ?_
  refine m_cP (pc := 16) (M' := mX11_isPerson) (as := [_]) i_X11_342_11 eX11_isPerson hI dX11_can_16 (c_isPerson hI hT (by omega) _) (by omega) rfl rfl (Nat.le_of_ble_eq_true rfl) ?_
  refine g_ifB_ne (pc := 19) 26 dX11_can_19 (by decide) (fun c_19 => ?_) (fun c_19 => absurd (hv.symm.trans c_19) (by decide))
  refine g_iconst (pc := 26) (v := 0) dX11_can_26 (by decide) ?_
  refine g_iconst (pc := 27) (v := 1) dX11_can_27 (by decide) ?_
  refine g_iconst (pc := 28) (v := 0) dX11_can_28 (by decide) ?_
  refine m_cV (pc := 29) (M' := mX11_bad) (as := [_, _, _]) i_X11_183_11 eX11_bad hI dX11_can_29 (c_badF hI thr0_0 1 0 (by decide)) (by omega) rfl rfl (Nat.le_of_ble_eq_true rfl) (fun h hI fr => ?_)
  replace hF := mFr.tr hF fr
  refine g_ifB_eq (pc := 32) 37 dX11_can_32 (by decide) (fun c_32 => ?_) (fun c_32 => absurd c_32 (by decide))
  refine g_aload_n (pc := 37) dX11_can_37 rfl ?_
  refine g_aload_n (pc := 38) dX11_can_38 rfl ?_
  refine g_getfield (pc := 39) f_X11_73_11 dX11_can_39 hI.1 mf_31 ?_
  refine g_iload_n (pc := 42) dX11_can_42 rfl ?_
  refine g_iload_n (pc := 43) dX11_can_43 rfl ?_
  refine m_cP (pc := 44) (M' := mX11_canCure) (as := [_, _, _]) i_X11_299_11 eX11_canCure hI dX11_can_44 (c_canCure (by omega) hI hT hl (k := 31) rfl a b ha hb) (by omega) rfl rfl (Nat.le_of_ble_eq_true rfl) ?_
  refine g_ireturn (pc := 47) dX11_can_47 rfl (by first | exact rfl | exact j_nb _) ?_
  exact ⟨rfl, hI, hF⟩
def wouB (a : Nat → Int32) : Bool := inR (a 0) 1 30 && inR (a 1) 0 999 && inR (a 2) 0 999 && inR (a 3) 0 15 && inR (a 4) 0 5 && inR (a 5) 0 9 && inR (a 6) 0 7 && inR (a 7) 0 500
theorem r_mwould (hd : 2 ≤ d) (hI : InvM am V h) (a0 a1 a2 a3 a4 a5 a6 a7 : Int32) (hv : (inR a0 1 30 && inR a1 0 999 && inR a2 0 999 && inR a3 0 15 && inR a4 0 5 && inR a5 0 9 && inR a6 0 7 && inR a7 0 500) = false) : Ct E d 0 0 mX11_would [vR (nMo am), vI a0, vI a1, vI a2, vI a3, vI a4, vI a5, vI a6, vI a7] h (mQ am (refV V 1 1) h (some (vI 0))) := by
  refine ct_of (by decide) (Nat.le_of_ble_eq_true rfl) rfl ?_
  have hF : mFr h h := mFr.rf
  refine g_aload_n (pc := 0) dX11_would_0 rfl ?_
  refine g_iconst (pc := 1) (v := 0) dX11_would_1 (by decide) ?_
  refine m_put (pc := 2) hI w_X11_103_11 rfl (by decide) dX11_would_2 (fun h hI fr => ?_)
  replace hF := mFr.tr hF fr
  change InvM am (thr0 V) h at hI
  refine g_aload_n (pc := 5) dX11_would_5 rfl ?_
  refine g_iload_n (pc := 6) dX11_would_6 rfl ?_
  refine g_iconst (pc := 7) (v := 1) dX11_would_7 (by decide) ?_
  refine g_bipush (pc := 8) (v := 30) dX11_would_8 (by decide) ?_
  refine g_cS (pc := 10) (M' := mX11_in) (as := [_, _, _]) i_X11_137 eX11_in dX11_would_10 (c_in _ _ _) (by omega) rfl rfl (Nat.le_of_ble_eq_true rfl) ?_
  refine g_ifB_eq (pc := 13) 93 dX11_would_13 (by decide) (fun c_13 => ?_) (fun c_13 => ?_)
  · refine g_iconst (pc := 93) (v := 1) dX11_would_93 (by decide) ?_
    refine g_goto (pc := 94) 98 dX11_would_94 (by decide) ?_
    refine g_iconst (pc := 98) (v := 1) dX11_would_98 (by decide) ?_
    refine g_iconst (pc := 99) (v := 1) dX11_would_99 (by decide) ?_
    refine m_cV (pc := 100) (M' := mX11_bad) (as := [_, _, _]) i_X11_183_11 eX11_bad hI dX11_would_100 (c_badT hI thr0_0 1 (by decide) 1 (by decide)) (by omega) rfl rfl (Nat.le_of_ble_eq_true rfl) (fun h hI fr => ?_)
    replace hF := mFr.tr hF fr
    refine g_ifB_eq (pc := 103) 108 dX11_would_103 (by decide) (fun c_103 => absurd c_103 (by decide)) (fun c_103 => ?_)
    refine g_iconst (pc := 106) (v := 0) dX11_would_106 (by decide) ?_
    refine g_ireturn (pc := 107) dX11_would_107 rfl (by first | exact rfl | exact j_nb _) ?_
    rw [refV_thr0] at hI
    exact ⟨rfl, hI, hF⟩
  · refine g_iload_n (pc := 16) dX11_would_16 rfl ?_
    refine g_iconst (pc := 17) (v := 0) dX11_would_17 (by decide) ?_
    refine g_sipush (pc := 18) (v := 999) dX11_would_18 (by decide) ?_
    refine g_cS (pc := 21) (M' := mX11_in) (as := [_, _, _]) i_X11_137 eX11_in dX11_would_21 (c_in _ _ _) (by omega) rfl rfl (Nat.le_of_ble_eq_true rfl) ?_
    refine g_ifB_eq (pc := 24) 93 dX11_would_24 (by decide) (fun c_24 => ?_) (fun c_24 => ?_)
    · refine g_iconst (pc := 93) (v := 1) dX11_would_93 (by decide) ?_
      refine g_goto (pc := 94) 98 dX11_would_94 (by decide) ?_
      refine g_iconst (pc := 98) (v := 1) dX11_would_98 (by decide) ?_
      refine g_iconst (pc := 99) (v := 1) dX11_would_99 (by decide) ?_
      refine m_cV (pc := 100) (M' := mX11_bad) (as := [_, _, _]) i_X11_183_11 eX11_bad hI dX11_would_100 (c_badT hI thr0_0 1 (by decide) 1 (by decide)) (by omega) rfl rfl (Nat.le_of_ble_eq_true rfl) (fun h hI fr => ?_)
      replace hF := mFr.tr hF fr
      refine g_ifB_eq (pc := 103) 108 dX11_would_103 (by decide) (fun c_103 => absurd c_103 (by decide)) (fun c_103 => ?_)
      refine g_iconst (pc := 106) (v := 0) dX11_would_106 (by decide) ?_
      refine g_ireturn (pc := 107) dX11_would_107 rfl (by first | exact rfl | exact j_nb _) ?_
      rw [refV_thr0] at hI
      exact ⟨rfl, hI, hF⟩
    · refine g_iload_n (pc := 27) dX11_would_27 rfl ?_
      refine g_iconst (pc := 28) (v := 0) dX11_would_28 (by decide) ?_
      refine g_sipush (pc := 29) (v := 999) dX11_would_29 (by decide) ?_
      refine g_cS (pc := 32) (M' := mX11_in) (as := [_, _, _]) i_X11_137 eX11_in dX11_would_32 (c_in _ _ _) (by omega) rfl rfl (Nat.le_of_ble_eq_true rfl) ?_
      refine g_ifB_eq (pc := 35) 93 dX11_would_35 (by decide) (fun c_35 => ?_) (fun c_35 => ?_)
      · refine g_iconst (pc := 93) (v := 1) dX11_would_93 (by decide) ?_
        refine g_goto (pc := 94) 98 dX11_would_94 (by decide) ?_
        refine g_iconst (pc := 98) (v := 1) dX11_would_98 (by decide) ?_
        refine g_iconst (pc := 99) (v := 1) dX11_would_99 (by decide) ?_
        refine m_cV (pc := 100) (M' := mX11_bad) (as := [_, _, _]) i_X11_183_11 eX11_bad hI dX11_would_100 (c_badT hI thr0_0 1 (by decide) 1 (by decide)) (by omega) rfl rfl (Nat.le_of_ble_eq_true rfl) (fun h hI fr => ?_)
        replace hF := mFr.tr hF fr
        refine g_ifB_eq (pc := 103) 108 dX11_would_103 (by decide) (fun c_103 => absurd c_103 (by decide)) (fun c_103 => ?_)
        refine g_iconst (pc := 106) (v := 0) dX11_would_106 (by decide) ?_
        refine g_ireturn (pc := 107) dX11_would_107 rfl (by first | exact rfl | exact j_nb _) ?_
        rw [refV_thr0] at hI
        exact ⟨rfl, hI, hF⟩
      · refine g_iload (pc := 38) dX11_would_38 rfl ?_
        refine g_iconst (pc := 40) (v := 0) dX11_would_40 (by decide) ?_
        refine g_bipush (pc := 41) (v := 15) dX11_would_41 (by decide) ?_
        refine g_cS (pc := 43) (M' := mX11_in) (as := [_, _, _]) i_X11_137 eX11_in dX11_would_43 (c_in _ _ _) (by omega) rfl rfl (Nat.le_of_ble_eq_true rfl) ?_
        refine g_ifB_eq (pc := 46) 93 dX11_would_46 (by decide) (fun c_46 => ?_) (fun c_46 => ?_)
        · refine g_iconst (pc := 93) (v := 1) dX11_would_93 (by decide) ?_
          refine g_goto (pc := 94) 98 dX11_would_94 (by decide) ?_
          refine g_iconst (pc := 98) (v := 1) dX11_would_98 (by decide) ?_
          refine g_iconst (pc := 99) (v := 1) dX11_would_99 (by decide) ?_
          refine m_cV (pc := 100) (M' := mX11_bad) (as := [_, _, _]) i_X11_183_11 eX11_bad hI dX11_would_100 (c_badT hI thr0_0 1 (by decide) 1 (by decide)) (by omega) rfl rfl (Nat.le_of_ble_eq_true rfl) (fun h hI fr => ?_)
          replace hF := mFr.tr hF fr
          refine g_ifB_eq (pc := 103) 108 dX11_would_103 (by decide) (fun c_103 => absurd c_103 (by decide)) (fun c_103 => ?_)
          refine g_iconst (pc := 106) (v := 0) dX11_would_106 (by decide) ?_
          refine g_ireturn (pc := 107) dX11_would_107 rfl (by first | exact rfl | exact j_nb _) ?_
          rw [refV_thr0] at hI
          exact ⟨rfl, hI, hF⟩
        · refine g_iload (pc := 49) dX11_would_49 rfl ?_
          refine g_iconst (pc := 51) (v := 0) dX11_would_51 (by decide) ?_
          refine g_iconst (pc := 52) (v := 5) dX11_would_52 (by decide) ?_
          refine g_cS (pc := 53) (M' := mX11_in) (as := [_, _, _]) i_X11_137 eX11_in dX11_would_53 (c_in _ _ _) (by omega) rfl rfl (Nat.le_of_ble_eq_true rfl) ?_
          refine g_ifB_eq (pc := 56) 93 dX11_would_56 (by decide) (fun c_56 => ?_) (fun c_56 => ?_)
          · refine g_iconst (pc := 93) (v := 1) dX11_would_93 (by decide) ?_
            refine g_goto (pc := 94) 98 dX11_would_94 (by decide) ?_
            refine g_iconst (pc := 98) (v := 1) dX11_would_98 (by decide) ?_
            refine g_iconst (pc := 99) (v := 1) dX11_would_99 (by decide) ?_
            refine m_cV (pc := 100) (M' := mX11_bad) (as := [_, _, _]) i_X11_183_11 eX11_bad hI dX11_would_100 (c_badT hI thr0_0 1 (by decide) 1 (by decide)) (by omega) rfl rfl (Nat.le_of_ble_eq_true rfl) (fun h hI fr => ?_)
            replace hF := mFr.tr hF fr
            refine g_ifB_eq (pc := 103) 108 dX11_would_103 (by decide) (fun c_103 => absurd c_103 (by decide)) (fun c_103 => ?_)
            refine g_iconst (pc := 106) (v := 0) dX11_would_106 (by decide) ?_
            refine g_ireturn (pc := 107) dX11_would_107 rfl (by first | exact rfl | exact j_nb _) ?_
            rw [refV_thr0] at hI
            exact ⟨rfl, hI, hF⟩
          · refine g_iload (pc := 59) dX11_would_59 rfl ?_
            refine g_iconst (pc := 61) (v := 0) dX11_would_61 (by decide) ?_
            refine g_bipush (pc := 62) (v := 9) dX11_would_62 (by decide) ?_
            refine g_cS (pc := 64) (M' := mX11_in) (as := [_, _, _]) i_X11_137 eX11_in dX11_would_64 (c_in _ _ _) (by omega) rfl rfl (Nat.le_of_ble_eq_true rfl) ?_
            refine g_ifB_eq (pc := 67) 93 dX11_would_67 (by decide) (fun c_67 => ?_) (fun c_67 => ?_)
            · refine g_iconst (pc := 93) (v := 1) dX11_would_93 (by decide) ?_
              refine g_goto (pc := 94) 98 dX11_would_94 (by decide) ?_
              refine g_iconst (pc := 98) (v := 1) dX11_would_98 (by decide) ?_
              refine g_iconst (pc := 99) (v := 1) dX11_would_99 (by decide) ?_
              refine m_cV (pc := 100) (M' := mX11_bad) (as := [_, _, _]) i_X11_183_11 eX11_bad hI dX11_would_100 (c_badT hI thr0_0 1 (by decide) 1 (by decide)) (by omega) rfl rfl (Nat.le_of_ble_eq_true rfl) (fun h hI fr => ?_)
              replace hF := mFr.tr hF fr
              refine g_ifB_eq (pc := 103) 108 dX11_would_103 (by decide) (fun c_103 => absurd c_103 (by decide)) (fun c_103 => ?_)
              refine g_iconst (pc := 106) (v := 0) dX11_would_106 (by decide) ?_
              refine g_ireturn (pc := 107) dX11_would_107 rfl (by first | exact rfl | exact j_nb _) ?_
              rw [refV_thr0] at hI
              exact ⟨rfl, hI, hF⟩
            · refine g_iload (pc := 70) dX11_would_70 rfl ?_
              refine g_iconst (pc := 72) (v := 0) dX11_would_72 (by decide) ?_
              refine g_bipush (pc := 73) (v := 7) dX11_would_73 (by decide) ?_
              refine g_cS (pc := 75) (M' := mX11_in) (as := [_, _, _]) i_X11_137 eX11_in dX11_would_75 (c_in _ _ _) (by omega) rfl rfl (Nat.le_of_ble_eq_true rfl) ?_
              refine g_ifB_eq (pc := 78) 93 dX11_would_78 (by decide) (fun c_78 => ?_) (fun c_78 => ?_)
              · refine g_iconst (pc := 93) (v := 1) dX11_would_93 (by decide) ?_
                refine g_goto (pc := 94) 98 dX11_would_94 (by decide) ?_
                refine g_iconst (pc := 98) (v := 1) dX11_would_98 (by decide) ?_
                refine g_iconst (pc := 99) (v := 1) dX11_would_99 (by decide) ?_
                refine m_cV (pc := 100) (M' := mX11_bad) (as := [_, _, _]) i_X11_183_11 eX11_bad hI dX11_would_100 (c_badT hI thr0_0 1 (by decide) 1 (by decide)) (by omega) rfl rfl (Nat.le_of_ble_eq_true rfl) (fun h hI fr => ?_)
                replace hF := mFr.tr hF fr
                refine g_ifB_eq (pc := 103) 108 dX11_would_103 (by decide) (fun c_103 => absurd c_103 (by decide)) (fun c_103 => ?_)
                refine g_iconst (pc := 106) (v := 0) dX11_would_106 (by decide) ?_
                refine g_ireturn (pc := 107) dX11_would_107 rfl (by first | exact rfl | exact j_nb _) ?_
                rw [refV_thr0] at hI
                exact ⟨rfl, hI, hF⟩
              · refine g_iload (pc := 81) dX11_would_81 rfl ?_
                refine g_iconst (pc := 83) (v := 0) dX11_would_83 (by decide) ?_
                refine g_sipush (pc := 84) (v := 500) dX11_would_84 (by decide) ?_
                refine g_cS (pc := 87) (M' := mX11_in) (as := [_, _, _]) i_X11_137 eX11_in dX11_would_87 (c_in _ _ _) (by omega) rfl rfl (Nat.le_of_ble_eq_true rfl) ?_
                refine g_ifB_ne (pc := 90) 97 dX11_would_90 (by decide) (fun c_90 => ?_) (fun c_90 => ?_)
                · exfalso
                  rw [c_13, c_24, c_35, c_46, c_56, c_67, c_78, c_90] at hv
                  cases hv
                · refine g_iconst (pc := 93) (v := 1) dX11_would_93 (by decide) ?_
                  refine g_goto (pc := 94) 98 dX11_would_94 (by decide) ?_
                  refine g_iconst (pc := 98) (v := 1) dX11_would_98 (by decide) ?_
                  refine g_iconst (pc := 99) (v := 1) dX11_would_99 (by decide) ?_
                  refine m_cV (pc := 100) (M' := mX11_bad) (as := [_, _, _]) i_X11_183_11 eX11_bad hI dX11_would_100 (c_badT hI thr0_0 1 (by decide) 1 (by decide)) (by omega) rfl rfl (Nat.le_of_ble_eq_true rfl) (fun h hI fr => ?_)
                  replace hF := mFr.tr hF fr
                  refine g_ifB_eq (pc := 103) 108 dX11_would_103 (by decide) (fun c_103 => absurd c_103 (by decide)) (fun c_103 => ?_)
                  refine g_iconst (pc := 106) (v := 0) dX11_would_106 (by decide) ?_
                  refine g_ireturn (pc := 107) dX11_would_107 rfl (by first | exact rfl | exact j_nb _) ?_
                  rw [refV_thr0] at hI
                  exact ⟨rfl, hI, hF⟩
set_option maxHeartbeats 1000000 in
theorem c_mwould (hd : 8 ≤ d) (hI : InvM am V h) (hl : okL V) (a0 a1 a2 a3 a4 a5 a6 a7 : Int32) (hv : (inR a0 1 30 && inR a1 0 999 && inR a2 0 999 && inR a3 0 15 && inR a4 0 5 && inR a5 0 9 && inR a6 0 7 && inR a7 0 500) = true) : Ct E d 0 0 mX11_would [vR (nMo am), vI a0, vI a1, vI a2, vI a3, vI a4, vI a5, vI a6, vI a7] h (mQ am (thr0 V) h (some (vI (clampI (mlaw (thr0 V) (fc8 a0 a1 a2 a3 a4 a5 a6 a7)))))) := by
  refine ct_of (by decide) (Nat.le_of_ble_eq_true rfl) rfl ?_
  have hF : mFr h h := mFr.rf
  have hl := okL.f0 (j := 0) (y := 0) hl (by decide)
  change okL (thr0 V) at hl
  simp only [Bool.and_eq_true] at hv
  obtain ⟨⟨⟨⟨⟨⟨⟨h0, h1⟩, h2⟩, h3⟩, h4⟩, h5⟩, h6⟩, h7⟩ := hv
  refine g_aload_n (pc := 0) dX11_would_0 rfl ?_
  refine g_iconst (pc := 1) (v := 0) dX11_would_1 (by decide) ?_
  refine m_put (pc := 2) hI w_X11_103_11 rfl (by decide) dX11_would_2 (fun h hI fr => ?_)
  replace hF := mFr.tr hF fr
  change InvM am (thr0 V) h at hI
  refine g_aload_n (pc := 5) dX11_would_5 rfl ?_
  refine g_iload_n (pc := 6) dX11_would_6 rfl ?_
  refine g_iconst (pc := 7) (v := 1) dX11_would_7 (by decide) ?_
  refine g_bipush (pc := 8) (v := 30) dX11_would_8 (by decide) ?_
  refine g_cS (pc := 10) (M' := mX11_in) (as := [_, _, _]) i_X11_137 eX11_in dX11_would_10 (c_in _ _ _) (by omega) rfl rfl (Nat.le_of_ble_eq_true rfl) ?_
  refine g_ifB_eq (pc := 13) 93 dX11_would_13 (by decide) (fun c_13 => absurd (h0.symm.trans c_13) (by decide)) (fun c_13 => ?_)
  refine g_iload_n (pc := 16) dX11_would_16 rfl ?_
  refine g_iconst (pc := 17) (v := 0) dX11_would_17 (by decide) ?_
  refine g_sipush (pc := 18) (v := 999) dX11_would_18 (by decide) ?_
  refine g_cS (pc := 21) (M' := mX11_in) (as := [_, _, _]) i_X11_137 eX11_in dX11_would_21 (c_in _ _ _) (by omega) rfl rfl (Nat.le_of_ble_eq_true rfl) ?_
  refine g_ifB_eq (pc := 24) 93 dX11_would_24 (by decide) (fun c_24 => absurd (h1.symm.trans c_24) (by decide)) (fun c_24 => ?_)
  refine g_iload_n (pc := 27) dX11_would_27 rfl ?_
  refine g_iconst (pc := 28) (v := 0) dX11_would_28 (by decide) ?_
  refine g_sipush (pc := 29) (v := 999) dX11_would_29 (by decide) ?_
  refine g_cS (pc := 32) (M' := mX11_in) (as := [_, _, _]) i_X11_137 eX11_in dX11_would_32 (c_in _ _ _) (by omega) rfl rfl (Nat.le_of_ble_eq_true rfl) ?_
  refine g_ifB_eq (pc := 35) 93 dX11_would_35 (by decide) (fun c_35 => absurd (h2.symm.trans c_35) (by decide)) (fun c_35 => ?_)
  refine g_iload (pc := 38) dX11_would_38 rfl ?_
  refine g_iconst (pc := 40) (v := 0) dX11_would_40 (by decide) ?_
  refine g_bipush (pc := 41) (v := 15) dX11_would_41 (by decide) ?_
  refine g_cS (pc := 43) (M' := mX11_in) (as := [_, _, _]) i_X11_137 eX11_in dX11_would_43 (c_in _ _ _) (by omega) rfl rfl (Nat.le_of_ble_eq_true rfl) ?_
  refine g_ifB_eq (pc := 46) 93 dX11_would_46 (by decide) (fun c_46 => absurd (h3.symm.trans c_46) (by decide)) (fun c_46 => ?_)
  refine g_iload (pc := 49) dX11_would_49 rfl ?_
  refine g_iconst (pc := 51) (v := 0) dX11_would_51 (by decide) ?_
  refine g_iconst (pc := 52) (v := 5) dX11_would_52 (by decide) ?_
  refine g_cS (pc := 53) (M' := mX11_in) (as := [_, _, _]) i_X11_137 eX11_in dX11_would_53 (c_in _ _ _) (by omega) rfl rfl (Nat.le_of_ble_eq_true rfl) ?_
  refine g_ifB_eq (pc := 56) 93 dX11_would_56 (by decide) (fun c_56 => absurd (h4.symm.trans c_56) (by decide)) (fun c_56 => ?_)
  refine g_iload (pc := 59) dX11_would_59 rfl ?_
  refine g_iconst (pc := 61) (v := 0) dX11_would_61 (by decide) ?_
  refine g_bipush (pc := 62) (v := 9) dX11_would_62 (by decide) ?_
  refine g_cS (pc := 64) (M' := mX11_in) (as := [_, _, _]) i_X11_137 eX11_in dX11_would_64 (c_in _ _ _) (by omega) rfl rfl (Nat.le_of_ble_eq_true rfl) ?_
  refine g_ifB_eq (pc := 67) 93 dX11_would_67 (by decide) (fun c_67 => absurd (h5.symm.trans c_67) (by decide)) (fun c_67 => ?_)
  refine g_iload (pc := 70) dX11_would_70 rfl ?_
  refine g_iconst (pc := 72) (v := 0) dX11_would_72 (by decide) ?_
  refine g_bipush (pc := 73) (v := 7) dX11_would_73 (by decide) ?_
  refine g_cS (pc := 75) (M' := mX11_in) (as := [_, _, _]) i_X11_137 eX11_in dX11_would_75 (c_in _ _ _) (by omega) rfl rfl (Nat.le_of_ble_eq_true rfl) ?_
  refine g_ifB_eq (pc := 78) 93 dX11_would_78 (by decide) (fun c_78 => absurd (h6.symm.trans c_78) (by decide)) (fun c_78 => ?_)
  refine g_iload (pc := 81) dX11_would_81 rfl ?_
  refine g_iconst (pc := 83) (v := 0) dX11_would_83 (by decide) ?_
  refine g_sipush (pc := 84) (v := 500) dX11_would_84 (by decide) ?_
  refine g_cS (pc := 87) (M' := mX11_in) (as := [_, _, _]) i_X11_137 eX11_in dX11_would_87 (c_in _ _ _) (by omega) rfl rfl (Nat.le_of_ble_eq_true rfl) ?_
  refine g_ifB_ne (pc := 90) 97 dX11_would_90 (by decide) (fun c_90 => ?_) (fun c_90 => absurd (h7.symm.trans c_90) (by decide))
  refine g_iconst (pc := 97) (v := 0) dX11_would_97 (by decide) ?_
  refine g_iconst (pc := 98) (v := 1) dX11_would_98 (by decide) ?_
  refine g_iconst (pc := 99) (v := 1) dX11_would_99 (by decide) ?_
  refine m_cV (pc := 100) (M' := mX11_bad) (as := [_, _, _]) i_X11_183_11 eX11_bad hI dX11_would_100 (c_badF hI thr0_0 1 1 (by decide)) (by omega) rfl rfl (Nat.le_of_ble_eq_true rfl) (fun h hI fr => ?_)
  replace hF := mFr.tr hF fr
  refine g_ifB_eq (pc := 103) 108 dX11_would_103 (by decide) (fun c_103 => ?_) (fun c_103 => absurd c_103 (by decide))
  refine g_aload_n (pc := 108) dX11_would_108 rfl ?_
  refine g_iload_n (pc := 109) dX11_would_109 rfl ?_
  refine g_iload_n (pc := 110) dX11_would_110 rfl ?_
  refine g_iload_n (pc := 111) dX11_would_111 rfl ?_
  refine g_iload (pc := 112) dX11_would_112 rfl ?_
  refine g_iload (pc := 114) dX11_would_114 rfl ?_
  refine g_iload (pc := 116) dX11_would_116 rfl ?_
  refine g_iload (pc := 118) dX11_would_118 rfl ?_
  refine g_iload (pc := 120) dX11_would_120 rfl ?_
  refine m_cP (pc := 122) (M' := mX11_powerBy) (as := [_, _, _, _, _, _, _, _]) i_X11_281_11 eX11_powerBy hI dX11_would_122 (c_mpowerBy (by omega) hI hl _ _ _ _ _ _ _ _) (by omega) rfl rfl (Nat.le_of_ble_eq_true rfl) ?_
  refine g_ireturn (pc := 125) dX11_would_125 rfl (by first | exact rfl | exact j_nb _) ?_
  exact ⟨rfl, hI, hF⟩
end
