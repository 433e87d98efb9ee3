/-! THE REFERENCE: days ahead. Printed by m_q6.py -/
set_option maxRecDepth 100000
/-- so many days later -/
def itD (nR : Nat) (R : Nat → Int32) : Nat → Nat → Int32
  | 0 => R
  | k + 1 => dayR nR (itD nR R k)
def whenI (lw : (Nat → Int32) → Int32) (D : Nat → Nat → Nat) (nR : Nat) (R : Nat → Int32) (a b : Nat) : Nat → Nat → Int32
  | 0, _ => -1
  | m + 1, k => if ablI lw D nR (itD nR R k) a b = true then nI k else whenI lw D nR R a b m (k + 1)
/-- an answer; the trial row is of no account -/
def mQ32 (am : Nat → Nat) (V : mV) (h : jH) (v : Int32) : jR → jH → Prop := fun r h' => r = .inl (some (vI v)) ∧ (∃ R, InvM am (svR V 32 R) h') ∧ mFr h h'
def hopF (lw : (Nat → Int32) → Int32) (D : Nat → Nat → Nat) (nR : Nat) (R : Nat → Int32) (p : Nat) (b : Int32) : Nat → Int32
  | 0 => b
  | r + 1 => if ablI lw D nR R r p = true then hopF lw D nR R p b r &&& (bitI p ^^^ -1) else hopF lw D nR R p b r &&& hopF lw D nR R p b r
def hopG (lw : (Nat → Int32) → Int32) (D : Nat → Nat → Nat) (nR : Nat) (R : Nat → Int32) (b : Int32) : Nat → Int32
  | 0 => b
  | p + 1 => hopF lw D nR R p (hopG lw D nR R b p) nR
section
variable {E : jE} {d : Nat} {h : jH} {am : Nat → Nat} {V : mV} {D : Nat → Nat → Nat} {nS nR nP k : Nat}
theorem c_copT (hI : InvM am V h) : Ct E d 0 0 mX11_copies [vR (nMa am 31), vR (nMa am 32)] h (mQ am (svR V 32 (V 31)) h none) :=
  ct_mono (fun r h' q => ⟨q.1, by rw [q.2]; exact hI.arrR (k := 32) (n := 45) rfl (by decide), by rw [q.2]; exact mFr.set (by simp)⟩) (c_copies (mA hI 31 45 rfl (by decide)) (mA hI 32 45 rfl (by decide)) (fun e => by simp at e) (by simp))
set_option maxHeartbeats 2000000 in
theorem l_when {bc bs : Nat} {h0 : jH} {R0 : Nat → Int32} (hd : 8 ≤ d) (hT0 : MT V D nS nR nP) (hl0 : okL V) (a b : Nat) (ha : a < nR) (hb : b < nP) : ∀ (m k : Nat) (h : jH), 201 - k = m → k ≤ 201 → InvM am (svR V 32 (itD nR R0 k)) h → mFr h0 h → G E d bc bs mX11_when 50 [some (vR (nMo am)), some (vI (nI a)), some (vI (nI b)), some (vI (nI k))] [] h (mQ32 am V h0 (whenI (mlaw V) D nR R0 a b m k)) := by
  intro m
  induction m with
  | zero =>
    intro k h hm hk hI hF
    have e : k = 201 := by omega
    subst e
    refine g_iload_n (pc := 50) dX11_when_50 rfl ?_
    refine g_sipush (pc := 51) (v := 200) dX11_when_51 (by decide) ?_
    refine g_icmp_gt (pc := 54) 86 dX11_when_54 (by decide) (fun c_54 => ?_) (fun c_54 => absurd (by decide) c_54)
    refine g_iconst (pc := 86) (v := -1) dX11_when_86 (by decide) ?_
    refine g_ireturn (pc := 87) dX11_when_87 rfl (by first | exact rfl | exact j_nb _) ?_
    exact ⟨rfl, ⟨_, hI⟩, hF⟩
  | succ m ih =>
    intro k h hm hk hI hF
    have hT := hT0.row (k := 32) (R := itD nR R0 k) rfl
    have hl := hl0.row (k := 32) (R := itD nR R0 k) rfl
    refine g_iload_n (pc := 50) dX11_when_50 rfl ?_
    refine g_sipush (pc := 51) (v := 200) dX11_when_51 (by decide) ?_
    refine g_icmp_gt (pc := 54) 86 dX11_when_54 (by decide) (fun c_54 => absurd c_54 (by intro w; have := (nI_ltI (a := 200) (b := k) (by decide) (by omega)).mp w; omega)) (fun c_54 => ?_)
    refine g_aload_n (pc := 57) dX11_when_57 rfl ?_
    refine g_aload_n (pc := 58) dX11_when_58 rfl ?_
    refine g_getfield (pc := 59) f_X11_76_11 dX11_when_59 hI.1 mf_32 ?_
    refine g_iload_n (pc := 62) dX11_when_62 rfl ?_
    refine g_iload_n (pc := 63) dX11_when_63 rfl ?_
    refine m_cP (pc := 64) (M' := mX11_isAble) (as := [_, _, _]) i_X11_292_11 eX11_isAble hI dX11_when_64 (c_isAble (by omega) hI hT hl (k := 32) rfl _ _ ha hb) (by omega) rfl rfl (Nat.le_of_ble_eq_true rfl) ?_
    rw [mlaw_row (k := 32) rfl, svR_row]
    refine g_ifB_eq (pc := 67) 72 dX11_when_67 (by decide) (fun c_67 => ?_) (fun c_67 => ?_)
    · refine g_aload_n (pc := 72) dX11_when_72 rfl ?_
      refine g_aload_n (pc := 73) dX11_when_73 rfl ?_
      refine g_getfield (pc := 74) f_X11_76_11 dX11_when_74 hI.1 mf_32 ?_
      refine m_cVv (pc := 77) (M' := mX11_dayEnds) (as := [_]) i_X11_308_11 eX11_dayEnds hI dX11_when_77 (c_dayEnds (by omega) hI hT (k := 32) rfl) (by omega) rfl rfl (Nat.le_of_ble_eq_true rfl) (fun h hI fr => ?_)
      replace hF := mFr.tr hF fr
      refine g_iinc (pc := 80) (ls' := [_, _, _, _]) dX11_when_80 rfl (by first | exact nI_1 _ | exact rfl) (by decide) rfl rfl ?_
      refine g_goto (pc := 83) 50 dX11_when_83 (by decide) ?_
      rw [svR_svR, svR_row] at hI
      have e : whenI (mlaw V) D nR R0 a b (m + 1) k = whenI (mlaw V) D nR R0 a b m (k + 1) := by
        show (if _ then _ else _) = _
        rw [if_neg (by rw [c_67]; decide)]
      rw [e]
      exact ih (k + 1) h (by omega) (by omega) hI hF
    · refine g_iload_n (pc := 70) dX11_when_70 rfl ?_
      refine g_ireturn (pc := 71) dX11_when_71 rfl (by first | exact rfl | exact j_nb _) ?_
      refine ⟨?_, ⟨_, hI⟩, hF⟩
      unfold whenI
      rw [if_pos c_67]
theorem r1_mwhen (hd : 2 ≤ d) (hI : InvM am V h) (hT : MT V D nS nR nP) (s w : Int32) (hv : (inR s 0 (nI nR - 1) && inR w 0 (nI nP - 1)) = false) : Ct E d 0 0 mX11_when [vR (nMo am), vI s, vI w] h (mQ am (refV V 1 0) h (some (vI 0))) := by
  refine ct_of (by decide) (Nat.le_of_ble_eq_true rfl) rfl ?_
  have hF : mFr h h := mFr.rf
  have hT := MT.f0 (j := 0) (y := 0) hT
  change MT (thr0 V) D nS nR nP at hT
  have b8 := hT.2.2.2.1
  have b10 := hT.2.2.2.2.1
  have bP := hT.2.2.2.2.2.1
  refine g_aload_n (pc := 0) dX11_when_0 rfl ?_
  refine g_iconst (pc := 1) (v := 0) dX11_when_1 (by decide) ?_
  refine m_put (pc := 2) hI w_X11_103_11 rfl (by decide) dX11_when_2 (fun h hI fr => ?_)
  replace hF := mFr.tr hF fr
  change InvM am (thr0 V) h at hI
  refine g_aload_n (pc := 5) dX11_when_5 rfl ?_
  refine g_aload_n (pc := 6) dX11_when_6 rfl ?_
  refine g_iload_n (pc := 7) dX11_when_7 rfl ?_
  refine m_cP (pc := 8) (M' := mX11_isRelic) (as := [_]) i_X11_339_11 eX11_isRelic hI dX11_when_8 (c_isRelic hI hT (by omega) _) (by omega) rfl rfl (Nat.le_of_ble_eq_true rfl) ?_
  refine g_ifB_eq (pc := 11) 22 dX11_when_11 (by decide) (fun c_11 => ?_) (fun c_11 => ?_)
  · refine g_iconst (pc := 22) (v := 1) dX11_when_22 (by decide) ?_
    refine g_goto (pc := 23) 27 dX11_when_23 (by decide) ?_
    refine g_iconst (pc := 27) (v := 1) dX11_when_27 (by decide) ?_
    refine g_iconst (pc := 28) (v := 0) dX11_when_28 (by decide) ?_
    refine m_cV (pc := 29) (M' := mX11_bad) (as := [_, _, _]) i_X11_183_11 eX11_bad hI dX11_when_29 (c_badT hI thr0_0 1 (by decide) 0 (by decide)) (by omega) rfl rfl (Nat.le_of_ble_eq_true rfl) (fun h hI fr => ?_)
    replace hF := mFr.tr hF fr
    refine g_ifB_eq (pc := 32) 37 dX11_when_32 (by decide) (fun c_32 => absurd c_32 (by decide)) (fun c_32 => ?_)
    refine g_iconst (pc := 35) (v := 0) dX11_when_35 (by decide) ?_
    refine g_ireturn (pc := 36) dX11_when_36 rfl (by first | exact rfl | exact j_nb _) ?_
    rw [refV_thr0] at hI
    exact ⟨rfl, hI, hF⟩
  · refine g_aload_n (pc := 14) dX11_when_14 rfl ?_
    refine g_iload_n (pc := 15) dX11_when_15 rfl ?_
    refine m_cP (pc := 16) (M' := mX11_isPerson) (as := [_]) i_X11_342_11 eX11_isPerson hI dX11_when_16 (c_isPerson hI hT (by omega) _) (by omega) rfl rfl (Nat.le_of_ble_eq_true rfl) ?_
    refine g_ifB_ne (pc := 19) 26 dX11_when_19 (by decide) (fun c_19 => ?_) (fun c_19 => ?_)
    · exfalso
      rw [c_11, c_19] at hv
      cases hv
    · refine g_iconst (pc := 22) (v := 1) dX11_when_22 (by decide) ?_
      refine g_goto (pc := 23) 27 dX11_when_23 (by decide) ?_
      refine g_iconst (pc := 27) (v := 1) dX11_when_27 (by decide) ?_
      refine g_iconst (pc := 28) (v := 0) dX11_when_28 (by decide) ?_
      refine m_cV (pc := 29) (M' := mX11_bad) (as := [_, _, _]) i_X11_183_11 eX11_bad hI dX11_when_29 (c_badT hI thr0_0 1 (by decide) 0 (by decide)) (by omega) rfl rfl (Nat.le_of_ble_eq_true rfl) (fun h hI fr => ?_)
      replace hF := mFr.tr hF fr
      refine g_ifB_eq (pc := 32) 37 dX11_when_32 (by decide) (fun c_32 => absurd c_32 (by decide)) (fun c_32 => ?_)
      refine g_iconst (pc := 35) (v := 0) dX11_when_35 (by decide) ?_
      refine g_ireturn (pc := 36) dX11_when_36 rfl (by first | exact rfl | exact j_nb _) ?_
      rw [refV_thr0] at hI
      exact ⟨rfl, hI, hF⟩
set_option maxHeartbeats 1000000 in
theorem c_mwhen (hd : 9 ≤ d) (hI : InvM am V h) (hT : MT V D nS nR nP) (hl : okL V) (a b : Nat) (ha : a < nR) (hb : b < nP) : Ct E d 0 0 mX11_when [vR (nMo am), vI (nI a), vI (nI b)] h (mQ32 am (thr0 V) h (whenI (mlaw V) D nR (V 31) a b 201 0)) := by
  refine ct_of (by decide) (Nat.le_of_ble_eq_true rfl) rfl ?_
  have hF : mFr h h := mFr.rf
  have hT := MT.f0 (j := 0) (y := 0) hT
  change MT (thr0 V) D nS nR nP at hT
  have b8 := hT.2.2.2.1
  have b10 := hT.2.2.2.2.1
  have bP := hT.2.2.2.2.2.1
  have hl := okL.f0 (j := 0) (y := 0) hl (by decide)
  change okL (thr0 V) at hl
  have hu := in_of ha (show nR ≤ 1000 by omega)
  have hv := in_of hb (show nP ≤ 1000 by omega)
  refine g_aload_n (pc := 0) dX11_when_0 rfl ?_
  refine g_iconst (pc := 1) (v := 0) dX11_when_1 (by decide) ?_
  refine m_put (pc := 2) hI w_X11_103_11 rfl (by decide) dX11_when_2 (fun h hI fr => ?_)
  replace hF := mFr.tr hF fr
  change InvM am (thr0 V) h at hI
  refine g_aload_n (pc := 5) dX11_when_5 rfl ?_
  refine g_aload_n (pc := 6) dX11_when_6 rfl ?_
  refine g_iload_n (pc := 7) dX11_when_7 rfl ?_
  refine m_cP (pc := 8) (M' := mX11_isRelic) (as := [_]) i_X11_339_11 eX11_isRelic hI dX11_when_8 (c_isRelic hI hT (by omega) _) (by omega) rfl rfl (Nat.le_of_ble_eq_true rfl) ?_
  refine g_ifB_eq (pc := 11) 22 dX11_when_11 (by decide) (fun c_11 => absurd (hu.symm.trans c_11) (by decide)) (fun c_11 => ?_)
  refine g_aload_n (pc := 14) dX11_when_14 rfl ?_
  refine g_iload_n (pc := 15) dX11_when_15 rfl ?_
  refine m_cP (pc := 16) (M' := mX11_isPerson) (as := [_]) i_X11_342_11 eX11_isPerson hI dX11_when_16 (c_isPerson hI hT (by omega) _) (by omega) rfl rfl (Nat.le_of_ble_eq_true rfl) ?_
  refine g_ifB_ne (pc := 19) 26 dX11_when_19 (by decide) (fun c_19 => ?_) (fun c_19 => absurd (hv.symm.trans c_19) (by decide))
  refine g_iconst (pc := 26) (v := 0) dX11_when_26 (by decide) ?_
  refine g_iconst (pc := 27) (v := 1) dX11_when_27 (by decide) ?_
  refine g_iconst (pc := 28) (v := 0) dX11_when_28 (by decide) ?_
  refine m_cV (pc := 29) (M' := mX11_bad) (as := [_, _, _]) i_X11_183_11 eX11_bad hI dX11_when_29 (c_badF hI thr0_0 1 0 (by decide)) (by omega) rfl rfl (Nat.le_of_ble_eq_true rfl) (fun h hI fr => ?_)
  replace hF := mFr.tr hF fr
  refine g_ifB_eq (pc := 32) 37 dX11_when_32 (by decide) (fun c_32 => ?_) (fun c_32 => absurd c_32 (by decide))
  refine g_aload_n (pc := 37) dX11_when_37 rfl ?_
  refine g_getfield (pc := 38) f_X11_73_11 dX11_when_38 hI.1 mf_31 ?_
  refine g_aload_n (pc := 41) dX11_when_41 rfl ?_
  refine g_getfield (pc := 42) f_X11_76_11 dX11_when_42 hI.1 mf_32 ?_
  refine m_cSv (pc := 45) (M' := mX11_copies) (as := [_, _]) i_X11_325 eX11_copies dX11_when_45 (c_copT hI) (by omega) rfl rfl (Nat.le_of_ble_eq_true rfl) (fun h hI fr => ?_)
  replace hF := mFr.tr hF fr
  refine g_iconst (pc := 48) (v := 0) dX11_when_48 (by decide) ?_
  refine g_istore_n (pc := 49) (ls' := [_, _, _, _]) dX11_when_49 (by decide) rfl rfl ?_
  have q := l_when (E := E) (d := d) (bc := 0) (bs := 0) (R0 := thr0 V 31) (by omega) hT hl a b ha hb 201 0 h rfl (by decide) hI hF
  rw [thr0_law, thr0_now] at q
  exact q
set_option maxHeartbeats 2000000 in
theorem l_ahead {bc bs : Nat} {h0 : jH} {R0 : Nat → Int32} {Q : jR → jH → Prop} (hd : 3 ≤ d) (hT0 : MT V D nS nR nP) (n : Nat) (hn : n ≤ 99) (a w : Int32) (kk : ∀ h, InvM am (svR V 32 (itD nR R0 n)) h → mFr h0 h → G E d bc bs mX11_ahead 118 [some (vR (nMo am)), some (vI a), some (vI (nI n)), some (vI w), some (vI (nI n))] [] h Q) : ∀ (m k : Nat) (h : jH), n - k = m → k ≤ n → InvM am (svR V 32 (itD nR R0 k)) h → mFr h0 h → G E d bc bs mX11_ahead 98 [some (vR (nMo am)), some (vI a), some (vI (nI n)), some (vI w), some (vI (nI k))] [] h Q := by
  intro m
  induction m with
  | zero =>
    intro k h hm hk hI hF
    have e : k = n := by omega
    subst e
    refine g_iload (pc := 98) dX11_ahead_98 rfl ?_
    refine g_iload_n (pc := 100) dX11_ahead_100 rfl ?_
    refine g_icmp_ge (pc := 101) 118 dX11_ahead_101 (by decide) (fun c_101 => ?_) (fun c_101 => absurd (nI_le (Nat.le_refl _) (by omega)) c_101)
    exact kk h hI hF
  | succ m ih =>
    intro k h hm hk hI hF
    have hT := hT0.row (k := 32) (R := itD nR R0 k) rfl
    refine g_iload (pc := 98) dX11_ahead_98 rfl ?_
    refine g_iload_n (pc := 100) dX11_ahead_100 rfl ?_
    refine g_icmp_ge (pc := 101) 118 dX11_ahead_101 (by decide) (fun c_101 => absurd c_101 (by intro w; have := (nI_leI (by omega) (by omega)).mp w; omega)) (fun c_101 => ?_)
    refine g_aload_n (pc := 104) dX11_ahead_104 rfl ?_
    refine g_aload_n (pc := 105) dX11_ahead_105 rfl ?_
    refine g_getfield (pc := 106) f_X11_76_11 dX11_ahead_106 hI.1 mf_32 ?_
    refine m_cVv (pc := 109) (M' := mX11_dayEnds) (as := [_]) i_X11_308_11 eX11_dayEnds hI dX11_ahead_109 (c_dayEnds (by omega) hI hT (k := 32) rfl) (by omega) rfl rfl (Nat.le_of_ble_eq_true rfl) (fun h hI fr => ?_)
    replace hF := mFr.tr hF fr
    refine g_iinc (pc := 112) (ls' := [_, _, _, _, _]) dX11_ahead_112 rfl (by first | exact nI_1 _ | exact rfl) (by decide) rfl rfl ?_
    refine g_goto (pc := 115) 98 dX11_ahead_115 (by decide) ?_
    rw [svR_svR, svR_row] at hI
    exact ih (k + 1) h (by omega) (by omega) hI hF
set_option maxHeartbeats 2000000 in
theorem l_hope {bc bs : Nat} {h0 : jH} {R0 : Nat → Int32} {Q : jR → jH → Prop} (hd : 3 ≤ d) (hT0 : MT V D nS nR nP) (n : Nat) (hn : n ≤ 99) (a w : Int32) (kk : ∀ h, InvM am (svR V 32 (itD nR R0 n)) h → mFr h0 h → G E d bc bs mX11_hopeless 63 [some (vR (nMo am)), some (vI (nI n)), some (vI (nI n)), none, none] [] h Q) : ∀ (m k : Nat) (h : jH), n - k = m → k ≤ n → InvM am (svR V 32 (itD nR R0 k)) h → mFr h0 h → G E d bc bs mX11_hopeless 44 [some (vR (nMo am)), some (vI (nI n)), some (vI (nI k)), none, none] [] h Q := by
  intro m
  induction m with
  | zero =>
    intro k h hm hk hI hF
    have e : k = n := by omega
    subst e
    refine g_iload_n (pc := 44) dX11_hopeless_44 rfl ?_
    refine g_iload_n (pc := 45) dX11_hopeless_45 rfl ?_
    refine g_icmp_ge (pc := 46) 63 dX11_hopeless_46 (by decide) (fun c_46 => ?_) (fun c_46 => absurd (nI_le (Nat.le_refl _) (by omega)) c_46)
    exact kk h hI hF
  | succ m ih =>
    intro k h hm hk hI hF
    have hT := hT0.row (k := 32) (R := itD nR R0 k) rfl
    refine g_iload_n (pc := 44) dX11_hopeless_44 rfl ?_
    refine g_iload_n (pc := 45) dX11_hopeless_45 rfl ?_
    refine g_icmp_ge (pc := 46) 63 dX11_hopeless_46 (by decide) (fun c_46 => absurd c_46 (by intro w; have := (nI_leI (by omega) (by omega)).mp w; omega)) (fun c_46 => ?_)
    refine g_aload_n (pc := 49) dX11_hopeless_49 rfl ?_
    refine g_aload_n (pc := 50) dX11_hopeless_50 rfl ?_
    refine g_getfield (pc := 51) f_X11_76_11 dX11_hopeless_51 hI.1 mf_32 ?_
    refine m_cVv (pc := 54) (M' := mX11_dayEnds) (as := [_]) i_X11_308_11 eX11_dayEnds hI dX11_hopeless_54 (c_dayEnds (by omega) hI hT (k := 32) rfl) (by omega) rfl rfl (Nat.le_of_ble_eq_true rfl) (fun h hI fr => ?_)
    replace hF := mFr.tr hF fr
    refine g_iinc (pc := 57) (ls' := [_, _, _, _, _]) dX11_hopeless_57 rfl (by first | exact nI_1 _ | exact rfl) (by decide) rfl rfl ?_
    refine g_goto (pc := 60) 44 dX11_hopeless_60 (by decide) ?_
    rw [svR_svR, svR_row] at hI
    exact ih (k + 1) h (by omega) (by omega) hI hF
theorem r1_mahead (hd : 2 ≤ d) (hI : InvM am V h) (hT : MT V D nS nR nP) (s n w : Int32) (hv : inR s 0 (nI nR - 1) = false) : Ct E d 0 0 mX11_ahead [vR (nMo am), vI s, vI n, vI w] h (mQ am (refV V 1 0) h (some (vI 0))) := by
  refine ct_of (by decide) (Nat.le_of_ble_eq_true rfl) rfl ?_
  have hF : mFr h h := mFr.rf
  have hT := MT.f0 (j := 0) (y := 0) hT
  change MT (thr0 V) D nS nR nP at hT
  have b8 := hT.2.2.2.1
  have b10 := hT.2.2.2.2.1
  have bP := hT.2.2.2.2.2.1
  refine g_aload_n (pc := 0) dX11_ahead_0 rfl ?_
  refine g_iconst (pc := 1) (v := 0) dX11_ahead_1 (by decide) ?_
  refine m_put (pc := 2) hI w_X11_103_11 rfl (by decide) dX11_ahead_2 (fun h hI fr => ?_)
  replace hF := mFr.tr hF fr
  change InvM am (thr0 V) h at hI
  refine g_aload_n (pc := 5) dX11_ahead_5 rfl ?_
  refine g_aload_n (pc := 6) dX11_ahead_6 rfl ?_
  refine g_iload_n (pc := 7) dX11_ahead_7 rfl ?_
  refine m_cP (pc := 8) (M' := mX11_isRelic) (as := [_]) i_X11_339_11 eX11_isRelic hI dX11_ahead_8 (c_isRelic hI hT (by omega) _) (by omega) rfl rfl (Nat.le_of_ble_eq_true rfl) ?_
  refine g_ifB_ne (pc := 11) 18 dX11_ahead_11 (by decide) (fun c_11 => absurd (c_11.symm.trans hv) (by decide)) (fun c_11 => ?_)
  refine g_iconst (pc := 14) (v := 1) dX11_ahead_14 (by decide) ?_
  refine g_goto (pc := 15) 19 dX11_ahead_15 (by decide) ?_
  refine g_iconst (pc := 19) (v := 1) dX11_ahead_19 (by decide) ?_
  refine g_iconst (pc := 20) (v := 0) dX11_ahead_20 (by decide) ?_
  refine m_cV (pc := 21) (M' := mX11_bad) (as := [_, _, _]) i_X11_183_11 eX11_bad hI dX11_ahead_21 (c_badT hI thr0_0 1 (by decide) 0 (by decide)) (by omega) rfl rfl (Nat.le_of_ble_eq_true rfl) (fun h hI fr => ?_)
  replace hF := mFr.tr hF fr
  refine g_ifB_ne (pc := 24) 60 dX11_ahead_24 (by decide) (fun c_24 => ?_) (fun c_24 => absurd c_24 (by decide))
  refine g_iconst (pc := 60) (v := 0) dX11_ahead_60 (by decide) ?_
  refine g_ireturn (pc := 61) dX11_ahead_61 rfl (by first | exact rfl | exact j_nb _) ?_
  rw [refV_thr0] at hI
  exact ⟨rfl, hI, hF⟩
theorem r2_mahead (hd : 2 ≤ d) (hI : InvM am V h) (hT : MT V D nS nR nP) (s n w : Int32) (hu : inR s 0 (nI nR - 1) = true) (hv : (inR n 0 99 && inR w 0 1) = false) : Ct E d 0 0 mX11_ahead [vR (nMo am), vI s, vI n, vI w] h (mQ am (refV V 2 1) h (some (vI 0))) := by
  refine ct_of (by decide) (Nat.le_of_ble_eq_true rfl) rfl ?_
  have hF : mFr h h := mFr.rf
  have hT := MT.f0 (j := 0) (y := 0) hT
  change MT (thr0 V) D nS nR nP at hT
  have b8 := hT.2.2.2.1
  have b10 := hT.2.2.2.2.1
  have bP := hT.2.2.2.2.2.1
  refine g_aload_n (pc := 0) dX11_ahead_0 rfl ?_
  refine g_iconst (pc := 1) (v := 0) dX11_ahead_1 (by decide) ?_
  refine m_put (pc := 2) hI w_X11_103_11 rfl (by decide) dX11_ahead_2 (fun h hI fr => ?_)
  replace hF := mFr.tr hF fr
  change InvM am (thr0 V) h at hI
  refine g_aload_n (pc := 5) dX11_ahead_5 rfl ?_
  refine g_aload_n (pc := 6) dX11_ahead_6 rfl ?_
  refine g_iload_n (pc := 7) dX11_ahead_7 rfl ?_
  refine m_cP (pc := 8) (M' := mX11_isRelic) (as := [_]) i_X11_339_11 eX11_isRelic hI dX11_ahead_8 (c_isRelic hI hT (by omega) _) (by omega) rfl rfl (Nat.le_of_ble_eq_true rfl) ?_
  refine g_ifB_ne (pc := 11) 18 dX11_ahead_11 (by decide) (fun c_11 => ?_) (fun c_11 => absurd (hu.symm.trans c_11) (by decide))
  refine g_iconst (pc := 18) (v := 0) dX11_ahead_18 (by decide) ?_
  refine g_iconst (pc := 19) (v := 1) dX11_ahead_19 (by decide) ?_
  refine g_iconst (pc := 20) (v := 0) dX11_ahead_20 (by decide) ?_
  refine m_cV (pc := 21) (M' := mX11_bad) (as := [_, _, _]) i_X11_183_11 eX11_bad hI dX11_ahead_21 (c_badF hI thr0_0 1 0 (by decide)) (by omega) rfl rfl (Nat.le_of_ble_eq_true rfl) (fun h hI fr => ?_)
  replace hF := mFr.tr hF fr
  refine g_ifB_ne (pc := 24) 60 dX11_ahead_24 (by decide) (fun c_24 => absurd c_24 (by decide)) (fun c_24 => ?_)
  refine g_aload_n (pc := 27) dX11_ahead_27 rfl ?_
  refine g_iload_n (pc := 28) dX11_ahead_28 rfl ?_
  refine g_iconst (pc := 29) (v := 0) dX11_ahead_29 (by decide) ?_
  refine g_bipush (pc := 30) (v := 99) dX11_ahead_30 (by decide) ?_
  refine g_cS (pc := 32) (M' := mX11_in) (as := [_, _, _]) i_X11_137 eX11_in dX11_ahead_32 (c_in _ _ _) (by omega) rfl rfl (Nat.le_of_ble_eq_true rfl) ?_
  refine g_ifB_eq (pc := 35) 47 dX11_ahead_35 (by decide) (fun c_35 => ?_) (fun c_35 => ?_)
  · refine g_iconst (pc := 47) (v := 1) dX11_ahead_47 (by decide) ?_
    refine g_goto (pc := 48) 52 dX11_ahead_48 (by decide) ?_
    refine g_iconst (pc := 52) (v := 2) dX11_ahead_52 (by decide) ?_
    refine g_iconst (pc := 53) (v := 1) dX11_ahead_53 (by decide) ?_
    refine m_cV (pc := 54) (M' := mX11_bad) (as := [_, _, _]) i_X11_183_11 eX11_bad hI dX11_ahead_54 (c_badT hI thr0_0 2 (by decide) 1 (by decide)) (by omega) rfl rfl (Nat.le_of_ble_eq_true rfl) (fun h hI fr => ?_)
    replace hF := mFr.tr hF fr
    refine g_ifB_eq (pc := 57) 62 dX11_ahead_57 (by decide) (fun c_57 => absurd c_57 (by decide)) (fun c_57 => ?_)
    refine g_iconst (pc := 60) (v := 0) dX11_ahead_60 (by decide) ?_
    refine g_ireturn (pc := 61) dX11_ahead_61 rfl (by first | exact rfl | exact j_nb _) ?_
    rw [refV_thr0] at hI
    exact ⟨rfl, hI, hF⟩
  · refine g_iload_n (pc := 38) dX11_ahead_38 rfl ?_
    refine g_iconst (pc := 39) (v := 0) dX11_ahead_39 (by decide) ?_
    refine g_iconst (pc := 40) (v := 1) dX11_ahead_40 (by decide) ?_
    refine g_cS (pc := 41) (M' := mX11_in) (as := [_, _, _]) i_X11_137 eX11_in dX11_ahead_41 (c_in _ _ _) (by omega) rfl rfl (Nat.le_of_ble_eq_true rfl) ?_
    refine g_ifB_ne (pc := 44) 51 dX11_ahead_44 (by decide) (fun c_44 => ?_) (fun c_44 => ?_)
    · exfalso
      rw [c_35, c_44] at hv
      cases hv
    · refine g_iconst (pc := 47) (v := 1) dX11_ahead_47 (by decide) ?_
      refine g_goto (pc := 48) 52 dX11_ahead_48 (by decide) ?_
      refine g_iconst (pc := 52) (v := 2) dX11_ahead_52 (by decide) ?_
      refine g_iconst (pc := 53) (v := 1) dX11_ahead_53 (by decide) ?_
      refine m_cV (pc := 54) (M' := mX11_bad) (as := [_, _, _]) i_X11_183_11 eX11_bad hI dX11_ahead_54 (c_badT hI thr0_0 2 (by decide) 1 (by decide)) (by omega) rfl rfl (Nat.le_of_ble_eq_true rfl) (fun h hI fr => ?_)
      replace hF := mFr.tr hF fr
      refine g_ifB_eq (pc := 57) 62 dX11_ahead_57 (by decide) (fun c_57 => absurd c_57 (by decide)) (fun c_57 => ?_)
      refine g_iconst (pc := 60) (v := 0) dX11_ahead_60 (by decide) ?_
      refine g_ireturn (pc := 61) dX11_ahead_61 rfl (by first | exact rfl | exact j_nb _) ?_
      rw [refV_thr0] at hI
      exact ⟨rfl, hI, hF⟩
def ahdR (D : Nat → Nat → Nat) (nR : Nat) (R : Nat → Int32) (a x : Nat) : Nat → Int32 := if x = 1 ∧ clI D nR R (D 0 a) = true then lapR D nR R (D 0 a) else R
set_option maxHeartbeats 4000000 in
theorem c_mahead (hd : 8 ≤ d) (hI : InvM am V h) (hT : MT V D nS nR nP) (hl : okL V) (hrv : RV (V 31) (2 ^ 30)) (a n x : Nat) (ha : a < nR) (hn : n ≤ 99) (hx : x ≤ 1) : Ct E d 0 0 mX11_ahead [vR (nMo am), vI (nI a), vI (nI n), vI (nI x)] h (mQ32 am (thr0 V) h (pwr (mlaw V) D nR (itD nR (ahdR D nR (V 31) a x) n) a)) := by
  refine ct_of (by decide) (Nat.le_of_ble_eq_true rfl) rfl ?_
  have hF : mFr h h := mFr.rf
  have hT := MT.f0 (j := 0) (y := 0) hT
  change MT (thr0 V) D nS nR nP at hT
  have b8 := hT.2.2.2.1
  have b10 := hT.2.2.2.2.1
  have bP := hT.2.2.2.2.2.1
  have hl := okL.f0 (j := 0) (y := 0) hl (by decide)
  change okL (thr0 V) at hl
  have hu := in_of ha (show nR ≤ 1000 by omega)
  have hv : inR (nI n) 0 99 = true := inC_of (n := 99) hn (by decide)
  have hv2 : inR (nI x) 0 1 = true := inC_of (n := 1) hx (by decide)
  have hrr := hT.2.2.2.2.2.2.1 a ha
  refine g_aload_n (pc := 0) dX11_ahead_0 rfl ?_
  refine g_iconst (pc := 1) (v := 0) dX11_ahead_1 (by decide) ?_
  refine m_put (pc := 2) hI w_X11_103_11 rfl (by decide) dX11_ahead_2 (fun h hI fr => ?_)
  replace hF := mFr.tr hF fr
  change InvM am (thr0 V) h at hI
  refine g_aload_n (pc := 5) dX11_ahead_5 rfl ?_
  refine g_aload_n (pc := 6) dX11_ahead_6 rfl ?_
  refine g_iload_n (pc := 7) dX11_ahead_7 rfl ?_
  refine m_cP (pc := 8) (M' := mX11_isRelic) (as := [_]) i_X11_339_11 eX11_isRelic hI dX11_ahead_8 (c_isRelic hI hT (by omega) _) (by omega) rfl rfl (Nat.le_of_ble_eq_true rfl) ?_
  refine g_ifB_ne (pc := 11) 18 dX11_ahead_11 (by decide) (fun c_11 => ?_) (fun c_11 => absurd (hu.symm.trans c_11) (by decide))
  refine g_iconst (pc := 18) (v := 0) dX11_ahead_18 (by decide) ?_
  refine g_iconst (pc := 19) (v := 1) dX11_ahead_19 (by decide) ?_
  refine g_iconst (pc := 20) (v := 0) dX11_ahead_20 (by decide) ?_
  refine m_cV (pc := 21) (M' := mX11_bad) (as := [_, _, _]) i_X11_183_11 eX11_bad hI dX11_ahead_21 (c_badF hI thr0_0 1 0 (by decide)) (by omega) rfl rfl (Nat.le_of_ble_eq_true rfl) (fun h hI fr => ?_)
  replace hF := mFr.tr hF fr
  refine g_ifB_ne (pc := 24) 60 dX11_ahead_24 (by decide) (fun c_24 => absurd c_24 (by decide)) (fun c_24 => ?_)
  refine g_aload_n (pc := 27) dX11_ahead_27 rfl ?_
  refine g_iload_n (pc := 28) dX11_ahead_28 rfl ?_
  refine g_iconst (pc := 29) (v := 0) dX11_ahead_29 (by decide) ?_
  refine g_bipush (pc := 30) (v := 99) dX11_ahead_30 (by decide) ?_
  refine g_cS (pc := 32) (M' := mX11_in) (as := [_, _, _]) i_X11_137 eX11_in dX11_ahead_32 (c_in _ _ _) (by omega) rfl rfl (Nat.le_of_ble_eq_true rfl) ?_
  refine g_ifB_eq (pc := 35) 47 dX11_ahead_35 (by decide) (fun c_35 => absurd (hv.symm.trans c_35) (by decide)) (fun c_35 => ?_)
  refine g_iload_n (pc := 38) dX11_ahead_38 rfl ?_
  refine g_iconst (pc := 39) (v := 0) dX11_ahead_39 (by decide) ?_
  refine g_iconst (pc := 40) (v := 1) dX11_ahead_40 (by decide) ?_
  refine g_cS (pc := 41) (M' := mX11_in) (as := [_, _, _]) i_X11_137 eX11_in dX11_ahead_41 (c_in _ _ _) (by omega) rfl rfl (Nat.le_of_ble_eq_true rfl) ?_
  refine g_ifB_ne (pc := 44) 51 dX11_ahead_44 (by decide) (fun c_44 => ?_) (fun c_44 => absurd (hv2.symm.trans c_44) (by decide))
  refine g_iconst (pc := 51) (v := 0) dX11_ahead_51 (by decide) ?_
  refine g_iconst (pc := 52) (v := 2) dX11_ahead_52 (by decide) ?_
  refine g_iconst (pc := 53) (v := 1) dX11_ahead_53 (by decide) ?_
  refine m_cV (pc := 54) (M' := mX11_bad) (as := [_, _, _]) i_X11_183_11 eX11_bad hI dX11_ahead_54 (c_badF hI thr0_0 2 1 (by decide)) (by omega) rfl rfl (Nat.le_of_ble_eq_true rfl) (fun h hI fr => ?_)
  replace hF := mFr.tr hF fr
  refine g_ifB_eq (pc := 57) 62 dX11_ahead_57 (by decide) (fun c_57 => ?_) (fun c_57 => absurd c_57 (by decide))
  refine g_aload_n (pc := 62) dX11_ahead_62 rfl ?_
  refine g_getfield (pc := 63) f_X11_73_11 dX11_ahead_63 hI.1 mf_31 ?_
  refine g_aload_n (pc := 66) dX11_ahead_66 rfl ?_
  refine g_getfield (pc := 67) f_X11_76_11 dX11_ahead_67 hI.1 mf_32 ?_
  refine m_cSv (pc := 70) (M' := mX11_copies) (as := [_, _]) i_X11_325 eX11_copies dX11_ahead_70 (c_copT hI) (by omega) rfl rfl (Nat.le_of_ble_eq_true rfl) (fun h hI fr => ?_)
  replace hF := mFr.tr hF fr
  have hxx : x = 0 ∨ x = 1 := by omega
  rcases hxx with rfl | rfl
  · refine g_iload_n (pc := 73) dX11_ahead_73 rfl ?_
    refine g_iconst (pc := 74) (v := 1) dX11_ahead_74 (by decide) ?_
    refine g_icmp_ne (pc := 75) 95 dX11_ahead_75 (by decide) (fun c_75 => ?_) (fun c_75 => absurd c_75 (by decide))
    refine g_iconst (pc := 95) (v := 0) dX11_ahead_95 (by decide) ?_
    refine g_istore (pc := 96) (ls' := [_, _, _, _, _]) dX11_ahead_96 (by decide) rfl rfl ?_
    have hI : InvM am (svR (thr0 V) 32 (itD nR (ahdR D nR (thr0 V 31) a 0) 0)) h := by
      unfold ahdR
      rw [if_neg (by simp)]
      exact hI
    refine l_ahead (by omega) hT n hn _ _ (fun h hI hF => ?_) n 0 h rfl (Nat.zero_le _) hI hF
    have hT := hT.row (k := 32) (R := itD nR (ahdR D nR (thr0 V 31) a 0) n) rfl
    have hl := hl.row (k := 32) (R := itD nR (ahdR D nR (thr0 V 31) a 0) n) rfl
    refine g_aload_n (pc := 118) dX11_ahead_118 rfl ?_
    refine g_aload_n (pc := 119) dX11_ahead_119 rfl ?_
    refine g_getfield (pc := 120) f_X11_76_11 dX11_ahead_120 hI.1 mf_32 ?_
    refine g_iload_n (pc := 123) dX11_ahead_123 rfl ?_
    refine m_cP (pc := 124) (M' := mX11_power) (as := [_, _]) i_X11_289_11 eX11_power hI dX11_ahead_124 (c_power (by omega) hI hT hl (k := 32) rfl a ha) (by omega) rfl rfl (Nat.le_of_ble_eq_true rfl) ?_
    refine g_ireturn (pc := 127) dX11_ahead_127 rfl (by first | exact rfl | exact j_nb _) ?_
    refine ⟨?_, ⟨_, hI⟩, hF⟩
    rw [mlaw_row (k := 32) rfl, svR_row, thr0_law, thr0_now]
  · have hT1 := hT.row (k := 32) (R := thr0 V 31) rfl
    refine g_iload_n (pc := 73) dX11_ahead_73 rfl ?_
    refine g_iconst (pc := 74) (v := 1) dX11_ahead_74 (by decide) ?_
    refine g_icmp_ne (pc := 75) 95 dX11_ahead_75 (by decide) (fun c_75 => absurd rfl c_75) (fun c_75 => ?_)
    refine g_aload_n (pc := 78) dX11_ahead_78 rfl ?_
    refine g_aload_n (pc := 79) dX11_ahead_79 rfl ?_
    refine g_getfield (pc := 80) f_X11_76_11 dX11_ahead_80 hI.1 mf_32 ?_
    refine g_aload_n (pc := 83) dX11_ahead_83 rfl ?_
    refine g_getfield (pc := 84) f_X11_43_11 dX11_ahead_84 hI.1 mf_18 ?_
    refine g_iload_n (pc := 87) dX11_ahead_87 rfl ?_
    refine g_aaload (pc := 88) (t := 5) rfl rfl dX11_ahead_88 (mG hI 18 10 rfl (by decide)) rfl (by omega) (by decide) rfl ?_
    refine g_iconst (pc := 89) (v := 0) dX11_ahead_89 (by decide) ?_
    refine g_iaload (pc := 90) dX11_ahead_90 (mR hI 18 3 _ rfl (by show _ < 10; omega)) (j := 0) (by decide) (by omega) (by decide) rfl ?_
    rw [svR_ne (by omega), hrr.1]
    refine m_cV (pc := 91) (M' := mX11_lapses) (as := [_, _]) i_X11_302_11 eX11_lapses hI dX11_ahead_91 (c_lapses (by omega) hI hT1 (k := 32) rfl (D 0 a) (by omega) (by rw [svR_row, thr0_now]; exact hrv)) (by omega) rfl rfl (Nat.le_of_ble_eq_true rfl) (fun h hI fr => ?_)
    replace hF := mFr.tr hF fr
    refine g_pop (pc := 94) dX11_ahead_94 rfl ?_
    refine g_iconst (pc := 95) (v := 0) dX11_ahead_95 (by decide) ?_
    refine g_istore (pc := 96) (ls' := [_, _, _, _, _]) dX11_ahead_96 (by decide) rfl rfl ?_
    have hI : InvM am (svR (thr0 V) 32 (itD nR (ahdR D nR (thr0 V 31) a 1) 0)) h := by
      rw [svR_row] at hI
      show InvM am (svR (thr0 V) 32 (if _ then _ else _)) h
      by_cases q : clI D nR (thr0 V 31) (D 0 a) = true
      · rw [if_pos q, svR_svR] at hI
        rw [if_pos ⟨rfl, q⟩]
        exact hI
      · rw [if_neg q] at hI
        rw [if_neg (fun w => q w.2)]
        exact hI
    refine l_ahead (by omega) hT n hn _ _ (fun h hI hF => ?_) n 0 h rfl (Nat.zero_le _) hI hF
    have hT := hT.row (k := 32) (R := itD nR (ahdR D nR (thr0 V 31) a 1) n) rfl
    have hl := hl.row (k := 32) (R := itD nR (ahdR D nR (thr0 V 31) a 1) n) rfl
    refine g_aload_n (pc := 118) dX11_ahead_118 rfl ?_
    refine g_aload_n (pc := 119) dX11_ahead_119 rfl ?_
    refine g_getfield (pc := 120) f_X11_76_11 dX11_ahead_120 hI.1 mf_32 ?_
    refine g_iload_n (pc := 123) dX11_ahead_123 rfl ?_
    refine m_cP (pc := 124) (M' := mX11_power) (as := [_, _]) i_X11_289_11 eX11_power hI dX11_ahead_124 (c_power (by omega) hI hT hl (k := 32) rfl a ha) (by omega) rfl rfl (Nat.le_of_ble_eq_true rfl) ?_
    refine g_ireturn (pc := 127) dX11_ahead_127 rfl (by first | exact rfl | exact j_nb _) ?_
    refine ⟨?_, ⟨_, hI⟩, hF⟩
    rw [mlaw_row (k := 32) rfl, svR_row, thr0_law, thr0_now]
theorem r_mhopeless (hd : 1 ≤ d) (hI : InvM am V h) (w : Int32) (hv : inR w 0 99 = false) : Ct E d 0 0 mX11_hopeless [vR (nMo am), vI w] h (mQ am (refV V 1 1) h (some (vI 0))) := by
  refine ct_of (by decide) (Nat.le_of_ble_eq_true rfl) rfl ?_
  have hF : mFr h h := mFr.rf
  refine g_aload_n (pc := 0) dX11_hopeless_0 rfl ?_
  refine g_iconst (pc := 1) (v := 0) dX11_hopeless_1 (by decide) ?_
  refine m_put (pc := 2) hI w_X11_103_11 rfl (by decide) dX11_hopeless_2 (fun h hI fr => ?_)
  replace hF := mFr.tr hF fr
  change InvM am (thr0 V) h at hI
  refine g_aload_n (pc := 5) dX11_hopeless_5 rfl ?_
  refine g_iload_n (pc := 6) dX11_hopeless_6 rfl ?_
  refine g_iconst (pc := 7) (v := 0) dX11_hopeless_7 (by decide) ?_
  refine g_bipush (pc := 8) (v := 99) dX11_hopeless_8 (by decide) ?_
  refine g_cS (pc := 10) (M' := mX11_in) (as := [_, _, _]) i_X11_137 eX11_in dX11_hopeless_10 (c_in _ _ _) (by omega) rfl rfl (Nat.le_of_ble_eq_true rfl) ?_
  refine g_ifB_ne (pc := 13) 20 dX11_hopeless_13 (by decide) (fun c_13 => absurd (c_13.symm.trans hv) (by decide)) (fun c_13 => ?_)
  refine g_iconst (pc := 16) (v := 1) dX11_hopeless_16 (by decide) ?_
  refine g_goto (pc := 17) 21 dX11_hopeless_17 (by decide) ?_
  refine g_iconst (pc := 21) (v := 1) dX11_hopeless_21 (by decide) ?_
  refine g_iconst (pc := 22) (v := 1) dX11_hopeless_22 (by decide) ?_
  refine m_cV (pc := 23) (M' := mX11_bad) (as := [_, _, _]) i_X11_183_11 eX11_bad hI dX11_hopeless_23 (c_badT hI thr0_0 1 (by decide) 1 (by decide)) (by omega) rfl rfl (Nat.le_of_ble_eq_true rfl) (fun h hI fr => ?_)
  replace hF := mFr.tr hF fr
  refine g_ifB_eq (pc := 26) 31 dX11_hopeless_26 (by decide) (fun c_26 => absurd c_26 (by decide)) (fun c_26 => ?_)
  refine g_iconst (pc := 29) (v := 0) dX11_hopeless_29 (by decide) ?_
  refine g_ireturn (pc := 30) dX11_hopeless_30 rfl (by first | exact rfl | exact j_nb _) ?_
  rw [refV_thr0] at hI
  exact ⟨rfl, hI, hF⟩
set_option maxHeartbeats 2000000 in
theorem l_hop1 {bc bs : Nat} {Q : jR → jH → Prop} {R : Nat → Int32} (hd : 8 ≤ d) (hI : InvM am (svR V 32 R) h) (hT : MT (svR V 32 R) D nS nR nP) (hl : okL (svR V 32 R)) (w b : Int32) (p : Nat) (hp : p < nP) (kk : G E d bc bs mX11_hopeless 141 [some (vR (nMo am)), some (vI w), some (vI (hopF (mlaw V) D nR R p b nR)), some (vI (nI p)), some (vI (nI nR))] [] h Q) : ∀ (m r : Nat), nR - r = m → r ≤ nR → G E d bc bs mX11_hopeless 98 [some (vR (nMo am)), some (vI w), some (vI (hopF (mlaw V) D nR R p b r)), some (vI (nI p)), some (vI (nI r))] [] h Q := by
  intro m
  induction m with
  | zero =>
    intro r hm hr
    have e : r = nR := by omega
    subst e
    have b10 := hT.2.2.2.2.1
    refine g_iload (pc := 98) dX11_hopeless_98 rfl ?_
    refine g_aload_n (pc := 100) dX11_hopeless_100 rfl ?_
    refine g_getfield (pc := 101) f_X11_23_11 dX11_hopeless_101 hI.1 mf_12 ?_
    refine g_iconst (pc := 104) (v := 1) dX11_hopeless_104 (by decide) ?_
    refine g_iaload (pc := 105) dX11_hopeless_105 (mA hI 12 3 rfl (by decide)) (j := 1) (by decide) (by omega) (by decide) rfl ?_
    rw [hT.2.1]
    refine g_icmp_ge (pc := 106) 141 dX11_hopeless_106 (by decide) (fun c_106 => ?_) (fun c_106 => absurd (nI_le (Nat.le_refl _) (by omega)) c_106)
    exact kk
  | succ m ih =>
    intro r hm hr
    have b10 := hT.2.2.2.2.1
    have hq := ih (r + 1) (by omega) (by omega)
    refine g_iload (pc := 98) dX11_hopeless_98 rfl ?_
    refine g_aload_n (pc := 100) dX11_hopeless_100 rfl ?_
    refine g_getfield (pc := 101) f_X11_23_11 dX11_hopeless_101 hI.1 mf_12 ?_
    refine g_iconst (pc := 104) (v := 1) dX11_hopeless_104 (by decide) ?_
    refine g_iaload (pc := 105) dX11_hopeless_105 (mA hI 12 3 rfl (by decide)) (j := 1) (by decide) (by omega) (by decide) rfl ?_
    rw [hT.2.1]
    refine g_icmp_ge (pc := 106) 141 dX11_hopeless_106 (by decide) (fun c_106 => absurd c_106 (by intro w; have := (nI_leI (by omega) (by omega)).mp w; omega)) (fun c_106 => ?_)
    refine g_iload_n (pc := 109) dX11_hopeless_109 rfl ?_
    refine g_aload_n (pc := 110) dX11_hopeless_110 rfl ?_
    refine g_aload_n (pc := 111) dX11_hopeless_111 rfl ?_
    refine g_getfield (pc := 112) f_X11_76_11 dX11_hopeless_112 hI.1 mf_32 ?_
    refine g_iload (pc := 115) dX11_hopeless_115 rfl ?_
    refine g_iload_n (pc := 117) dX11_hopeless_117 rfl ?_
    refine m_cP (pc := 118) (M' := mX11_isAble) (as := [_, _, _]) i_X11_292_11 eX11_isAble hI dX11_hopeless_118 (c_isAble (by omega) hI hT hl (k := 32) rfl r p (by omega) hp) (by omega) rfl rfl (Nat.le_of_ble_eq_true rfl) ?_
    rw [mlaw_row (k := 32) rfl, svR_row]
    refine g_ifB_eq (pc := 121) 132 dX11_hopeless_121 (by decide) (fun c_121 => ?_) (fun c_121 => ?_)
    · refine g_iload_n (pc := 132) dX11_hopeless_132 rfl ?_
      refine g_iand (pc := 133) dX11_hopeless_133 ?_
      refine g_istore_n (pc := 134) (ls' := [_, _, _, _, _]) dX11_hopeless_134 (by decide) rfl rfl ?_
      refine g_iinc (pc := 135) (ls' := [_, _, _, _, _]) dX11_hopeless_135 rfl (by first | exact nI_1 _ | exact rfl) (by decide) rfl rfl ?_
      refine g_goto (pc := 138) 98 dX11_hopeless_138 (by decide) ?_
      have e : hopF (mlaw V) D nR R p b (r + 1) = _ := show (if _ then _ else _) = _ from if_neg (by rw [c_121]; decide)
      rw [e] at hq
      exact hq
    · refine g_iconst (pc := 124) (v := 1) dX11_hopeless_124 (by decide) ?_
      refine g_iload_n (pc := 125) dX11_hopeless_125 rfl ?_
      refine g_ishl (pc := 126) dX11_hopeless_126 ?_
      refine g_iconst (pc := 127) (v := -1) dX11_hopeless_127 (by decide) ?_
      refine g_ixor (pc := 128) dX11_hopeless_128 ?_
      refine g_goto (pc := 129) 133 dX11_hopeless_129 (by decide) ?_
      refine g_iand (pc := 133) dX11_hopeless_133 ?_
      refine g_istore_n (pc := 134) (ls' := [_, _, _, _, _]) dX11_hopeless_134 (by decide) rfl rfl ?_
      refine g_iinc (pc := 135) (ls' := [_, _, _, _, _]) dX11_hopeless_135 rfl (by first | exact nI_1 _ | exact rfl) (by decide) rfl rfl ?_
      refine g_goto (pc := 138) 98 dX11_hopeless_138 (by decide) ?_
      have e : hopF (mlaw V) D nR R p b (r + 1) = _ := show (if _ then _ else _) = _ from if_pos c_121
      rw [e] at hq
      exact hq
set_option maxHeartbeats 2000000 in
theorem l_hop2 {bc bs : Nat} {Q : jR → jH → Prop} {R : Nat → Int32} (hd : 8 ≤ d) (hI : InvM am (svR V 32 R) h) (hT : MT (svR V 32 R) D nS nR nP) (hl : okL (svR V 32 R)) (w b : Int32) (kk : ∀ u, G E d bc bs mX11_hopeless 147 [some (vR (nMo am)), some (vI w), some (vI (hopG (mlaw V) D nR R b nP)), some (vI (nI nP)), u] [] h Q) : ∀ (m p : Nat) (u : Option jV), nP - p = m → p ≤ nP → G E d bc bs mX11_hopeless 85 [some (vR (nMo am)), some (vI w), some (vI (hopG (mlaw V) D nR R b p)), some (vI (nI p)), u] [] h Q := by
  intro m
  induction m with
  | zero =>
    intro p u hm hr
    have e : p = nP := by omega
    subst e
    have b8 := hT.2.2.2.2.2.1
    refine g_iload_n (pc := 85) dX11_hopeless_85 rfl ?_
    refine g_aload_n (pc := 86) dX11_hopeless_86 rfl ?_
    refine g_getfield (pc := 87) f_X11_23_11 dX11_hopeless_87 hI.1 mf_12 ?_
    refine g_iconst (pc := 90) (v := 2) dX11_hopeless_90 (by decide) ?_
    refine g_iaload (pc := 91) dX11_hopeless_91 (mA hI 12 3 rfl (by decide)) (j := 2) (by decide) (by omega) (by decide) rfl ?_
    rw [hT.2.2.1]
    refine g_icmp_ge (pc := 92) 147 dX11_hopeless_92 (by decide) (fun c_92 => ?_) (fun c_92 => absurd (nI_le (Nat.le_refl _) (by omega)) c_92)
    exact kk u
  | succ m ih =>
    intro p u hm hr
    have b8 := hT.2.2.2.2.2.1
    refine g_iload_n (pc := 85) dX11_hopeless_85 rfl ?_
    refine g_aload_n (pc := 86) dX11_hopeless_86 rfl ?_
    refine g_getfield (pc := 87) f_X11_23_11 dX11_hopeless_87 hI.1 mf_12 ?_
    refine g_iconst (pc := 90) (v := 2) dX11_hopeless_90 (by decide) ?_
    refine g_iaload (pc := 91) dX11_hopeless_91 (mA hI 12 3 rfl (by decide)) (j := 2) (by decide) (by omega) (by decide) rfl ?_
    rw [hT.2.2.1]
    refine g_icmp_ge (pc := 92) 147 dX11_hopeless_92 (by decide) (fun c_92 => absurd c_92 (by intro w; have := (nI_leI (by omega) (by omega)).mp w; omega)) (fun c_92 => ?_)
    refine g_iconst (pc := 95) (v := 0) dX11_hopeless_95 (by decide) ?_
    refine g_istore (pc := 96) (ls' := [_, _, _, _, _]) dX11_hopeless_96 (by decide) rfl rfl ?_
    refine l_hop1 hd hI hT hl w _ p (by omega) ?_ nR 0 rfl (Nat.zero_le _)
    refine g_iinc (pc := 141) (ls' := [_, _, _, _, _]) dX11_hopeless_141 rfl (by first | exact nI_1 _ | exact rfl) (by decide) rfl rfl ?_
    refine g_goto (pc := 144) 85 dX11_hopeless_144 (by decide) ?_
    exact ih (p + 1) _ (by omega) (by omega)
set_option maxHeartbeats 2000000 in
theorem c_mhopeless (hd : 9 ≤ d) (hI : InvM am V h) (hT : MT V D nS nR nP) (hl : okL V) (n : Nat) (hn : n ≤ 99) : Ct E d 0 0 mX11_hopeless [vR (nMo am), vI (nI n)] h (mQ32 am (thr0 V) h (hopG (mlaw V) D nR (itD nR (V 31) n) (bitI nP - 1 - bitsI (crd (V 31)) nP) nP)) := by
  refine ct_of (by decide) (Nat.le_of_ble_eq_true rfl) rfl ?_
  have hF : mFr h h := mFr.rf
  have hT := MT.f0 (j := 0) (y := 0) hT
  change MT (thr0 V) D nS nR nP at hT
  have b8 := hT.2.2.2.1
  have b10 := hT.2.2.2.2.1
  have bP := hT.2.2.2.2.2.1
  have hl := okL.f0 (j := 0) (y := 0) hl (by decide)
  change okL (thr0 V) at hl
  have hv : inR (nI n) 0 99 = true := inC_of (n := 99) hn (by decide)
  refine g_aload_n (pc := 0) dX11_hopeless_0 rfl ?_
  refine g_iconst (pc := 1) (v := 0) dX11_hopeless_1 (by decide) ?_
  refine m_put (pc := 2) hI w_X11_103_11 rfl (by decide) dX11_hopeless_2 (fun h hI fr => ?_)
  replace hF := mFr.tr hF fr
  change InvM am (thr0 V) h at hI
  refine g_aload_n (pc := 5) dX11_hopeless_5 rfl ?_
  refine g_iload_n (pc := 6) dX11_hopeless_6 rfl ?_
  refine g_iconst (pc := 7) (v := 0) dX11_hopeless_7 (by decide) ?_
  refine g_bipush (pc := 8) (v := 99) dX11_hopeless_8 (by decide) ?_
  refine g_cS (pc := 10) (M' := mX11_in) (as := [_, _, _]) i_X11_137 eX11_in dX11_hopeless_10 (c_in _ _ _) (by omega) rfl rfl (Nat.le_of_ble_eq_true rfl) ?_
  refine g_ifB_ne (pc := 13) 20 dX11_hopeless_13 (by decide) (fun c_13 => ?_) (fun c_13 => absurd (hv.symm.trans c_13) (by decide))
  refine g_iconst (pc := 20) (v := 0) dX11_hopeless_20 (by decide) ?_
  refine g_iconst (pc := 21) (v := 1) dX11_hopeless_21 (by decide) ?_
  refine g_iconst (pc := 22) (v := 1) dX11_hopeless_22 (by decide) ?_
  refine m_cV (pc := 23) (M' := mX11_bad) (as := [_, _, _]) i_X11_183_11 eX11_bad hI dX11_hopeless_23 (c_badF hI thr0_0 1 1 (by decide)) (by omega) rfl rfl (Nat.le_of_ble_eq_true rfl) (fun h hI fr => ?_)
  replace hF := mFr.tr hF fr
  refine g_ifB_eq (pc := 26) 31 dX11_hopeless_26 (by decide) (fun c_26 => ?_) (fun c_26 => absurd c_26 (by decide))
  refine g_aload_n (pc := 31) dX11_hopeless_31 rfl ?_
  refine g_getfield (pc := 32) f_X11_73_11 dX11_hopeless_32 hI.1 mf_31 ?_
  refine g_aload_n (pc := 35) dX11_hopeless_35 rfl ?_
  refine g_getfield (pc := 36) f_X11_76_11 dX11_hopeless_36 hI.1 mf_32 ?_
  refine m_cSv (pc := 39) (M' := mX11_copies) (as := [_, _]) i_X11_325 eX11_copies dX11_hopeless_39 (c_copT hI) (by omega) rfl rfl (Nat.le_of_ble_eq_true rfl) (fun h hI fr => ?_)
  replace hF := mFr.tr hF fr
  refine g_iconst (pc := 42) (v := 0) dX11_hopeless_42 (by decide) ?_
  refine g_istore_n (pc := 43) (ls' := [_, _, _, _, _]) dX11_hopeless_43 (by decide) rfl rfl ?_
  refine l_hope (R0 := thr0 V 31) (by omega) hT n hn 0 0 (fun h hI hF => ?_) n 0 h rfl (Nat.zero_le _) hI hF
  have hT := hT.row (k := 32) (R := itD nR (thr0 V 31) n) rfl
  have hl := hl.row (k := 32) (R := itD nR (thr0 V 31) n) rfl
  refine g_iconst (pc := 63) (v := 1) dX11_hopeless_63 (by decide) ?_
  refine g_aload_n (pc := 64) dX11_hopeless_64 rfl ?_
  refine g_getfield (pc := 65) f_X11_23_11 dX11_hopeless_65 hI.1 mf_12 ?_
  refine g_iconst (pc := 68) (v := 2) dX11_hopeless_68 (by decide) ?_
  refine g_iaload (pc := 69) dX11_hopeless_69 (mA hI 12 3 rfl (by decide)) (j := 2) (by decide) (by omega) (by decide) rfl ?_
  rw [hT.2.2.1]
  refine g_ishl (pc := 70) dX11_hopeless_70 ?_
  refine g_iconst (pc := 71) (v := 1) dX11_hopeless_71 (by decide) ?_
  refine g_isub (pc := 72) dX11_hopeless_72 ?_
  refine g_aload_n (pc := 73) dX11_hopeless_73 rfl ?_
  refine g_aload_n (pc := 74) dX11_hopeless_74 rfl ?_
  refine g_getfield (pc := 75) f_X11_73_11 dX11_hopeless_75 hI.1 mf_31 ?_
  refine m_cP (pc := 78) (M' := mX11_curedIn) (as := [_]) i_X11_329_11 eX11_curedIn hI dX11_hopeless_78 (c_curedIn hI hT (k := 31) rfl) (by omega) rfl rfl (Nat.le_of_ble_eq_true rfl) ?_
  refine g_isub (pc := 81) dX11_hopeless_81 ?_
  refine g_istore_n (pc := 82) (ls' := [_, _, _, _, _]) dX11_hopeless_82 (by decide) rfl rfl ?_
  refine g_iconst (pc := 83) (v := 0) dX11_hopeless_83 (by decide) ?_
  refine g_istore_n (pc := 84) (ls' := [_, _, _, _, _]) dX11_hopeless_84 (by decide) rfl rfl ?_
  refine l_hop2 (by omega) hI hT hl _ _ (fun u => ?_) nP 0 _ rfl (Nat.zero_le _)
  refine g_iload_n (pc := 147) dX11_hopeless_147 rfl ?_
  refine g_ireturn (pc := 148) dX11_hopeless_148 rfl (by first | exact rfl | exact j_nb _) ?_
  refine ⟨?_, ⟨_, hI⟩, hF⟩
  rw [thr0_law, svR_ne (by decide), thr0_now]
  rfl
end
