/-! THE REFERENCE: told, sister, relic, pilgrim, can, would. Printed by m_q3.py -/
set_option maxRecDepth 100000
theorem in_of {j n : Nat} (h : j < n) (hn : n ≤ 1000) : inR (nI j) 0 (nI n - 1) = true := by
  unfold inR
  rw [show (1 : Int32) = nI 1 from rfl, pk_sub (show 1 ≤ n by omega), decide_eq_false (nI_pos (by omega)), decide_eq_false (nI_nlt (by omega) (by omega))]
  rfl
theorem of_in {w : Int32} {n : Nat} (h : inR w 0 (nI n - 1) = true) (hn : n ≤ 1000) : ∃ j, j < n ∧ w = nI j := by
  unfold inR at h
  rw [Bool.and_eq_true, Bool.not_eq_true', Bool.not_eq_true', decide_eq_false_iff_not, decide_eq_false_iff_not] at h
  cases n with
  | zero =>
    exfalso
    obtain ⟨j, hj, rfl⟩ := nI_of h.1
    apply h.2
    rw [show nI 0 - 1 = -1 by decide, Int32.lt_iff_toInt_lt, nI_toInt hj]
    have : (-1 : Int32).toInt = -1 := by decide
    omega
  | succ n =>
    rw [nI_pred] at h
    obtain ⟨j, hj, rfl⟩ := nI_of h.1
    refine ⟨j, ?_, rfl⟩
    have := h.2
    rw [nI_ltI (by omega) hj] at this
    omega
theorem inC_of {j n : Nat} (h : j ≤ n) (hn : n ≤ 1000000) : inR (nI j) 0 (nI n) = true := by
  unfold inR
  rw [decide_eq_false (nI_pos (by omega)), decide_eq_false (nI_nlt (by omega) (by omega))]
  rfl
theorem of_inC {w : Int32} {n : Nat} (h : inR w 0 (nI n) = true) (hn : n ≤ 1000000) : ∃ j, j ≤ n ∧ w = nI j := by
  unfold inR at h
  rw [Bool.and_eq_true, Bool.not_eq_true', Bool.not_eq_true', decide_eq_false_iff_not, decide_eq_false_iff_not] at h
  obtain ⟨j, hj, rfl⟩ := nI_of h.1
  refine ⟨j, ?_, rfl⟩
  have := h.2
  rw [nI_ltI (by omega) hj] at this
  omega
def livB (R : Nat → Int32) (s : Nat) : Bool := decide (R s = 0)
def useB (R : Nat → Int32) (r : Nat) : Bool := decide (R (26 + r) = 1)
def hersB (D : Nat → Nat → Nat) (s r : Nat) : Bool := decide (D 0 r = s)
def tolS (V : mV) (D : Nat → Nat → Nat) (nS nR nP : Nat) : Nat → Int32
  | 0 => nI nS | 1 => nI nR | 2 => nI nP | 3 => V 31 44 | 4 => bitsI (livB (V 31)) nS | 5 => bitsI (kpd (V 31)) nR | 6 => bitsI (crd (V 31)) nP | 7 => bitsI (useB (V 31)) nR | 8 => V 0 35 | 9 => V 0 37 | _ => sumI (pwN V D nR) nR
section
variable {E : jE} {d : Nat} {h : jH} {am : Nat → Nat} {V : mV} {D : Nat → Nat → Nat} {nS nR nP k : Nat}
set_option maxHeartbeats 2000000 in
theorem l_told1 {bc bs : Nat} {Q : jR → jH → Prop} (hd : 7 ≤ d) (hI : InvM am V h) (hT : MT V D nS nR nP) (w b c : Int32) : ∀ (m r : Nat), nS - r = m → r ≤ nS → G E d bc bs mX11_told 81 [some (vR (nMo am)), some (vI w), some (vI (bitsI (livB (V 31)) nS)), some (vI b), some (vI c), some (vI (nI nS))] [] h Q → G E d bc bs mX11_told 41 [some (vR (nMo am)), some (vI w), some (vI (bitsI (livB (V 31)) r)), some (vI b), some (vI c), some (vI (nI r))] [] h Q := by
  intro m
  induction m with
  | zero =>
    intro r hm hr kk
    have e : r = nS := by omega
    subst e
    have b8 := hT.2.2.2.1
    have b10 := hT.2.2.2.2.1
    have bP := hT.2.2.2.2.2.1
    refine g_iload (pc := 41) dX11_told_41 rfl ?_
    refine g_aload_n (pc := 43) dX11_told_43 rfl ?_
    refine g_getfield (pc := 44) f_X11_23_11 dX11_told_44 hI.1 mf_12 ?_
    refine g_iconst (pc := 47) (v := 0) dX11_told_47 (by decide) ?_
    refine g_iaload (pc := 48) dX11_told_48 (mA hI 12 3 rfl (by decide)) (j := 0) (by decide) (by omega) (by decide) rfl ?_
    rw [hT.1]
    refine g_icmp_ge (pc := 49) 81 dX11_told_49 (by decide) (fun c_49 => ?_) (fun c_49 => absurd (nI_le (Nat.le_refl _) (by omega)) c_49)
    exact kk
  | succ m ih =>
    intro r hm hr kk
    have b8 := hT.2.2.2.1
    have b10 := hT.2.2.2.2.1
    have bP := hT.2.2.2.2.2.1
    refine g_iload (pc := 41) dX11_told_41 rfl ?_
    refine g_aload_n (pc := 43) dX11_told_43 rfl ?_
    refine g_getfield (pc := 44) f_X11_23_11 dX11_told_44 hI.1 mf_12 ?_
    refine g_iconst (pc := 47) (v := 0) dX11_told_47 (by decide) ?_
    refine g_iaload (pc := 48) dX11_told_48 (mA hI 12 3 rfl (by decide)) (j := 0) (by decide) (by omega) (by decide) rfl ?_
    rw [hT.1]
    refine g_icmp_ge (pc := 49) 81 dX11_told_49 (by decide) (fun c_49 => absurd c_49 (by intro w; have := (nI_leI (by omega) (by omega)).mp w; omega)) (fun c_49 => ?_)
    refine g_iload_n (pc := 52) dX11_told_52 rfl ?_
    refine g_aload_n (pc := 53) dX11_told_53 rfl ?_
    refine g_getfield (pc := 54) f_X11_73_11 dX11_told_54 hI.1 mf_31 ?_
    refine g_iconst (pc := 57) (v := 0) dX11_told_57 (by decide) ?_
    refine g_iload (pc := 58) dX11_told_58 rfl ?_
    refine g_iadd (pc := 60) dX11_told_60 ?_
    refine g_iaload (pc := 61) dX11_told_61 (mA hI 31 45 rfl (by decide)) (j := r) (Int32.zero_add _) (by omega) (by decide) rfl ?_
    refine g_if_ne (pc := 62) 72 dX11_told_62 (by decide) (fun c_62 => ?_) (fun c_62 => ?_)
    · refine g_iconst (pc := 72) (v := 0) dX11_told_72 (by decide) ?_
      refine g_ior (pc := 73) dX11_told_73 ?_
      refine g_istore_n (pc := 74) (ls' := [_, _, _, _, _, _]) dX11_told_74 (by decide) rfl rfl ?_
      refine g_iinc (pc := 75) (ls' := [_, _, _, _, _, _]) dX11_told_75 rfl (by first | exact nI_1 _ | exact rfl) (by decide) rfl rfl ?_
      refine g_goto (pc := 78) 41 dX11_told_78 (by decide) ?_
      have e0 : bitsI (livB (V 31)) (r + 1) = _ := show bitsI (livB (V 31)) r ||| (if (livB (V 31)) r = true then bitI r else 0) = _ from by rw [if_neg (by simp [livB, c_62])]
      have q := ih (r + 1) (by omega) (by omega) kk
      rw [e0] at q
      exact q
    · refine g_iconst (pc := 65) (v := 1) dX11_told_65 (by decide) ?_
      refine g_iload (pc := 66) dX11_told_66 rfl ?_
      refine g_ishl (pc := 68) dX11_told_68 ?_
      refine g_goto (pc := 69) 73 dX11_told_69 (by decide) ?_
      refine g_ior (pc := 73) dX11_told_73 ?_
      refine g_istore_n (pc := 74) (ls' := [_, _, _, _, _, _]) dX11_told_74 (by decide) rfl rfl ?_
      refine g_iinc (pc := 75) (ls' := [_, _, _, _, _, _]) dX11_told_75 rfl (by first | exact nI_1 _ | exact rfl) (by decide) rfl rfl ?_
      refine g_goto (pc := 78) 41 dX11_told_78 (by decide) ?_
      have e0 : bitsI (livB (V 31)) (r + 1) = _ := show bitsI (livB (V 31)) r ||| (if (livB (V 31)) r = true then bitI r else 0) = _ from by rw [if_pos (by simp [livB, c_62])]
      have q := ih (r + 1) (by omega) (by omega) kk
      rw [e0] at q
      exact q
set_option maxHeartbeats 2000000 in
theorem l_told2 {bc bs : Nat} {Q : jR → jH → Prop} (hd : 7 ≤ d) (hI : InvM am V h) (hT : MT V D nS nR nP) (w b : Int32) : ∀ (m r : Nat), nR - r = m → r ≤ nR → G E d bc bs mX11_told 151 [some (vR (nMo am)), some (vI w), some (vI b), some (vI (bitsI (kpd (V 31)) nR)), some (vI (bitsI (useB (V 31)) nR)), some (vI (nI nR))] [] h Q → G E d bc bs mX11_told 84 [some (vR (nMo am)), some (vI w), some (vI b), some (vI (bitsI (kpd (V 31)) r)), some (vI (bitsI (useB (V 31)) r)), some (vI (nI r))] [] h Q := by
  intro m
  induction m with
  | zero =>
    intro r hm hr kk
    have e : r = nR := by omega
    subst e
    have b8 := hT.2.2.2.1
    have b10 := hT.2.2.2.2.1
    have bP := hT.2.2.2.2.2.1
    refine g_iload (pc := 84) dX11_told_84 rfl ?_
    refine g_aload_n (pc := 86) dX11_told_86 rfl ?_
    refine g_getfield (pc := 87) f_X11_23_11 dX11_told_87 hI.1 mf_12 ?_
    refine g_iconst (pc := 90) (v := 1) dX11_told_90 (by decide) ?_
    refine g_iaload (pc := 91) dX11_told_91 (mA hI 12 3 rfl (by decide)) (j := 1) (by decide) (by omega) (by decide) rfl ?_
    rw [hT.2.1]
    refine g_icmp_ge (pc := 92) 151 dX11_told_92 (by decide) (fun c_92 => ?_) (fun c_92 => absurd (nI_le (Nat.le_refl _) (by omega)) c_92)
    exact kk
  | succ m ih =>
    intro r hm hr kk
    have b8 := hT.2.2.2.1
    have b10 := hT.2.2.2.2.1
    have bP := hT.2.2.2.2.2.1
    refine g_iload (pc := 84) dX11_told_84 rfl ?_
    refine g_aload_n (pc := 86) dX11_told_86 rfl ?_
    refine g_getfield (pc := 87) f_X11_23_11 dX11_told_87 hI.1 mf_12 ?_
    refine g_iconst (pc := 90) (v := 1) dX11_told_90 (by decide) ?_
    refine g_iaload (pc := 91) dX11_told_91 (mA hI 12 3 rfl (by decide)) (j := 1) (by decide) (by omega) (by decide) rfl ?_
    rw [hT.2.1]
    refine g_icmp_ge (pc := 92) 151 dX11_told_92 (by decide) (fun c_92 => absurd c_92 (by intro w; have := (nI_leI (by omega) (by omega)).mp w; omega)) (fun c_92 => ?_)
    refine g_iload_n (pc := 95) dX11_told_95 rfl ?_
    refine g_aload_n (pc := 96) dX11_told_96 rfl ?_
    refine g_getfield (pc := 97) f_X11_73_11 dX11_told_97 hI.1 mf_31 ?_
    refine g_iload (pc := 100) dX11_told_100 rfl ?_
    refine g_cS (pc := 102) (M' := mX11_isKept) (as := [_, _]) i_X11_267 eX11_isKept dX11_told_102 (c_isKept hI (k := 31) rfl r (by omega)) (by omega) rfl rfl (Nat.le_of_ble_eq_true rfl) ?_
    refine g_ifB_eq (pc := 105) 115 dX11_told_105 (by decide) (fun c_105 => ?_) (fun c_105 => ?_)
    · refine g_iconst (pc := 115) (v := 0) dX11_told_115 (by decide) ?_
      refine g_ior (pc := 116) dX11_told_116 ?_
      refine g_istore_n (pc := 117) (ls' := [_, _, _, _, _, _]) dX11_told_117 (by decide) rfl rfl ?_
      refine g_iload (pc := 118) dX11_told_118 rfl ?_
      refine g_aload_n (pc := 120) dX11_told_120 rfl ?_
      refine g_getfield (pc := 121) f_X11_73_11 dX11_told_121 hI.1 mf_31 ?_
      refine g_bipush (pc := 124) (v := 26) dX11_told_124 (by decide) ?_
      refine g_iload (pc := 126) dX11_told_126 rfl ?_
      refine g_iadd (pc := 128) dX11_told_128 ?_
      refine g_iaload (pc := 129) dX11_told_129 (mA hI 31 45 rfl (by decide)) (j := 26 + r) (nI_add 26 r) (by omega) (by decide) rfl ?_
      refine g_iconst (pc := 130) (v := 1) dX11_told_130 (by decide) ?_
      refine g_icmp_ne (pc := 131) 141 dX11_told_131 (by decide) (fun c_131 => ?_) (fun c_131 => ?_)
      · refine g_iconst (pc := 141) (v := 0) dX11_told_141 (by decide) ?_
        refine g_ior (pc := 142) dX11_told_142 ?_
        refine g_istore (pc := 143) (ls' := [_, _, _, _, _, _]) dX11_told_143 (by decide) rfl rfl ?_
        refine g_iinc (pc := 145) (ls' := [_, _, _, _, _, _]) dX11_told_145 rfl (by first | exact nI_1 _ | exact rfl) (by decide) rfl rfl ?_
        refine g_goto (pc := 148) 84 dX11_told_148 (by decide) ?_
        have e0 : bitsI (kpd (V 31)) (r + 1) = _ := show bitsI (kpd (V 31)) r ||| (if (kpd (V 31)) r = true then bitI r else 0) = _ from by rw [if_neg (by rw [c_105]; decide)]
        have e1 : bitsI (useB (V 31)) (r + 1) = _ := show bitsI (useB (V 31)) r ||| (if (useB (V 31)) r = true then bitI r else 0) = _ from by rw [if_neg (by simp [useB, c_131])]
        have q := ih (r + 1) (by omega) (by omega) kk
        rw [e0, e1] at q
        exact q
      · refine g_iconst (pc := 134) (v := 1) dX11_told_134 (by decide) ?_
        refine g_iload (pc := 135) dX11_told_135 rfl ?_
        refine g_ishl (pc := 137) dX11_told_137 ?_
        refine g_goto (pc := 138) 142 dX11_told_138 (by decide) ?_
        refine g_ior (pc := 142) dX11_told_142 ?_
        refine g_istore (pc := 143) (ls' := [_, _, _, _, _, _]) dX11_told_143 (by decide) rfl rfl ?_
        refine g_iinc (pc := 145) (ls' := [_, _, _, _, _, _]) dX11_told_145 rfl (by first | exact nI_1 _ | exact rfl) (by decide) rfl rfl ?_
        refine g_goto (pc := 148) 84 dX11_told_148 (by decide) ?_
        have e0 : bitsI (kpd (V 31)) (r + 1) = _ := show bitsI (kpd (V 31)) r ||| (if (kpd (V 31)) r = true then bitI r else 0) = _ from by rw [if_neg (by rw [c_105]; decide)]
        have e1 : bitsI (useB (V 31)) (r + 1) = _ := show bitsI (useB (V 31)) r ||| (if (useB (V 31)) r = true then bitI r else 0) = _ from by rw [if_pos (by simp [useB, c_131])]
        have q := ih (r + 1) (by omega) (by omega) kk
        rw [e0, e1] at q
        exact q
    · refine g_iconst (pc := 108) (v := 1) dX11_told_108 (by decide) ?_
      refine g_iload (pc := 109) dX11_told_109 rfl ?_
      refine g_ishl (pc := 111) dX11_told_111 ?_
      refine g_goto (pc := 112) 116 dX11_told_112 (by decide) ?_
      refine g_ior (pc := 116) dX11_told_116 ?_
      refine g_istore_n (pc := 117) (ls' := [_, _, _, _, _, _]) dX11_told_117 (by decide) rfl rfl ?_
      refine g_iload (pc := 118) dX11_told_118 rfl ?_
      refine g_aload_n (pc := 120) dX11_told_120 rfl ?_
      refine g_getfield (pc := 121) f_X11_73_11 dX11_told_121 hI.1 mf_31 ?_
      refine g_bipush (pc := 124) (v := 26) dX11_told_124 (by decide) ?_
      refine g_iload (pc := 126) dX11_told_126 rfl ?_
      refine g_iadd (pc := 128) dX11_told_128 ?_
      refine g_iaload (pc := 129) dX11_told_129 (mA hI 31 45 rfl (by decide)) (j := 26 + r) (nI_add 26 r) (by omega) (by decide) rfl ?_
      refine g_iconst (pc := 130) (v := 1) dX11_told_130 (by decide) ?_
      refine g_icmp_ne (pc := 131) 141 dX11_told_131 (by decide) (fun c_131 => ?_) (fun c_131 => ?_)
      · refine g_iconst (pc := 141) (v := 0) dX11_told_141 (by decide) ?_
        refine g_ior (pc := 142) dX11_told_142 ?_
        refine g_istore (pc := 143) (ls' := [_, _, _, _, _, _]) dX11_told_143 (by decide) rfl rfl ?_
        refine g_iinc (pc := 145) (ls' := [_, _, _, _, _, _]) dX11_told_145 rfl (by first | exact nI_1 _ | exact rfl) (by decide) rfl rfl ?_
        refine g_goto (pc := 148) 84 dX11_told_148 (by decide) ?_
        have e0 : bitsI (kpd (V 31)) (r + 1) = _ := show bitsI (kpd (V 31)) r ||| (if (kpd (V 31)) r = true then bitI r else 0) = _ from by rw [if_pos c_105]
        have e1 : bitsI (useB (V 31)) (r + 1) = _ := show bitsI (useB (V 31)) r ||| (if (useB (V 31)) r = true then bitI r else 0) = _ from by rw [if_neg (by simp [useB, c_131])]
        have q := ih (r + 1) (by omega) (by omega) kk
        rw [e0, e1] at q
        exact q
      · refine g_iconst (pc := 134) (v := 1) dX11_told_134 (by decide) ?_
        refine g_iload (pc := 135) dX11_told_135 rfl ?_
        refine g_ishl (pc := 137) dX11_told_137 ?_
        refine g_goto (pc := 138) 142 dX11_told_138 (by decide) ?_
        refine g_ior (pc := 142) dX11_told_142 ?_
        refine g_istore (pc := 143) (ls' := [_, _, _, _, _, _]) dX11_told_143 (by decide) rfl rfl ?_
        refine g_iinc (pc := 145) (ls' := [_, _, _, _, _, _]) dX11_told_145 rfl (by first | exact nI_1 _ | exact rfl) (by decide) rfl rfl ?_
        refine g_goto (pc := 148) 84 dX11_told_148 (by decide) ?_
        have e0 : bitsI (kpd (V 31)) (r + 1) = _ := show bitsI (kpd (V 31)) r ||| (if (kpd (V 31)) r = true then bitI r else 0) = _ from by rw [if_pos c_105]
        have e1 : bitsI (useB (V 31)) (r + 1) = _ := show bitsI (useB (V 31)) r ||| (if (useB (V 31)) r = true then bitI r else 0) = _ from by rw [if_pos (by simp [useB, c_131])]
        have q := ih (r + 1) (by omega) (by omega) kk
        rw [e0, e1] at q
        exact q
set_option maxHeartbeats 4000000 in
theorem c_mtold (hd : 8 ≤ d) (hI : InvM am V h) (hT : MT V D nS nR nP) (hl : okL V) (x : Nat) (hx : x ≤ 10) : Ct E d 0 0 mX11_told [vR (nMo am), vI (nI x)] h (mQ am (thr0 V) h (some (vI (tolS V D nS nR nP x)))) := by
  refine ct_of (by decide) (Nat.le_of_ble_eq_true rfl) rfl ?_
  have hF : mFr h h := mFr.rf
  have hT := MT.f0 (j := 0) (y := 0) hT
  have hl := okL.f0 (j := 0) (y := 0) hl (by decide)
  change MT (thr0 V) D nS nR nP at hT
  change okL (thr0 V) at hl
  have b8 := hT.2.2.2.1
  have b10 := hT.2.2.2.2.1
  have bP := hT.2.2.2.2.2.1
  have hv : inR (nI x) 0 10 = true := inC_of (n := 10) hx (by decide)
  refine g_aload_n (pc := 0) dX11_told_0 rfl ?_
  refine g_iconst (pc := 1) (v := 0) dX11_told_1 (by decide) ?_
  refine m_put (pc := 2) hI w_X11_103_11 rfl (by decide) dX11_told_2 (fun h hI fr => ?_)
  replace hF := mFr.tr hF fr
  change InvM am (thr0 V) h at hI
  refine g_aload_n (pc := 5) dX11_told_5 rfl ?_
  refine g_iload_n (pc := 6) dX11_told_6 rfl ?_
  refine g_iconst (pc := 7) (v := 0) dX11_told_7 (by decide) ?_
  refine g_bipush (pc := 8) (v := 10) dX11_told_8 (by decide) ?_
  refine g_cS (pc := 10) (M' := mX11_in) (as := [_, _, _]) i_X11_137 eX11_in dX11_told_10 (c_in _ _ _) (by omega) rfl rfl (Nat.le_of_ble_eq_true rfl) ?_
  refine g_ifB_ne (pc := 13) 20 dX11_told_13 (by decide) (fun c_13 => ?_) (fun c_13 => absurd (hv.symm.trans c_13) (by decide))
  refine g_iconst (pc := 20) (v := 0) dX11_told_20 (by decide) ?_
  refine g_iconst (pc := 21) (v := 1) dX11_told_21 (by decide) ?_
  refine g_iconst (pc := 22) (v := 1) dX11_told_22 (by decide) ?_
  refine m_cV (pc := 23) (M' := mX11_bad) (as := [_, _, _]) i_X11_183_11 eX11_bad hI dX11_told_23 (c_badF hI thr0_0 1 1 (by decide)) (by omega) rfl rfl (Nat.le_of_ble_eq_true rfl) (fun h hI fr => ?_)
  replace hF := mFr.tr hF fr
  refine g_ifB_eq (pc := 26) 31 dX11_told_26 (by decide) (fun c_26 => ?_) (fun c_26 => absurd c_26 (by decide))
  refine g_iconst (pc := 31) (v := 0) dX11_told_31 (by decide) ?_
  refine g_istore_n (pc := 32) (ls' := [_, _, _, _, _, _]) dX11_told_32 (by decide) rfl rfl ?_
  refine g_iconst (pc := 33) (v := 0) dX11_told_33 (by decide) ?_
  refine g_istore_n (pc := 34) (ls' := [_, _, _, _, _, _]) dX11_told_34 (by decide) rfl rfl ?_
  refine g_iconst (pc := 35) (v := 0) dX11_told_35 (by decide) ?_
  refine g_istore (pc := 36) (ls' := [_, _, _, _, _, _]) dX11_told_36 (by decide) rfl rfl ?_
  refine g_iconst (pc := 38) (v := 0) dX11_told_38 (by decide) ?_
  refine g_istore (pc := 39) (ls' := [_, _, _, _, _, _]) dX11_told_39 (by decide) rfl rfl ?_
  refine l_told1 (by omega) hI hT _ _ _ nS 0 rfl (Nat.zero_le _) ?_
  refine g_iconst (pc := 81) (v := 0) dX11_told_81 (by decide) ?_
  refine g_istore (pc := 82) (ls' := [_, _, _, _, _, _]) dX11_told_82 (by decide) rfl rfl ?_
  refine l_told2 (by omega) hI hT _ _ nR 0 rfl (Nat.zero_le _) ?_
  refine g_iload_n (pc := 151) dX11_told_151 rfl ?_
  rw [thr0_now]
  match x, hx with
  | 0, _ =>
    refine g_tableIn (pc := 152) (off := 56) 208 dX11_told_152 (by decide) (by decide) (by decide) (by decide) ?_
    refine g_aload_n (pc := 208) dX11_told_208 rfl ?_
    refine g_getfield (pc := 209) f_X11_23_11 dX11_told_209 hI.1 mf_12 ?_
    refine g_iload_n (pc := 212) dX11_told_212 rfl ?_
    refine g_iaload (pc := 213) dX11_told_213 (mA hI 12 3 rfl (by decide)) (j := 0) rfl (by omega) (by decide) rfl ?_
    refine g_ireturn (pc := 214) dX11_told_214 rfl (by first | exact rfl | exact j_nb _) ?_
    refine ⟨?_, hI, hF⟩
    rw [hT.1]
    rfl
  | 1, _ =>
    refine g_tableIn (pc := 152) (off := 56) 208 dX11_told_152 (by decide) (by decide) (by decide) (by decide) ?_
    refine g_aload_n (pc := 208) dX11_told_208 rfl ?_
    refine g_getfield (pc := 209) f_X11_23_11 dX11_told_209 hI.1 mf_12 ?_
    refine g_iload_n (pc := 212) dX11_told_212 rfl ?_
    refine g_iaload (pc := 213) dX11_told_213 (mA hI 12 3 rfl (by decide)) (j := 1) rfl (by omega) (by decide) rfl ?_
    refine g_ireturn (pc := 214) dX11_told_214 rfl (by first | exact rfl | exact j_nb _) ?_
    refine ⟨?_, hI, hF⟩
    rw [hT.2.1]
    rfl
  | 2, _ =>
    refine g_tableIn (pc := 152) (off := 56) 208 dX11_told_152 (by decide) (by decide) (by decide) (by decide) ?_
    refine g_aload_n (pc := 208) dX11_told_208 rfl ?_
    refine g_getfield (pc := 209) f_X11_23_11 dX11_told_209 hI.1 mf_12 ?_
    refine g_iload_n (pc := 212) dX11_told_212 rfl ?_
    refine g_iaload (pc := 213) dX11_told_213 (mA hI 12 3 rfl (by decide)) (j := 2) rfl (by omega) (by decide) rfl ?_
    refine g_ireturn (pc := 214) dX11_told_214 rfl (by first | exact rfl | exact j_nb _) ?_
    refine ⟨?_, hI, hF⟩
    rw [hT.2.2.1]
    rfl
  | 3, _ =>
    refine g_tableIn (pc := 152) (off := 63) 215 dX11_told_152 (by decide) (by decide) (by decide) (by decide) ?_
    refine g_aload_n (pc := 215) dX11_told_215 rfl ?_
    refine g_getfield (pc := 216) f_X11_73_11 dX11_told_216 hI.1 mf_31 ?_
    refine g_bipush (pc := 219) (v := 44) dX11_told_219 (by decide) ?_
    refine g_iaload (pc := 221) dX11_told_221 (mA hI 31 45 rfl (by decide)) (j := 44) (by decide) (by omega) (by decide) rfl ?_
    refine g_ireturn (pc := 222) dX11_told_222 rfl (by first | exact rfl | exact j_nb _) ?_
    refine ⟨?_, hI, hF⟩
    rw [thr0_now]
    rfl
  | 4, _ =>
    refine g_tableIn (pc := 152) (off := 71) 223 dX11_told_152 (by decide) (by decide) (by decide) (by decide) ?_
    refine g_iload_n (pc := 223) dX11_told_223 rfl ?_
    refine g_ireturn (pc := 224) dX11_told_224 rfl (by first | exact rfl | exact j_nb _) ?_
    refine ⟨?_, hI, hF⟩
    rfl
  | 5, _ =>
    refine g_tableIn (pc := 152) (off := 73) 225 dX11_told_152 (by decide) (by decide) (by decide) (by decide) ?_
    refine g_iload_n (pc := 225) dX11_told_225 rfl ?_
    refine g_ireturn (pc := 226) dX11_told_226 rfl (by first | exact rfl | exact j_nb _) ?_
    refine ⟨?_, hI, hF⟩
    rfl
  | 6, _ =>
    refine g_tableIn (pc := 152) (off := 75) 227 dX11_told_152 (by decide) (by decide) (by decide) (by decide) ?_
    refine g_aload_n (pc := 227) dX11_told_227 rfl ?_
    refine g_aload_n (pc := 228) dX11_told_228 rfl ?_
    refine g_getfield (pc := 229) f_X11_73_11 dX11_told_229 hI.1 mf_31 ?_
    refine m_cP (pc := 232) (M' := mX11_curedIn) (as := [_]) i_X11_329_11 eX11_curedIn hI dX11_told_232 (c_curedIn hI hT (k := 31) rfl) (by omega) rfl rfl (Nat.le_of_ble_eq_true rfl) ?_
    refine g_ireturn (pc := 235) dX11_told_235 rfl (by first | exact rfl | exact j_nb _) ?_
    refine ⟨?_, hI, hF⟩
    rw [thr0_now]
    rfl
  | 7, _ =>
    refine g_tableIn (pc := 152) (off := 84) 236 dX11_told_152 (by decide) (by decide) (by decide) (by decide) ?_
    refine g_iload (pc := 236) dX11_told_236 rfl ?_
    refine g_ireturn (pc := 238) dX11_told_238 rfl (by first | exact rfl | exact j_nb _) ?_
    refine ⟨?_, hI, hF⟩
    rfl
  | 8, _ =>
    refine g_tableIn (pc := 152) (off := 87) 239 dX11_told_152 (by decide) (by decide) (by decide) (by decide) ?_
    refine g_aload_n (pc := 239) dX11_told_239 rfl ?_
    refine g_getfield (pc := 240) f_X11_203_11 dX11_told_240 hI.1 mf_35 ?_
    refine g_ireturn (pc := 243) dX11_told_243 rfl (by first | exact rfl | exact j_nb _) ?_
    refine ⟨?_, hI, hF⟩
    show _ = Sum.inl (some (vI (V 0 35)))
    rw [show thr0 V 0 35 = V 0 35 from sv_nj (by decide)]
  | 9, _ =>
    refine g_tableIn (pc := 152) (off := 92) 244 dX11_told_152 (by decide) (by decide) (by decide) (by decide) ?_
    refine g_aload_n (pc := 244) dX11_told_244 rfl ?_
    refine g_getfield (pc := 245) f_X11_209_11 dX11_told_245 hI.1 mf_37 ?_
    refine g_ireturn (pc := 248) dX11_told_248 rfl (by first | exact rfl | exact j_nb _) ?_
    refine ⟨?_, hI, hF⟩
    show _ = Sum.inl (some (vI (V 0 37)))
    rw [show thr0 V 0 37 = V 0 37 from sv_nj (by decide)]
  | 10, _ =>
    refine g_tableOut (pc := 152) 249 dX11_told_152 (by decide) (by decide) ?_
    refine g_aload_n (pc := 249) dX11_told_249 rfl ?_
    refine g_aload_n (pc := 250) dX11_told_250 rfl ?_
    refine g_getfield (pc := 251) f_X11_73_11 dX11_told_251 hI.1 mf_31 ?_
    refine m_cP (pc := 254) (M' := mX11_powersIn) (as := [_]) i_X11_333_11 eX11_powersIn hI dX11_told_254 (c_powersIn (by omega) hI hT hl (k := 31) rfl) (by omega) rfl rfl (Nat.le_of_ble_eq_true rfl) ?_
    refine g_ireturn (pc := 257) dX11_told_257 rfl (by first | exact rfl | exact j_nb _) ?_
    refine ⟨?_, hI, hF⟩
    show _ = Sum.inl (some (vI (sumI (pwN V D nR) nR)))
    rw [← thr0_pw]
  | x + 11, hx => exact absurd hx (by omega)
end
