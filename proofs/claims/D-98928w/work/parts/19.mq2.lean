/-! THE REFERENCE: questions with a loop. Printed by m_q2.py -/
set_option maxRecDepth 100000
abbrev pwN (V : mV) (D : Nat → Nat → Nat) (nR : Nat) : Nat → Int32 := pwr (mlaw V) D nR (V 31)
theorem thr0_now {V : mV} : thr0 V 31 = V 31 := sv_ne (by decide)
theorem thr0_pw {V : mV} {D : Nat → Nat → Nat} {nR : Nat} : pwN (thr0 V) D nR = pwN V D nR := by
  unfold pwN thr0
  rw [mlaw_f0 (by decide), sv_ne (by decide)]
def needF (D : Nat → Nat → Nat) (R : Nat → Int32) (w : Int32) (p : Nat) : Int32 := if nI (D 3 p) = w ∧ R (36 + p) = -1 then nI (D 4 p) else 0
/-- the first of those with p whose f is the most, and how much: from b, m on -/
def bestF (p : Nat → Bool) (f : Nat → Int32) (m0 : Int32) : Nat → Int32 × Int32
  | 0 => (-1, m0)
  | r + 1 => if p r = true ∧ (bestF p f m0 r).2 < f r then (nI r, f r) else bestF p f m0 r
def strF (D : Nat → Nat → Nat) (f : Nat → Int32) (w : Int32) (r : Nat) : Int32 := if nI (D 0 r) = w then f r else 0
def barF (D : Nat → Nat → Nat) (R : Nat → Int32) : Nat → Int32
  | 0 => 63
  | r + 1 => if kpd R r = true then barF D R r &&& (bitI (D 1 r) ^^^ -1) else barF D R r &&& barF D R r
def idlB (D : Nat → Nat → Nat) (nR : Nat) (R : Nat → Int32) (s : Nat) : Bool := decide (R s = 0) && decide (bitsI (kpS D R s) nR = 0)
section
variable {E : jE} {d : Nat} {h : jH} {am : Nat → Nat} {V : mV} {D : Nat → Nat → Nat} {nS nR nP k : Nat}
set_option maxHeartbeats 2000000 in
theorem l_needs {bc bs : Nat} {Q : jR → jH → Prop} (hd : 6 ≤ d) (hI : InvM am V h) (hT : MT V D nS nR nP) (w : Int32) : ∀ (m r : Nat), nP - r = m → r ≤ nP → G E d bc bs mX11_needs 90 [some (vR (nMo am)), some (vI w), some (vI (sumI (needF D (V 31) w) nP)), some (vI (nI nP))] [] h Q → G E d bc bs mX11_needs 34 [some (vR (nMo am)), some (vI w), some (vI (sumI (needF D (V 31) w) r)), some (vI (nI r))] [] h Q := by
  intro m
  induction m with
  | zero =>
    intro r hm hr kk
    have e : r = nP := by omega
    subst e
    have b8 := hT.2.2.2.1
    have b10 := hT.2.2.2.2.1
    have bP := hT.2.2.2.2.2.1
    refine g_iload_n (pc := 34) dX11_needs_34 rfl ?_
    refine g_aload_n (pc := 35) dX11_needs_35 rfl ?_
    refine g_getfield (pc := 36) f_X11_23_11 dX11_needs_36 hI.1 mf_12 ?_
    refine g_iconst (pc := 39) (v := 2) dX11_needs_39 (by decide) ?_
    refine g_iaload (pc := 40) dX11_needs_40 (mA hI 12 3 rfl (by decide)) (j := 2) (by decide) (by omega) (by decide) rfl ?_
    rw [hT.2.2.1]
    refine g_icmp_ge (pc := 41) 90 dX11_needs_41 (by decide) (fun c_41 => ?_) (fun c_41 => absurd (nI_le (Nat.le_refl _) (by omega)) c_41)
    exact kk
  | succ m ih =>
    intro r hm hr kk
    have b8 := hT.2.2.2.1
    have b10 := hT.2.2.2.2.1
    have bP := hT.2.2.2.2.2.1
    have hpp := hT.2.2.2.2.2.2.2.1 r (by omega)
    refine g_iload_n (pc := 34) dX11_needs_34 rfl ?_
    refine g_aload_n (pc := 35) dX11_needs_35 rfl ?_
    refine g_getfield (pc := 36) f_X11_23_11 dX11_needs_36 hI.1 mf_12 ?_
    refine g_iconst (pc := 39) (v := 2) dX11_needs_39 (by decide) ?_
    refine g_iaload (pc := 40) dX11_needs_40 (mA hI 12 3 rfl (by decide)) (j := 2) (by decide) (by omega) (by decide) rfl ?_
    rw [hT.2.2.1]
    refine g_icmp_ge (pc := 41) 90 dX11_needs_41 (by decide) (fun c_41 => absurd c_41 (by intro w; have := (nI_leI (by omega) (by omega)).mp w; omega)) (fun c_41 => ?_)
    refine g_iload_n (pc := 44) dX11_needs_44 rfl ?_
    refine g_aload_n (pc := 45) dX11_needs_45 rfl ?_
    refine g_getfield (pc := 46) f_X11_49_11 dX11_needs_46 hI.1 mf_20 ?_
    refine g_iload_n (pc := 49) dX11_needs_49 rfl ?_
    refine g_aaload (pc := 50) (t := 5) rfl rfl dX11_needs_50 (mG hI 20 8 rfl (by decide)) rfl (by omega) (by decide) rfl ?_
    refine g_iconst (pc := 51) (v := 0) dX11_needs_51 (by decide) ?_
    refine g_iaload (pc := 52) dX11_needs_52 (mR hI 20 2 _ rfl (by show _ < 8; omega)) (j := 0) (by decide) (by omega) (by decide) rfl ?_
    rw [hpp.1]
    refine g_iload_n (pc := 53) dX11_needs_53 rfl ?_
    refine g_icmp_ne (pc := 54) 81 dX11_needs_54 (by decide) (fun c_54 => ?_) (fun c_54 => ?_)
    · refine g_iconst (pc := 81) (v := 0) dX11_needs_81 (by decide) ?_
      refine g_iadd (pc := 82) dX11_needs_82 ?_
      refine g_istore_n (pc := 83) (ls' := [_, _, _, _]) dX11_needs_83 (by decide) rfl rfl ?_
      refine g_iinc (pc := 84) (ls' := [_, _, _, _]) dX11_needs_84 rfl (by first | exact nI_1 _ | exact rfl) (by decide) rfl rfl ?_
      refine g_goto (pc := 87) 34 dX11_needs_87 (by decide) ?_
      have e0 : sumI (needF D (V 31) w) (r + 1) = _ := show sumI (needF D (V 31) w) r + needF D (V 31) w r = _ from by unfold needF; rw [if_neg (fun q => c_54 q.1)]
      have q := ih (r + 1) (by omega) (by omega) kk
      rw [e0] at q
      exact q
    · refine g_aload_n (pc := 57) dX11_needs_57 rfl ?_
      refine g_getfield (pc := 58) f_X11_73_11 dX11_needs_58 hI.1 mf_31 ?_
      refine g_bipush (pc := 61) (v := 36) dX11_needs_61 (by decide) ?_
      refine g_iload_n (pc := 63) dX11_needs_63 rfl ?_
      refine g_iadd (pc := 64) dX11_needs_64 ?_
      refine g_iaload (pc := 65) dX11_needs_65 (mA hI 31 45 rfl (by decide)) (j := 36 + r) (nI_add 36 r) (by omega) (by decide) rfl ?_
      refine g_iconst (pc := 66) (v := -1) dX11_needs_66 (by decide) ?_
      refine g_icmp_ne (pc := 67) 81 dX11_needs_67 (by decide) (fun c_67 => ?_) (fun c_67 => ?_)
      · refine g_iconst (pc := 81) (v := 0) dX11_needs_81 (by decide) ?_
        refine g_iadd (pc := 82) dX11_needs_82 ?_
        refine g_istore_n (pc := 83) (ls' := [_, _, _, _]) dX11_needs_83 (by decide) rfl rfl ?_
        refine g_iinc (pc := 84) (ls' := [_, _, _, _]) dX11_needs_84 rfl (by first | exact nI_1 _ | exact rfl) (by decide) rfl rfl ?_
        refine g_goto (pc := 87) 34 dX11_needs_87 (by decide) ?_
        have e0 : sumI (needF D (V 31) w) (r + 1) = _ := show sumI (needF D (V 31) w) r + needF D (V 31) w r = _ from by unfold needF; rw [if_neg (fun q => c_67 q.2)]
        have q := ih (r + 1) (by omega) (by omega) kk
        rw [e0] at q
        exact q
      · refine g_aload_n (pc := 70) dX11_needs_70 rfl ?_
        refine g_getfield (pc := 71) f_X11_49_11 dX11_needs_71 hI.1 mf_20 ?_
        refine g_iload_n (pc := 74) dX11_needs_74 rfl ?_
        refine g_aaload (pc := 75) (t := 5) rfl rfl dX11_needs_75 (mG hI 20 8 rfl (by decide)) rfl (by omega) (by decide) rfl ?_
        refine g_iconst (pc := 76) (v := 1) dX11_needs_76 (by decide) ?_
        refine g_iaload (pc := 77) dX11_needs_77 (mR hI 20 2 _ rfl (by show _ < 8; omega)) (j := 1) (by decide) (by omega) (by decide) rfl ?_
        rw [hpp.2.1]
        refine g_goto (pc := 78) 82 dX11_needs_78 (by decide) ?_
        refine g_iadd (pc := 82) dX11_needs_82 ?_
        refine g_istore_n (pc := 83) (ls' := [_, _, _, _]) dX11_needs_83 (by decide) rfl rfl ?_
        refine g_iinc (pc := 84) (ls' := [_, _, _, _]) dX11_needs_84 rfl (by first | exact nI_1 _ | exact rfl) (by decide) rfl rfl ?_
        refine g_goto (pc := 87) 34 dX11_needs_87 (by decide) ?_
        have e0 : sumI (needF D (V 31) w) (r + 1) = _ := show sumI (needF D (V 31) w) r + needF D (V 31) w r = _ from by unfold needF; rw [if_pos ⟨c_54, c_67⟩]
        have q := ih (r + 1) (by omega) (by omega) kk
        rw [e0] at q
        exact q
set_option maxHeartbeats 2000000 in
theorem c_mneeds (hd : 8 ≤ d) (hI : InvM am V h) (hT : MT V D nS nR nP) (hl : okL V) (w : Int32) (hv : inR w 0 5 = true) : Ct E d 0 0 mX11_needs [vR (nMo am), vI w] h (mQ am (thr0 V) h (some (vI (sumI (needF D (V 31) w) nP)))) := by
  refine ct_of (by decide) (Nat.le_of_ble_eq_true rfl) rfl ?_
  have hF : mFr h h := mFr.rf
  have hT := MT.f0 (j := 0) (y := 0) hT
  have hl := okL.f0 (j := 0) (y := 0) hl (by decide)
  change MT (thr0 V) D nS nR nP at hT
  change okL (thr0 V) at hl
  refine g_aload_n (pc := 0) dX11_needs_0 rfl ?_
  refine g_iconst (pc := 1) (v := 0) dX11_needs_1 (by decide) ?_
  refine m_put (pc := 2) hI w_X11_103_11 rfl (by decide) dX11_needs_2 (fun h hI fr => ?_)
  replace hF := mFr.tr hF fr
  change InvM am (thr0 V) h at hI
  refine g_aload_n (pc := 5) dX11_needs_5 rfl ?_
  refine g_iload_n (pc := 6) dX11_needs_6 rfl ?_
  refine g_iconst (pc := 7) (v := 0) dX11_needs_7 (by decide) ?_
  refine g_iconst (pc := 8) (v := 5) dX11_needs_8 (by decide) ?_
  refine g_cS (pc := 9) (M' := mX11_in) (as := [_, _, _]) i_X11_137 eX11_in dX11_needs_9 (c_in _ _ _) (by omega) rfl rfl (Nat.le_of_ble_eq_true rfl) ?_
  refine g_ifB_ne (pc := 12) 19 dX11_needs_12 (by decide) (fun c_12 => ?_) (fun c_12 => absurd (hv.symm.trans c_12) (by decide))
  refine g_iconst (pc := 19) (v := 0) dX11_needs_19 (by decide) ?_
  refine g_iconst (pc := 20) (v := 1) dX11_needs_20 (by decide) ?_
  refine g_iconst (pc := 21) (v := 1) dX11_needs_21 (by decide) ?_
  refine m_cV (pc := 22) (M' := mX11_bad) (as := [_, _, _]) i_X11_183_11 eX11_bad hI dX11_needs_22 (c_badF hI thr0_0 1 1 (by decide)) (by omega) rfl rfl (Nat.le_of_ble_eq_true rfl) (fun h hI fr => ?_)
  replace hF := mFr.tr hF fr
  refine g_ifB_eq (pc := 25) 30 dX11_needs_25 (by decide) (fun c_25 => ?_) (fun c_25 => absurd c_25 (by decide))
  refine g_iconst (pc := 30) (v := 0) dX11_needs_30 (by decide) ?_
  refine g_istore_n (pc := 31) (ls' := [_, _, _, _]) dX11_needs_31 (by decide) rfl rfl ?_
  refine g_iconst (pc := 32) (v := 0) dX11_needs_32 (by decide) ?_
  refine g_istore_n (pc := 33) (ls' := [_, _, _, _]) dX11_needs_33 (by decide) rfl rfl ?_
  refine l_needs (by omega) hI hT w nP 0 rfl (Nat.zero_le _) ?_
  rw [thr0_now]
  refine g_iload_n (pc := 90) dX11_needs_90 rfl ?_
  refine g_ireturn (pc := 91) dX11_needs_91 rfl (by first | exact rfl | exact j_nb _) ?_
  exact ⟨rfl, hI, hF⟩
set_option maxHeartbeats 2000000 in
theorem l_strongest {bc bs : Nat} {Q : jR → jH → Prop} (hd : 6 ≤ d) (hI : InvM am V h) (hT : MT V D nS nR nP) (hl : okL V) (w : Int32) : ∀ (m r : Nat), nR - r = m → r ≤ nR → G E d bc bs mX11_strongest 97 [some (vR (nMo am)), some (vI w), some (vI (bestF (kpd (V 31)) (pwN V D nR) (-1) nR).1), some (vI (bestF (kpd (V 31)) (pwN V D nR) (-1) nR).2), some (vI (nI nR))] [] h Q → G E d bc bs mX11_strongest 37 [some (vR (nMo am)), some (vI w), some (vI (bestF (kpd (V 31)) (pwN V D nR) (-1) r).1), some (vI (bestF (kpd (V 31)) (pwN V D nR) (-1) r).2), some (vI (nI r))] [] h Q := by
  intro m
  induction m with
  | zero =>
    intro r hm hr kk
    have e : r = nR := by omega
    subst e
    have b8 := hT.2.2.2.1
    have b10 := hT.2.2.2.2.1
    have bP := hT.2.2.2.2.2.1
    refine g_iload (pc := 37) dX11_strongest_37 rfl ?_
    refine g_aload_n (pc := 39) dX11_strongest_39 rfl ?_
    refine g_getfield (pc := 40) f_X11_23_11 dX11_strongest_40 hI.1 mf_12 ?_
    refine g_iconst (pc := 43) (v := 1) dX11_strongest_43 (by decide) ?_
    refine g_iaload (pc := 44) dX11_strongest_44 (mA hI 12 3 rfl (by decide)) (j := 1) (by decide) (by omega) (by decide) rfl ?_
    rw [hT.2.1]
    refine g_icmp_ge (pc := 45) 97 dX11_strongest_45 (by decide) (fun c_45 => ?_) (fun c_45 => absurd (nI_le (Nat.le_refl _) (by omega)) c_45)
    exact kk
  | succ m ih =>
    intro r hm hr kk
    have b8 := hT.2.2.2.1
    have b10 := hT.2.2.2.2.1
    have bP := hT.2.2.2.2.2.1
    have hrr := hT.2.2.2.2.2.2.1 r (by omega)
    refine g_iload (pc := 37) dX11_strongest_37 rfl ?_
    refine g_aload_n (pc := 39) dX11_strongest_39 rfl ?_
    refine g_getfield (pc := 40) f_X11_23_11 dX11_strongest_40 hI.1 mf_12 ?_
    refine g_iconst (pc := 43) (v := 1) dX11_strongest_43 (by decide) ?_
    refine g_iaload (pc := 44) dX11_strongest_44 (mA hI 12 3 rfl (by decide)) (j := 1) (by decide) (by omega) (by decide) rfl ?_
    rw [hT.2.1]
    refine g_icmp_ge (pc := 45) 97 dX11_strongest_45 (by decide) (fun c_45 => absurd c_45 (by intro w; have := (nI_leI (by omega) (by omega)).mp w; omega)) (fun c_45 => ?_)
    refine g_aload_n (pc := 48) dX11_strongest_48 rfl ?_
    refine g_getfield (pc := 49) f_X11_73_11 dX11_strongest_49 hI.1 mf_31 ?_
    refine g_iload (pc := 52) dX11_strongest_52 rfl ?_
    refine g_cS (pc := 54) (M' := mX11_isKept) (as := [_, _]) i_X11_267 eX11_isKept dX11_strongest_54 (c_isKept hI (k := 31) rfl r (by omega)) (by omega) rfl rfl (Nat.le_of_ble_eq_true rfl) ?_
    refine g_ifB_eq (pc := 57) 91 dX11_strongest_57 (by decide) (fun c_57 => ?_) (fun c_57 => ?_)
    · refine g_iinc (pc := 91) (ls' := [_, _, _, _, _]) dX11_strongest_91 rfl (by first | exact nI_1 _ | exact rfl) (by decide) rfl rfl ?_
      refine g_goto (pc := 94) 37 dX11_strongest_94 (by decide) ?_
      have e0 : bestF (kpd (V 31)) (pwN V D nR) (-1) (r + 1) = _ := show (if _ then _ else _) = _ from by rw [if_neg (fun q => absurd (c_57.symm.trans q.1) (by decide))]
      have q := ih (r + 1) (by omega) (by omega) kk
      rw [e0] at q
      exact q
    · refine g_aload_n (pc := 60) dX11_strongest_60 rfl ?_
      refine g_aload_n (pc := 61) dX11_strongest_61 rfl ?_
      refine g_getfield (pc := 62) f_X11_73_11 dX11_strongest_62 hI.1 mf_31 ?_
      refine g_iload (pc := 65) dX11_strongest_65 rfl ?_
      refine m_cP (pc := 67) (M' := mX11_power) (as := [_, _]) i_X11_289_11 eX11_power hI dX11_strongest_67 (c_power (by omega) hI hT hl (k := 31) rfl r (by omega)) (by omega) rfl rfl (Nat.le_of_ble_eq_true rfl) ?_
      refine g_iload_n (pc := 70) dX11_strongest_70 rfl ?_
      refine g_icmp_gt (pc := 71) 77 dX11_strongest_71 (by decide) (fun c_71 => ?_) (fun c_71 => ?_)
      · refine g_iload (pc := 77) dX11_strongest_77 rfl ?_
        refine g_istore_n (pc := 79) (ls' := [_, _, _, _, _]) dX11_strongest_79 (by decide) rfl rfl ?_
        refine g_aload_n (pc := 80) dX11_strongest_80 rfl ?_
        refine g_aload_n (pc := 81) dX11_strongest_81 rfl ?_
        refine g_getfield (pc := 82) f_X11_73_11 dX11_strongest_82 hI.1 mf_31 ?_
        refine g_iload (pc := 85) dX11_strongest_85 rfl ?_
        refine m_cP (pc := 87) (M' := mX11_power) (as := [_, _]) i_X11_289_11 eX11_power hI dX11_strongest_87 (c_power (by omega) hI hT hl (k := 31) rfl r (by omega)) (by omega) rfl rfl (Nat.le_of_ble_eq_true rfl) ?_
        refine g_istore_n (pc := 90) (ls' := [_, _, _, _, _]) dX11_strongest_90 (by decide) rfl rfl ?_
        refine g_iinc (pc := 91) (ls' := [_, _, _, _, _]) dX11_strongest_91 rfl (by first | exact nI_1 _ | exact rfl) (by decide) rfl rfl ?_
        refine g_goto (pc := 94) 37 dX11_strongest_94 (by decide) ?_
        have e0 : bestF (kpd (V 31)) (pwN V D nR) (-1) (r + 1) = _ := show (if _ then _ else _) = _ from by rw [if_pos ⟨c_57, c_71⟩]
        have q := ih (r + 1) (by omega) (by omega) kk
        rw [e0] at q
        exact q
      · refine g_goto (pc := 74) 91 dX11_strongest_74 (by decide) ?_
        refine g_iinc (pc := 91) (ls' := [_, _, _, _, _]) dX11_strongest_91 rfl (by first | exact nI_1 _ | exact rfl) (by decide) rfl rfl ?_
        refine g_goto (pc := 94) 37 dX11_strongest_94 (by decide) ?_
        have e0 : bestF (kpd (V 31)) (pwN V D nR) (-1) (r + 1) = _ := show (if _ then _ else _) = _ from by rw [if_neg (fun q => c_71 q.2)]
        have q := ih (r + 1) (by omega) (by omega) kk
        rw [e0] at q
        exact q
set_option maxHeartbeats 2000000 in
theorem c_mstrongest (hd : 8 ≤ d) (hI : InvM am V h) (hT : MT V D nS nR nP) (hl : okL V) (w : Int32) (hv : inR w 0 1 = true) : Ct E d 0 0 mX11_strongest [vR (nMo am), vI w] h (mQ am (thr0 V) h (some (vI (if w = 0 then (bestF (kpd (V 31)) (pwN V D nR) (-1) nR).1 else (bestF (kpd (V 31)) (pwN V D nR) (-1) nR).2)))) := by
  refine ct_of (by decide) (Nat.le_of_ble_eq_true rfl) rfl ?_
  have hF : mFr h h := mFr.rf
  have hT := MT.f0 (j := 0) (y := 0) hT
  have hl := okL.f0 (j := 0) (y := 0) hl (by decide)
  change MT (thr0 V) D nS nR nP at hT
  change okL (thr0 V) at hl
  refine g_aload_n (pc := 0) dX11_strongest_0 rfl ?_
  refine g_iconst (pc := 1) (v := 0) dX11_strongest_1 (by decide) ?_
  refine m_put (pc := 2) hI w_X11_103_11 rfl (by decide) dX11_strongest_2 (fun h hI fr => ?_)
  replace hF := mFr.tr hF fr
  change InvM am (thr0 V) h at hI
  refine g_aload_n (pc := 5) dX11_strongest_5 rfl ?_
  refine g_iload_n (pc := 6) dX11_strongest_6 rfl ?_
  refine g_iconst (pc := 7) (v := 0) dX11_strongest_7 (by decide) ?_
  refine g_iconst (pc := 8) (v := 1) dX11_strongest_8 (by decide) ?_
  refine g_cS (pc := 9) (M' := mX11_in) (as := [_, _, _]) i_X11_137 eX11_in dX11_strongest_9 (c_in _ _ _) (by omega) rfl rfl (Nat.le_of_ble_eq_true rfl) ?_
  refine g_ifB_ne (pc := 12) 19 dX11_strongest_12 (by decide) (fun c_12 => ?_) (fun c_12 => absurd (hv.symm.trans c_12) (by decide))
  refine g_iconst (pc := 19) (v := 0) dX11_strongest_19 (by decide) ?_
  refine g_iconst (pc := 20) (v := 1) dX11_strongest_20 (by decide) ?_
  refine g_iconst (pc := 21) (v := 1) dX11_strongest_21 (by decide) ?_
  refine m_cV (pc := 22) (M' := mX11_bad) (as := [_, _, _]) i_X11_183_11 eX11_bad hI dX11_strongest_22 (c_badF hI thr0_0 1 1 (by decide)) (by omega) rfl rfl (Nat.le_of_ble_eq_true rfl) (fun h hI fr => ?_)
  replace hF := mFr.tr hF fr
  refine g_ifB_eq (pc := 25) 30 dX11_strongest_25 (by decide) (fun c_25 => ?_) (fun c_25 => absurd c_25 (by decide))
  refine g_iconst (pc := 30) (v := -1) dX11_strongest_30 (by decide) ?_
  refine g_istore_n (pc := 31) (ls' := [_, _, _, _, _]) dX11_strongest_31 (by decide) rfl rfl ?_
  refine g_iconst (pc := 32) (v := -1) dX11_strongest_32 (by decide) ?_
  refine g_istore_n (pc := 33) (ls' := [_, _, _, _, _]) dX11_strongest_33 (by decide) rfl rfl ?_
  refine g_iconst (pc := 34) (v := 0) dX11_strongest_34 (by decide) ?_
  refine g_istore (pc := 35) (ls' := [_, _, _, _, _]) dX11_strongest_35 (by decide) rfl rfl ?_
  refine l_strongest (by omega) hI hT hl w nR 0 rfl (Nat.zero_le _) ?_
  rw [thr0_now, thr0_pw]
  refine g_iload_n (pc := 97) dX11_strongest_97 rfl ?_
  refine g_if_ne (pc := 98) 105 dX11_strongest_98 (by decide) (fun c_98 => ?_) (fun c_98 => ?_)
  · refine g_iload_n (pc := 105) dX11_strongest_105 rfl ?_
    refine g_ireturn (pc := 106) dX11_strongest_106 rfl (by first | exact rfl | exact j_nb _) ?_
    exact ⟨by simp [c_98], hI, hF⟩
  · refine g_iload_n (pc := 101) dX11_strongest_101 rfl ?_
    refine g_goto (pc := 102) 106 dX11_strongest_102 (by decide) ?_
    refine g_ireturn (pc := 106) dX11_strongest_106 rfl (by first | exact rfl | exact j_nb _) ?_
    exact ⟨by simp [c_98], hI, hF⟩
set_option maxHeartbeats 2000000 in
theorem l_eldest {bc bs : Nat} {Q : jR → jH → Prop} (hd : 6 ≤ d) (hI : InvM am V h) (hT : MT V D nS nR nP) (w : Int32) : ∀ (m r : Nat), nR - r = m → r ≤ nR → G E d bc bs mX11_eldest 85 [some (vR (nMo am)), some (vI w), some (vI (bestF (fun _ => true) (fun r => V 31 (16 + r)) (-1) nR).1), some (vI (bestF (fun _ => true) (fun r => V 31 (16 + r)) (-1) nR).2), some (vI (nI nR))] [] h Q → G E d bc bs mX11_eldest 37 [some (vR (nMo am)), some (vI w), some (vI (bestF (fun _ => true) (fun r => V 31 (16 + r)) (-1) r).1), some (vI (bestF (fun _ => true) (fun r => V 31 (16 + r)) (-1) r).2), some (vI (nI r))] [] h Q := by
  intro m
  induction m with
  | zero =>
    intro r hm hr kk
    have e : r = nR := by omega
    subst e
    have b8 := hT.2.2.2.1
    have b10 := hT.2.2.2.2.1
    have bP := hT.2.2.2.2.2.1
    refine g_iload (pc := 37) dX11_eldest_37 rfl ?_
    refine g_aload_n (pc := 39) dX11_eldest_39 rfl ?_
    refine g_getfield (pc := 40) f_X11_23_11 dX11_eldest_40 hI.1 mf_12 ?_
    refine g_iconst (pc := 43) (v := 1) dX11_eldest_43 (by decide) ?_
    refine g_iaload (pc := 44) dX11_eldest_44 (mA hI 12 3 rfl (by decide)) (j := 1) (by decide) (by omega) (by decide) rfl ?_
    rw [hT.2.1]
    refine g_icmp_ge (pc := 45) 85 dX11_eldest_45 (by decide) (fun c_45 => ?_) (fun c_45 => absurd (nI_le (Nat.le_refl _) (by omega)) c_45)
    exact kk
  | succ m ih =>
    intro r hm hr kk
    have b8 := hT.2.2.2.1
    have b10 := hT.2.2.2.2.1
    have bP := hT.2.2.2.2.2.1
    refine g_iload (pc := 37) dX11_eldest_37 rfl ?_
    refine g_aload_n (pc := 39) dX11_eldest_39 rfl ?_
    refine g_getfield (pc := 40) f_X11_23_11 dX11_eldest_40 hI.1 mf_12 ?_
    refine g_iconst (pc := 43) (v := 1) dX11_eldest_43 (by decide) ?_
    refine g_iaload (pc := 44) dX11_eldest_44 (mA hI 12 3 rfl (by decide)) (j := 1) (by decide) (by omega) (by decide) rfl ?_
    rw [hT.2.1]
    refine g_icmp_ge (pc := 45) 85 dX11_eldest_45 (by decide) (fun c_45 => absurd c_45 (by intro w; have := (nI_leI (by omega) (by omega)).mp w; omega)) (fun c_45 => ?_)
    refine g_aload_n (pc := 48) dX11_eldest_48 rfl ?_
    refine g_getfield (pc := 49) f_X11_73_11 dX11_eldest_49 hI.1 mf_31 ?_
    refine g_bipush (pc := 52) (v := 16) dX11_eldest_52 (by decide) ?_
    refine g_iload (pc := 54) dX11_eldest_54 rfl ?_
    refine g_iadd (pc := 56) dX11_eldest_56 ?_
    refine g_iaload (pc := 57) dX11_eldest_57 (mA hI 31 45 rfl (by decide)) (j := 16 + r) (nI_add 16 r) (by omega) (by decide) rfl ?_
    refine g_iload_n (pc := 58) dX11_eldest_58 rfl ?_
    refine g_icmp_gt (pc := 59) 65 dX11_eldest_59 (by decide) (fun c_59 => ?_) (fun c_59 => ?_)
    · refine g_iload (pc := 65) dX11_eldest_65 rfl ?_
      refine g_istore_n (pc := 67) (ls' := [_, _, _, _, _]) dX11_eldest_67 (by decide) rfl rfl ?_
      refine g_aload_n (pc := 68) dX11_eldest_68 rfl ?_
      refine g_getfield (pc := 69) f_X11_73_11 dX11_eldest_69 hI.1 mf_31 ?_
      refine g_bipush (pc := 72) (v := 16) dX11_eldest_72 (by decide) ?_
      refine g_iload (pc := 74) dX11_eldest_74 rfl ?_
      refine g_iadd (pc := 76) dX11_eldest_76 ?_
      refine g_iaload (pc := 77) dX11_eldest_77 (mA hI 31 45 rfl (by decide)) (j := 16 + r) (nI_add 16 r) (by omega) (by decide) rfl ?_
      refine g_istore_n (pc := 78) (ls' := [_, _, _, _, _]) dX11_eldest_78 (by decide) rfl rfl ?_
      refine g_iinc (pc := 79) (ls' := [_, _, _, _, _]) dX11_eldest_79 rfl (by first | exact nI_1 _ | exact rfl) (by decide) rfl rfl ?_
      refine g_goto (pc := 82) 37 dX11_eldest_82 (by decide) ?_
      have e0 : bestF (fun _ => true) (fun r => V 31 (16 + r)) (-1) (r + 1) = _ := show (if _ then _ else _) = _ from by rw [if_pos ⟨rfl, c_59⟩]
      have q := ih (r + 1) (by omega) (by omega) kk
      rw [e0] at q
      exact q
    · refine g_goto (pc := 62) 79 dX11_eldest_62 (by decide) ?_
      refine g_iinc (pc := 79) (ls' := [_, _, _, _, _]) dX11_eldest_79 rfl (by first | exact nI_1 _ | exact rfl) (by decide) rfl rfl ?_
      refine g_goto (pc := 82) 37 dX11_eldest_82 (by decide) ?_
      have e0 : bestF (fun _ => true) (fun r => V 31 (16 + r)) (-1) (r + 1) = _ := show (if _ then _ else _) = _ from by rw [if_neg (fun q => c_59 q.2)]
      have q := ih (r + 1) (by omega) (by omega) kk
      rw [e0] at q
      exact q
set_option maxHeartbeats 2000000 in
theorem c_meldest (hd : 8 ≤ d) (hI : InvM am V h) (hT : MT V D nS nR nP) (hl : okL V) (w : Int32) (hv : inR w 0 1 = true) : Ct E d 0 0 mX11_eldest [vR (nMo am), vI w] h (mQ am (thr0 V) h (some (vI (if w = 0 then (bestF (fun _ => true) (fun r => V 31 (16 + r)) (-1) nR).1 else (bestF (fun _ => true) (fun r => V 31 (16 + r)) (-1) nR).2)))) := by
  refine ct_of (by decide) (Nat.le_of_ble_eq_true rfl) rfl ?_
  have hF : mFr h h := mFr.rf
  have hT := MT.f0 (j := 0) (y := 0) hT
  have hl := okL.f0 (j := 0) (y := 0) hl (by decide)
  change MT (thr0 V) D nS nR nP at hT
  change okL (thr0 V) at hl
  refine g_aload_n (pc := 0) dX11_eldest_0 rfl ?_
  refine g_iconst (pc := 1) (v := 0) dX11_eldest_1 (by decide) ?_
  refine m_put (pc := 2) hI w_X11_103_11 rfl (by decide) dX11_eldest_2 (fun h hI fr => ?_)
  replace hF := mFr.tr hF fr
  change InvM am (thr0 V) h at hI
  refine g_aload_n (pc := 5) dX11_eldest_5 rfl ?_
  refine g_iload_n (pc := 6) dX11_eldest_6 rfl ?_
  refine g_iconst (pc := 7) (v := 0) dX11_eldest_7 (by decide) ?_
  refine g_iconst (pc := 8) (v := 1) dX11_eldest_8 (by decide) ?_
  refine g_cS (pc := 9) (M' := mX11_in) (as := [_, _, _]) i_X11_137 eX11_in dX11_eldest_9 (c_in _ _ _) (by omega) rfl rfl (Nat.le_of_ble_eq_true rfl) ?_
  refine g_ifB_ne (pc := 12) 19 dX11_eldest_12 (by decide) (fun c_12 => ?_) (fun c_12 => absurd (hv.symm.trans c_12) (by decide))
  refine g_iconst (pc := 19) (v := 0) dX11_eldest_19 (by decide) ?_
  refine g_iconst (pc := 20) (v := 1) dX11_eldest_20 (by decide) ?_
  refine g_iconst (pc := 21) (v := 1) dX11_eldest_21 (by decide) ?_
  refine m_cV (pc := 22) (M' := mX11_bad) (as := [_, _, _]) i_X11_183_11 eX11_bad hI dX11_eldest_22 (c_badF hI thr0_0 1 1 (by decide)) (by omega) rfl rfl (Nat.le_of_ble_eq_true rfl) (fun h hI fr => ?_)
  replace hF := mFr.tr hF fr
  refine g_ifB_eq (pc := 25) 30 dX11_eldest_25 (by decide) (fun c_25 => ?_) (fun c_25 => absurd c_25 (by decide))
  refine g_iconst (pc := 30) (v := -1) dX11_eldest_30 (by decide) ?_
  refine g_istore_n (pc := 31) (ls' := [_, _, _, _, _]) dX11_eldest_31 (by decide) rfl rfl ?_
  refine g_iconst (pc := 32) (v := -1) dX11_eldest_32 (by decide) ?_
  refine g_istore_n (pc := 33) (ls' := [_, _, _, _, _]) dX11_eldest_33 (by decide) rfl rfl ?_
  refine g_iconst (pc := 34) (v := 0) dX11_eldest_34 (by decide) ?_
  refine g_istore (pc := 35) (ls' := [_, _, _, _, _]) dX11_eldest_35 (by decide) rfl rfl ?_
  refine l_eldest (by omega) hI hT w nR 0 rfl (Nat.zero_le _) ?_
  rw [thr0_now]
  refine g_iload_n (pc := 85) dX11_eldest_85 rfl ?_
  refine g_if_ne (pc := 86) 93 dX11_eldest_86 (by decide) (fun c_86 => ?_) (fun c_86 => ?_)
  · refine g_iload_n (pc := 93) dX11_eldest_93 rfl ?_
    refine g_ireturn (pc := 94) dX11_eldest_94 rfl (by first | exact rfl | exact j_nb _) ?_
    exact ⟨by simp [*], hI, hF⟩
  · refine g_iload_n (pc := 89) dX11_eldest_89 rfl ?_
    refine g_goto (pc := 90) 94 dX11_eldest_90 (by decide) ?_
    refine g_ireturn (pc := 94) dX11_eldest_94 rfl (by first | exact rfl | exact j_nb _) ?_
    exact ⟨by simp [*], hI, hF⟩
set_option maxHeartbeats 2000000 in
theorem l_weakest {bc bs : Nat} {Q : jR → jH → Prop} (hd : 6 ≤ d) (hI : InvM am V h) (hT : MT V D nS nR nP) (w : Int32) : ∀ (m r : Nat), nS - r = m → r ≤ nS → G E d bc bs mX11_weakest 85 [some (vR (nMo am)), some (vI w), some (vI (bestF (fun _ => true) (fun s => V 31 (8 + s)) 0 nS).1), some (vI (bestF (fun _ => true) (fun s => V 31 (8 + s)) 0 nS).2), some (vI (nI nS))] [] h Q → G E d bc bs mX11_weakest 37 [some (vR (nMo am)), some (vI w), some (vI (bestF (fun _ => true) (fun s => V 31 (8 + s)) 0 r).1), some (vI (bestF (fun _ => true) (fun s => V 31 (8 + s)) 0 r).2), some (vI (nI r))] [] h Q := by
  intro m
  induction m with
  | zero =>
    intro r hm hr kk
    have e : r = nS := by omega
    subst e
    have b8 := hT.2.2.2.1
    have b10 := hT.2.2.2.2.1
    have bP := hT.2.2.2.2.2.1
    refine g_iload (pc := 37) dX11_weakest_37 rfl ?_
    refine g_aload_n (pc := 39) dX11_weakest_39 rfl ?_
    refine g_getfield (pc := 40) f_X11_23_11 dX11_weakest_40 hI.1 mf_12 ?_
    refine g_iconst (pc := 43) (v := 0) dX11_weakest_43 (by decide) ?_
    refine g_iaload (pc := 44) dX11_weakest_44 (mA hI 12 3 rfl (by decide)) (j := 0) (by decide) (by omega) (by decide) rfl ?_
    rw [hT.1]
    refine g_icmp_ge (pc := 45) 85 dX11_weakest_45 (by decide) (fun c_45 => ?_) (fun c_45 => absurd (nI_le (Nat.le_refl _) (by omega)) c_45)
    exact kk
  | succ m ih =>
    intro r hm hr kk
    have b8 := hT.2.2.2.1
    have b10 := hT.2.2.2.2.1
    have bP := hT.2.2.2.2.2.1
    refine g_iload (pc := 37) dX11_weakest_37 rfl ?_
    refine g_aload_n (pc := 39) dX11_weakest_39 rfl ?_
    refine g_getfield (pc := 40) f_X11_23_11 dX11_weakest_40 hI.1 mf_12 ?_
    refine g_iconst (pc := 43) (v := 0) dX11_weakest_43 (by decide) ?_
    refine g_iaload (pc := 44) dX11_weakest_44 (mA hI 12 3 rfl (by decide)) (j := 0) (by decide) (by omega) (by decide) rfl ?_
    rw [hT.1]
    refine g_icmp_ge (pc := 45) 85 dX11_weakest_45 (by decide) (fun c_45 => absurd c_45 (by intro w; have := (nI_leI (by omega) (by omega)).mp w; omega)) (fun c_45 => ?_)
    refine g_aload_n (pc := 48) dX11_weakest_48 rfl ?_
    refine g_getfield (pc := 49) f_X11_73_11 dX11_weakest_49 hI.1 mf_31 ?_
    refine g_bipush (pc := 52) (v := 8) dX11_weakest_52 (by decide) ?_
    refine g_iload (pc := 54) dX11_weakest_54 rfl ?_
    refine g_iadd (pc := 56) dX11_weakest_56 ?_
    refine g_iaload (pc := 57) dX11_weakest_57 (mA hI 31 45 rfl (by decide)) (j := 8 + r) (nI_add 8 r) (by omega) (by decide) rfl ?_
    refine g_iload_n (pc := 58) dX11_weakest_58 rfl ?_
    refine g_icmp_gt (pc := 59) 65 dX11_weakest_59 (by decide) (fun c_59 => ?_) (fun c_59 => ?_)
    · refine g_iload (pc := 65) dX11_weakest_65 rfl ?_
      refine g_istore_n (pc := 67) (ls' := [_, _, _, _, _]) dX11_weakest_67 (by decide) rfl rfl ?_
      refine g_aload_n (pc := 68) dX11_weakest_68 rfl ?_
      refine g_getfield (pc := 69) f_X11_73_11 dX11_weakest_69 hI.1 mf_31 ?_
      refine g_bipush (pc := 72) (v := 8) dX11_weakest_72 (by decide) ?_
      refine g_iload (pc := 74) dX11_weakest_74 rfl ?_
      refine g_iadd (pc := 76) dX11_weakest_76 ?_
      refine g_iaload (pc := 77) dX11_weakest_77 (mA hI 31 45 rfl (by decide)) (j := 8 + r) (nI_add 8 r) (by omega) (by decide) rfl ?_
      refine g_istore_n (pc := 78) (ls' := [_, _, _, _, _]) dX11_weakest_78 (by decide) rfl rfl ?_
      refine g_iinc (pc := 79) (ls' := [_, _, _, _, _]) dX11_weakest_79 rfl (by first | exact nI_1 _ | exact rfl) (by decide) rfl rfl ?_
      refine g_goto (pc := 82) 37 dX11_weakest_82 (by decide) ?_
      have e0 : bestF (fun _ => true) (fun s => V 31 (8 + s)) 0 (r + 1) = _ := show (if _ then _ else _) = _ from by rw [if_pos ⟨rfl, c_59⟩]
      have q := ih (r + 1) (by omega) (by omega) kk
      rw [e0] at q
      exact q
    · refine g_goto (pc := 62) 79 dX11_weakest_62 (by decide) ?_
      refine g_iinc (pc := 79) (ls' := [_, _, _, _, _]) dX11_weakest_79 rfl (by first | exact nI_1 _ | exact rfl) (by decide) rfl rfl ?_
      refine g_goto (pc := 82) 37 dX11_weakest_82 (by decide) ?_
      have e0 : bestF (fun _ => true) (fun s => V 31 (8 + s)) 0 (r + 1) = _ := show (if _ then _ else _) = _ from by rw [if_neg (fun q => c_59 q.2)]
      have q := ih (r + 1) (by omega) (by omega) kk
      rw [e0] at q
      exact q
set_option maxHeartbeats 2000000 in
theorem c_mweakest (hd : 8 ≤ d) (hI : InvM am V h) (hT : MT V D nS nR nP) (hl : okL V) (w : Int32) (hv : inR w 0 1 = true) : Ct E d 0 0 mX11_weakest [vR (nMo am), vI w] h (mQ am (thr0 V) h (some (vI (if w = 0 ∨ (bestF (fun _ => true) (fun s => V 31 (8 + s)) 0 nS).1 = -1 then (bestF (fun _ => true) (fun s => V 31 (8 + s)) 0 nS).1 else (bestF (fun _ => true) (fun s => V 31 (8 + s)) 0 nS).2)))) := by
  refine ct_of (by decide) (Nat.le_of_ble_eq_true rfl) rfl ?_
  have hF : mFr h h := mFr.rf
  have hT := MT.f0 (j := 0) (y := 0) hT
  have hl := okL.f0 (j := 0) (y := 0) hl (by decide)
  change MT (thr0 V) D nS nR nP at hT
  change okL (thr0 V) at hl
  refine g_aload_n (pc := 0) dX11_weakest_0 rfl ?_
  refine g_iconst (pc := 1) (v := 0) dX11_weakest_1 (by decide) ?_
  refine m_put (pc := 2) hI w_X11_103_11 rfl (by decide) dX11_weakest_2 (fun h hI fr => ?_)
  replace hF := mFr.tr hF fr
  change InvM am (thr0 V) h at hI
  refine g_aload_n (pc := 5) dX11_weakest_5 rfl ?_
  refine g_iload_n (pc := 6) dX11_weakest_6 rfl ?_
  refine g_iconst (pc := 7) (v := 0) dX11_weakest_7 (by decide) ?_
  refine g_iconst (pc := 8) (v := 1) dX11_weakest_8 (by decide) ?_
  refine g_cS (pc := 9) (M' := mX11_in) (as := [_, _, _]) i_X11_137 eX11_in dX11_weakest_9 (c_in _ _ _) (by omega) rfl rfl (Nat.le_of_ble_eq_true rfl) ?_
  refine g_ifB_ne (pc := 12) 19 dX11_weakest_12 (by decide) (fun c_12 => ?_) (fun c_12 => absurd (hv.symm.trans c_12) (by decide))
  refine g_iconst (pc := 19) (v := 0) dX11_weakest_19 (by decide) ?_
  refine g_iconst (pc := 20) (v := 1) dX11_weakest_20 (by decide) ?_
  refine g_iconst (pc := 21) (v := 1) dX11_weakest_21 (by decide) ?_
  refine m_cV (pc := 22) (M' := mX11_bad) (as := [_, _, _]) i_X11_183_11 eX11_bad hI dX11_weakest_22 (c_badF hI thr0_0 1 1 (by decide)) (by omega) rfl rfl (Nat.le_of_ble_eq_true rfl) (fun h hI fr => ?_)
  replace hF := mFr.tr hF fr
  refine g_ifB_eq (pc := 25) 30 dX11_weakest_25 (by decide) (fun c_25 => ?_) (fun c_25 => absurd c_25 (by decide))
  refine g_iconst (pc := 30) (v := -1) dX11_weakest_30 (by decide) ?_
  refine g_istore_n (pc := 31) (ls' := [_, _, _, _, _]) dX11_weakest_31 (by decide) rfl rfl ?_
  refine g_iconst (pc := 32) (v := 0) dX11_weakest_32 (by decide) ?_
  refine g_istore_n (pc := 33) (ls' := [_, _, _, _, _]) dX11_weakest_33 (by decide) rfl rfl ?_
  refine g_iconst (pc := 34) (v := 0) dX11_weakest_34 (by decide) ?_
  refine g_istore (pc := 35) (ls' := [_, _, _, _, _]) dX11_weakest_35 (by decide) rfl rfl ?_
  refine l_weakest (by omega) hI hT w nS 0 rfl (Nat.zero_le _) ?_
  rw [thr0_now]
  refine g_iload_n (pc := 85) dX11_weakest_85 rfl ?_
  refine g_if_eq (pc := 86) 94 dX11_weakest_86 (by decide) (fun c_86 => ?_) (fun c_86 => ?_)
  · refine g_iload_n (pc := 94) dX11_weakest_94 rfl ?_
    refine g_goto (pc := 95) 99 dX11_weakest_95 (by decide) ?_
    refine g_ireturn (pc := 99) dX11_weakest_99 rfl (by first | exact rfl | exact j_nb _) ?_
    exact ⟨by simp [*], hI, hF⟩
  · refine g_iload_n (pc := 89) dX11_weakest_89 rfl ?_
    refine g_iconst (pc := 90) (v := -1) dX11_weakest_90 (by decide) ?_
    refine g_icmp_ne (pc := 91) 98 dX11_weakest_91 (by decide) (fun c_91 => ?_) (fun c_91 => ?_)
    · refine g_iload_n (pc := 98) dX11_weakest_98 rfl ?_
      refine g_ireturn (pc := 99) dX11_weakest_99 rfl (by first | exact rfl | exact j_nb _) ?_
      exact ⟨by simp [*], hI, hF⟩
    · refine g_iload_n (pc := 94) dX11_weakest_94 rfl ?_
      refine g_goto (pc := 95) 99 dX11_weakest_95 (by decide) ?_
      refine g_ireturn (pc := 99) dX11_weakest_99 rfl (by first | exact rfl | exact j_nb _) ?_
      exact ⟨by simp [*], hI, hF⟩
set_option maxHeartbeats 2000000 in
theorem l_idle {bc bs : Nat} {Q : jR → jH → Prop} (hd : 6 ≤ d) (hI : InvM am V h) (hT : MT V D nS nR nP)  : ∀ (m r : Nat), nS - r = m → r ≤ nS → G E d bc bs mX11_idle 58 [some (vR (nMo am)), some (vI (bitsI (idlB D nR (V 31)) nS)), some (vI (nI nS))] [] h Q → G E d bc bs mX11_idle 9 [some (vR (nMo am)), some (vI (bitsI (idlB D nR (V 31)) r)), some (vI (nI r))] [] h Q := by
  intro m
  induction m with
  | zero =>
    intro r hm hr kk
    have e : r = nS := by omega
    subst e
    have b8 := hT.2.2.2.1
    have b10 := hT.2.2.2.2.1
    have bP := hT.2.2.2.2.2.1
    refine g_iload_n (pc := 9) dX11_idle_9 rfl ?_
    refine g_aload_n (pc := 10) dX11_idle_10 rfl ?_
    refine g_getfield (pc := 11) f_X11_23_11 dX11_idle_11 hI.1 mf_12 ?_
    refine g_iconst (pc := 14) (v := 0) dX11_idle_14 (by decide) ?_
    refine g_iaload (pc := 15) dX11_idle_15 (mA hI 12 3 rfl (by decide)) (j := 0) (by decide) (by omega) (by decide) rfl ?_
    rw [hT.1]
    refine g_icmp_ge (pc := 16) 58 dX11_idle_16 (by decide) (fun c_16 => ?_) (fun c_16 => absurd (nI_le (Nat.le_refl _) (by omega)) c_16)
    exact kk
  | succ m ih =>
    intro r hm hr kk
    have b8 := hT.2.2.2.1
    have b10 := hT.2.2.2.2.1
    have bP := hT.2.2.2.2.2.1
    refine g_iload_n (pc := 9) dX11_idle_9 rfl ?_
    refine g_aload_n (pc := 10) dX11_idle_10 rfl ?_
    refine g_getfield (pc := 11) f_X11_23_11 dX11_idle_11 hI.1 mf_12 ?_
    refine g_iconst (pc := 14) (v := 0) dX11_idle_14 (by decide) ?_
    refine g_iaload (pc := 15) dX11_idle_15 (mA hI 12 3 rfl (by decide)) (j := 0) (by decide) (by omega) (by decide) rfl ?_
    rw [hT.1]
    refine g_icmp_ge (pc := 16) 58 dX11_idle_16 (by decide) (fun c_16 => absurd c_16 (by intro w; have := (nI_leI (by omega) (by omega)).mp w; omega)) (fun c_16 => ?_)
    refine g_iload_n (pc := 19) dX11_idle_19 rfl ?_
    refine g_aload_n (pc := 20) dX11_idle_20 rfl ?_
    refine g_getfield (pc := 21) f_X11_73_11 dX11_idle_21 hI.1 mf_31 ?_
    refine g_iconst (pc := 24) (v := 0) dX11_idle_24 (by decide) ?_
    refine g_iload_n (pc := 25) dX11_idle_25 rfl ?_
    refine g_iadd (pc := 26) dX11_idle_26 ?_
    refine g_iaload (pc := 27) dX11_idle_27 (mA hI 31 45 rfl (by decide)) (j := r) (Int32.zero_add _) (by omega) (by decide) rfl ?_
    refine g_if_ne (pc := 28) 49 dX11_idle_28 (by decide) (fun c_28 => ?_) (fun c_28 => ?_)
    · refine g_iconst (pc := 49) (v := 0) dX11_idle_49 (by decide) ?_
      refine g_ior (pc := 50) dX11_idle_50 ?_
      refine g_istore_n (pc := 51) (ls' := [_, _, _]) dX11_idle_51 (by decide) rfl rfl ?_
      refine g_iinc (pc := 52) (ls' := [_, _, _]) dX11_idle_52 rfl (by first | exact nI_1 _ | exact rfl) (by decide) rfl rfl ?_
      refine g_goto (pc := 55) 9 dX11_idle_55 (by decide) ?_
      have e0 : bitsI (idlB D nR (V 31)) (r + 1) = _ := show bitsI (idlB D nR (V 31)) r ||| (if idlB D nR (V 31) r = true then bitI r else 0) = _ from by rw [if_neg (by simp [idlB, c_28])]
      have q := ih (r + 1) (by omega) (by omega) kk
      rw [e0] at q
      exact q
    · refine g_aload_n (pc := 31) dX11_idle_31 rfl ?_
      refine g_aload_n (pc := 32) dX11_idle_32 rfl ?_
      refine g_getfield (pc := 33) f_X11_73_11 dX11_idle_33 hI.1 mf_31 ?_
      refine g_iload_n (pc := 36) dX11_idle_36 rfl ?_
      refine m_cP (pc := 37) (M' := mX11_keptOf) (as := [_, _]) i_X11_274_11 eX11_keptOf hI dX11_idle_37 (c_keptOf (by omega) hI hT (k := 31) rfl r (by omega)) (by omega) rfl rfl (Nat.le_of_ble_eq_true rfl) ?_
      refine g_if_ne (pc := 40) 49 dX11_idle_40 (by decide) (fun c_40 => ?_) (fun c_40 => ?_)
      · refine g_iconst (pc := 49) (v := 0) dX11_idle_49 (by decide) ?_
        refine g_ior (pc := 50) dX11_idle_50 ?_
        refine g_istore_n (pc := 51) (ls' := [_, _, _]) dX11_idle_51 (by decide) rfl rfl ?_
        refine g_iinc (pc := 52) (ls' := [_, _, _]) dX11_idle_52 rfl (by first | exact nI_1 _ | exact rfl) (by decide) rfl rfl ?_
        refine g_goto (pc := 55) 9 dX11_idle_55 (by decide) ?_
        have e0 : bitsI (idlB D nR (V 31)) (r + 1) = _ := show bitsI (idlB D nR (V 31)) r ||| (if idlB D nR (V 31) r = true then bitI r else 0) = _ from by rw [if_neg (by simp [idlB, c_40])]
        have q := ih (r + 1) (by omega) (by omega) kk
        rw [e0] at q
        exact q
      · refine g_iconst (pc := 43) (v := 1) dX11_idle_43 (by decide) ?_
        refine g_iload_n (pc := 44) dX11_idle_44 rfl ?_
        refine g_ishl (pc := 45) dX11_idle_45 ?_
        refine g_goto (pc := 46) 50 dX11_idle_46 (by decide) ?_
        refine g_ior (pc := 50) dX11_idle_50 ?_
        refine g_istore_n (pc := 51) (ls' := [_, _, _]) dX11_idle_51 (by decide) rfl rfl ?_
        refine g_iinc (pc := 52) (ls' := [_, _, _]) dX11_idle_52 rfl (by first | exact nI_1 _ | exact rfl) (by decide) rfl rfl ?_
        refine g_goto (pc := 55) 9 dX11_idle_55 (by decide) ?_
        have e0 : bitsI (idlB D nR (V 31)) (r + 1) = _ := show bitsI (idlB D nR (V 31)) r ||| (if idlB D nR (V 31) r = true then bitI r else 0) = _ from by rw [if_pos (by simp [idlB, c_28, c_40])]
        have q := ih (r + 1) (by omega) (by omega) kk
        rw [e0] at q
        exact q
set_option maxHeartbeats 2000000 in
theorem c_midle (hd : 8 ≤ d) (hI : InvM am V h) (hT : MT V D nS nR nP) (hl : okL V)   : Ct E d 0 0 mX11_idle [vR (nMo am)] h (mQ am (thr0 V) h (some (vI (bitsI (idlB D nR (V 31)) nS)))) := by
  refine ct_of (by decide) (Nat.le_of_ble_eq_true rfl) rfl ?_
  have hF : mFr h h := mFr.rf
  have hT := MT.f0 (j := 0) (y := 0) hT
  have hl := okL.f0 (j := 0) (y := 0) hl (by decide)
  change MT (thr0 V) D nS nR nP at hT
  change okL (thr0 V) at hl
  refine g_aload_n (pc := 0) dX11_idle_0 rfl ?_
  refine g_iconst (pc := 1) (v := 0) dX11_idle_1 (by decide) ?_
  refine m_put (pc := 2) hI w_X11_103_11 rfl (by decide) dX11_idle_2 (fun h hI fr => ?_)
  replace hF := mFr.tr hF fr
  change InvM am (thr0 V) h at hI
  refine g_iconst (pc := 5) (v := 0) dX11_idle_5 (by decide) ?_
  refine g_istore_n (pc := 6) (ls' := [_, _, _]) dX11_idle_6 (by decide) rfl rfl ?_
  refine g_iconst (pc := 7) (v := 0) dX11_idle_7 (by decide) ?_
  refine g_istore_n (pc := 8) (ls' := [_, _, _]) dX11_idle_8 (by decide) rfl rfl ?_
  refine l_idle (by omega) hI hT nS 0 rfl (Nat.zero_le _) ?_
  rw [thr0_now]
  refine g_iload_n (pc := 58) dX11_idle_58 rfl ?_
  refine g_ireturn (pc := 59) dX11_idle_59 rfl (by first | exact rfl | exact j_nb _) ?_
  exact ⟨rfl, hI, hF⟩
set_option maxHeartbeats 2000000 in
theorem l_bare {bc bs : Nat} {Q : jR → jH → Prop} (hd : 6 ≤ d) (hI : InvM am V h) (hT : MT V D nS nR nP)  : ∀ (m r : Nat), nR - r = m → r ≤ nR → G E d bc bs mX11_bare 56 [some (vR (nMo am)), some (vI (barF D (V 31) nR)), some (vI (nI nR))] [] h Q → G E d bc bs mX11_bare 10 [some (vR (nMo am)), some (vI (barF D (V 31) r)), some (vI (nI r))] [] h Q := by
  intro m
  induction m with
  | zero =>
    intro r hm hr kk
    have e : r = nR := by omega
    subst e
    have b8 := hT.2.2.2.1
    have b10 := hT.2.2.2.2.1
    have bP := hT.2.2.2.2.2.1
    refine g_iload_n (pc := 10) dX11_bare_10 rfl ?_
    refine g_aload_n (pc := 11) dX11_bare_11 rfl ?_
    refine g_getfield (pc := 12) f_X11_23_11 dX11_bare_12 hI.1 mf_12 ?_
    refine g_iconst (pc := 15) (v := 1) dX11_bare_15 (by decide) ?_
    refine g_iaload (pc := 16) dX11_bare_16 (mA hI 12 3 rfl (by decide)) (j := 1) (by decide) (by omega) (by decide) rfl ?_
    rw [hT.2.1]
    refine g_icmp_ge (pc := 17) 56 dX11_bare_17 (by decide) (fun c_17 => ?_) (fun c_17 => absurd (nI_le (Nat.le_refl _) (by omega)) c_17)
    exact kk
  | succ m ih =>
    intro r hm hr kk
    have b8 := hT.2.2.2.1
    have b10 := hT.2.2.2.2.1
    have bP := hT.2.2.2.2.2.1
    have hrr := hT.2.2.2.2.2.2.1 r (by omega)
    refine g_iload_n (pc := 10) dX11_bare_10 rfl ?_
    refine g_aload_n (pc := 11) dX11_bare_11 rfl ?_
    refine g_getfield (pc := 12) f_X11_23_11 dX11_bare_12 hI.1 mf_12 ?_
    refine g_iconst (pc := 15) (v := 1) dX11_bare_15 (by decide) ?_
    refine g_iaload (pc := 16) dX11_bare_16 (mA hI 12 3 rfl (by decide)) (j := 1) (by decide) (by omega) (by decide) rfl ?_
    rw [hT.2.1]
    refine g_icmp_ge (pc := 17) 56 dX11_bare_17 (by decide) (fun c_17 => absurd c_17 (by intro w; have := (nI_leI (by omega) (by omega)).mp w; omega)) (fun c_17 => ?_)
    refine g_iload_n (pc := 20) dX11_bare_20 rfl ?_
    refine g_aload_n (pc := 21) dX11_bare_21 rfl ?_
    refine g_getfield (pc := 22) f_X11_73_11 dX11_bare_22 hI.1 mf_31 ?_
    refine g_iload_n (pc := 25) dX11_bare_25 rfl ?_
    refine g_cS (pc := 26) (M' := mX11_isKept) (as := [_, _]) i_X11_267 eX11_isKept dX11_bare_26 (c_isKept hI (k := 31) rfl r (by omega)) (by omega) rfl rfl (Nat.le_of_ble_eq_true rfl) ?_
    refine g_ifB_eq (pc := 29) 47 dX11_bare_29 (by decide) (fun c_29 => ?_) (fun c_29 => ?_)
    · refine g_iload_n (pc := 47) dX11_bare_47 rfl ?_
      refine g_iand (pc := 48) dX11_bare_48 ?_
      refine g_istore_n (pc := 49) (ls' := [_, _, _]) dX11_bare_49 (by decide) rfl rfl ?_
      refine g_iinc (pc := 50) (ls' := [_, _, _]) dX11_bare_50 rfl (by first | exact nI_1 _ | exact rfl) (by decide) rfl rfl ?_
      refine g_goto (pc := 53) 10 dX11_bare_53 (by decide) ?_
      have e0 : barF D (V 31) (r + 1) = _ := show (if _ then _ else _) = _ from by rw [if_neg (by rw [c_29]; decide)]
      have q := ih (r + 1) (by omega) (by omega) kk
      rw [e0] at q
      exact q
    · refine g_iconst (pc := 32) (v := 1) dX11_bare_32 (by decide) ?_
      refine g_aload_n (pc := 33) dX11_bare_33 rfl ?_
      refine g_getfield (pc := 34) f_X11_43_11 dX11_bare_34 hI.1 mf_18 ?_
      refine g_iload_n (pc := 37) dX11_bare_37 rfl ?_
      refine g_aaload (pc := 38) (t := 5) rfl rfl dX11_bare_38 (mG hI 18 10 rfl (by decide)) rfl (by omega) (by decide) rfl ?_
      refine g_iconst (pc := 39) (v := 1) dX11_bare_39 (by decide) ?_
      refine g_iaload (pc := 40) dX11_bare_40 (mR hI 18 3 _ rfl (by show _ < 10; omega)) (j := 1) (by decide) (by omega) (by decide) rfl ?_
      rw [hrr.2.1]
      refine g_ishl (pc := 41) dX11_bare_41 ?_
      refine g_iconst (pc := 42) (v := -1) dX11_bare_42 (by decide) ?_
      refine g_ixor (pc := 43) dX11_bare_43 ?_
      refine g_goto (pc := 44) 48 dX11_bare_44 (by decide) ?_
      refine g_iand (pc := 48) dX11_bare_48 ?_
      refine g_istore_n (pc := 49) (ls' := [_, _, _]) dX11_bare_49 (by decide) rfl rfl ?_
      refine g_iinc (pc := 50) (ls' := [_, _, _]) dX11_bare_50 rfl (by first | exact nI_1 _ | exact rfl) (by decide) rfl rfl ?_
      refine g_goto (pc := 53) 10 dX11_bare_53 (by decide) ?_
      have e0 : barF D (V 31) (r + 1) = _ := show (if _ then _ else _) = _ from by rw [if_pos c_29]
      have q := ih (r + 1) (by omega) (by omega) kk
      rw [e0] at q
      exact q
set_option maxHeartbeats 2000000 in
theorem c_mbare (hd : 8 ≤ d) (hI : InvM am V h) (hT : MT V D nS nR nP) (hl : okL V)   : Ct E d 0 0 mX11_bare [vR (nMo am)] h (mQ am (thr0 V) h (some (vI (barF D (V 31) nR)))) := by
  refine ct_of (by decide) (Nat.le_of_ble_eq_true rfl) rfl ?_
  have hF : mFr h h := mFr.rf
  have hT := MT.f0 (j := 0) (y := 0) hT
  have hl := okL.f0 (j := 0) (y := 0) hl (by decide)
  change MT (thr0 V) D nS nR nP at hT
  change okL (thr0 V) at hl
  refine g_aload_n (pc := 0) dX11_bare_0 rfl ?_
  refine g_iconst (pc := 1) (v := 0) dX11_bare_1 (by decide) ?_
  refine m_put (pc := 2) hI w_X11_103_11 rfl (by decide) dX11_bare_2 (fun h hI fr => ?_)
  replace hF := mFr.tr hF fr
  change InvM am (thr0 V) h at hI
  refine g_bipush (pc := 5) (v := 63) dX11_bare_5 (by decide) ?_
  refine g_istore_n (pc := 7) (ls' := [_, _, _]) dX11_bare_7 (by decide) rfl rfl ?_
  refine g_iconst (pc := 8) (v := 0) dX11_bare_8 (by decide) ?_
  refine g_istore_n (pc := 9) (ls' := [_, _, _]) dX11_bare_9 (by decide) rfl rfl ?_
  refine l_bare (by omega) hI hT nR 0 rfl (Nat.zero_le _) ?_
  rw [thr0_now]
  refine g_iload_n (pc := 56) dX11_bare_56 rfl ?_
  refine g_ireturn (pc := 57) dX11_bare_57 rfl (by first | exact rfl | exact j_nb _) ?_
  exact ⟨rfl, hI, hF⟩
set_option maxHeartbeats 2000000 in
theorem l_strength {bc bs : Nat} {Q : jR → jH → Prop} (hd : 6 ≤ d) (hI : InvM am V h) (hT : MT V D nS nR nP) (hl : okL V) (w : Int32) : ∀ (m r : Nat), nR - r = m → r ≤ nR → G E d bc bs mX11_strength 77 [some (vR (nMo am)), some (vI w), some (vI (sumI (strF D (pwN V D nR) w) nR)), some (vI (nI nR))] [] h Q → G E d bc bs mX11_strength 33 [some (vR (nMo am)), some (vI w), some (vI (sumI (strF D (pwN V D nR) w) r)), some (vI (nI r))] [] h Q := by
  intro m
  induction m with
  | zero =>
    intro r hm hr kk
    have e : r = nR := by omega
    subst e
    have b8 := hT.2.2.2.1
    have b10 := hT.2.2.2.2.1
    have bP := hT.2.2.2.2.2.1
    refine g_iload_n (pc := 33) dX11_strength_33 rfl ?_
    refine g_aload_n (pc := 34) dX11_strength_34 rfl ?_
    refine g_getfield (pc := 35) f_X11_23_11 dX11_strength_35 hI.1 mf_12 ?_
    refine g_iconst (pc := 38) (v := 1) dX11_strength_38 (by decide) ?_
    refine g_iaload (pc := 39) dX11_strength_39 (mA hI 12 3 rfl (by decide)) (j := 1) (by decide) (by omega) (by decide) rfl ?_
    rw [hT.2.1]
    refine g_icmp_ge (pc := 40) 77 dX11_strength_40 (by decide) (fun c_40 => ?_) (fun c_40 => absurd (nI_le (Nat.le_refl _) (by omega)) c_40)
    exact kk
  | succ m ih =>
    intro r hm hr kk
    have b8 := hT.2.2.2.1
    have b10 := hT.2.2.2.2.1
    have bP := hT.2.2.2.2.2.1
    have hrr := hT.2.2.2.2.2.2.1 r (by omega)
    refine g_iload_n (pc := 33) dX11_strength_33 rfl ?_
    refine g_aload_n (pc := 34) dX11_strength_34 rfl ?_
    refine g_getfield (pc := 35) f_X11_23_11 dX11_strength_35 hI.1 mf_12 ?_
    refine g_iconst (pc := 38) (v := 1) dX11_strength_38 (by decide) ?_
    refine g_iaload (pc := 39) dX11_strength_39 (mA hI 12 3 rfl (by decide)) (j := 1) (by decide) (by omega) (by decide) rfl ?_
    rw [hT.2.1]
    refine g_icmp_ge (pc := 40) 77 dX11_strength_40 (by decide) (fun c_40 => absurd c_40 (by intro w; have := (nI_leI (by omega) (by omega)).mp w; omega)) (fun c_40 => ?_)
    refine g_iload_n (pc := 43) dX11_strength_43 rfl ?_
    refine g_aload_n (pc := 44) dX11_strength_44 rfl ?_
    refine g_getfield (pc := 45) f_X11_43_11 dX11_strength_45 hI.1 mf_18 ?_
    refine g_iload_n (pc := 48) dX11_strength_48 rfl ?_
    refine g_aaload (pc := 49) (t := 5) rfl rfl dX11_strength_49 (mG hI 18 10 rfl (by decide)) rfl (by omega) (by decide) rfl ?_
    refine g_iconst (pc := 50) (v := 0) dX11_strength_50 (by decide) ?_
    refine g_iaload (pc := 51) dX11_strength_51 (mR hI 18 3 _ rfl (by show _ < 10; omega)) (j := 0) (by decide) (by omega) (by decide) rfl ?_
    rw [hrr.1]
    refine g_iload_n (pc := 52) dX11_strength_52 rfl ?_
    refine g_icmp_ne (pc := 53) 68 dX11_strength_53 (by decide) (fun c_53 => ?_) (fun c_53 => ?_)
    · refine g_iconst (pc := 68) (v := 0) dX11_strength_68 (by decide) ?_
      refine g_iadd (pc := 69) dX11_strength_69 ?_
      refine g_istore_n (pc := 70) (ls' := [_, _, _, _]) dX11_strength_70 (by decide) rfl rfl ?_
      refine g_iinc (pc := 71) (ls' := [_, _, _, _]) dX11_strength_71 rfl (by first | exact nI_1 _ | exact rfl) (by decide) rfl rfl ?_
      refine g_goto (pc := 74) 33 dX11_strength_74 (by decide) ?_
      have e0 : sumI (strF D (pwN V D nR) w) (r + 1) = _ := show sumI (strF D (pwN V D nR) w) r + strF D (pwN V D nR) w r = _ from by unfold strF; rw [if_neg c_53]
      have q := ih (r + 1) (by omega) (by omega) kk
      rw [e0] at q
      exact q
    · refine g_aload_n (pc := 56) dX11_strength_56 rfl ?_
      refine g_aload_n (pc := 57) dX11_strength_57 rfl ?_
      refine g_getfield (pc := 58) f_X11_73_11 dX11_strength_58 hI.1 mf_31 ?_
      refine g_iload_n (pc := 61) dX11_strength_61 rfl ?_
      refine m_cP (pc := 62) (M' := mX11_power) (as := [_, _]) i_X11_289_11 eX11_power hI dX11_strength_62 (c_power (by omega) hI hT hl (k := 31) rfl r (by omega)) (by omega) rfl rfl (Nat.le_of_ble_eq_true rfl) ?_
      refine g_goto (pc := 65) 69 dX11_strength_65 (by decide) ?_
      refine g_iadd (pc := 69) dX11_strength_69 ?_
      refine g_istore_n (pc := 70) (ls' := [_, _, _, _]) dX11_strength_70 (by decide) rfl rfl ?_
      refine g_iinc (pc := 71) (ls' := [_, _, _, _]) dX11_strength_71 rfl (by first | exact nI_1 _ | exact rfl) (by decide) rfl rfl ?_
      refine g_goto (pc := 74) 33 dX11_strength_74 (by decide) ?_
      have e0 : sumI (strF D (pwN V D nR) w) (r + 1) = _ := show sumI (strF D (pwN V D nR) w) r + strF D (pwN V D nR) w r = _ from by unfold strF; rw [if_pos c_53]
      have q := ih (r + 1) (by omega) (by omega) kk
      rw [e0] at q
      exact q
set_option maxHeartbeats 2000000 in
theorem c_mstrength (hd : 8 ≤ d) (hI : InvM am V h) (hT : MT V D nS nR nP) (hl : okL V) (w : Int32) (hv : inR w 0 (nI nS - 1) = true) : Ct E d 0 0 mX11_strength [vR (nMo am), vI w] h (mQ am (thr0 V) h (some (vI (sumI (strF D (pwN V D nR) w) nR)))) := by
  refine ct_of (by decide) (Nat.le_of_ble_eq_true rfl) rfl ?_
  have hF : mFr h h := mFr.rf
  have hT := MT.f0 (j := 0) (y := 0) hT
  have hl := okL.f0 (j := 0) (y := 0) hl (by decide)
  change MT (thr0 V) D nS nR nP at hT
  change okL (thr0 V) at hl
  refine g_aload_n (pc := 0) dX11_strength_0 rfl ?_
  refine g_iconst (pc := 1) (v := 0) dX11_strength_1 (by decide) ?_
  refine m_put (pc := 2) hI w_X11_103_11 rfl (by decide) dX11_strength_2 (fun h hI fr => ?_)
  replace hF := mFr.tr hF fr
  change InvM am (thr0 V) h at hI
  refine g_aload_n (pc := 5) dX11_strength_5 rfl ?_
  refine g_aload_n (pc := 6) dX11_strength_6 rfl ?_
  refine g_iload_n (pc := 7) dX11_strength_7 rfl ?_
  refine m_cP (pc := 8) (M' := mX11_isSister) (as := [_]) i_X11_336_11 eX11_isSister hI dX11_strength_8 (c_isSister hI hT (by omega) _) (by omega) rfl rfl (Nat.le_of_ble_eq_true rfl) ?_
  refine g_ifB_ne (pc := 11) 18 dX11_strength_11 (by decide) (fun c_11 => ?_) (fun c_11 => absurd (hv.symm.trans c_11) (by decide))
  refine g_iconst (pc := 18) (v := 0) dX11_strength_18 (by decide) ?_
  refine g_iconst (pc := 19) (v := 1) dX11_strength_19 (by decide) ?_
  refine g_iconst (pc := 20) (v := 0) dX11_strength_20 (by decide) ?_
  refine m_cV (pc := 21) (M' := mX11_bad) (as := [_, _, _]) i_X11_183_11 eX11_bad hI dX11_strength_21 (c_badF hI thr0_0 1 0 (by decide)) (by omega) rfl rfl (Nat.le_of_ble_eq_true rfl) (fun h hI fr => ?_)
  replace hF := mFr.tr hF fr
  refine g_ifB_eq (pc := 24) 29 dX11_strength_24 (by decide) (fun c_24 => ?_) (fun c_24 => absurd c_24 (by decide))
  refine g_iconst (pc := 29) (v := 0) dX11_strength_29 (by decide) ?_
  refine g_istore_n (pc := 30) (ls' := [_, _, _, _]) dX11_strength_30 (by decide) rfl rfl ?_
  refine g_iconst (pc := 31) (v := 0) dX11_strength_31 (by decide) ?_
  refine g_istore_n (pc := 32) (ls' := [_, _, _, _]) dX11_strength_32 (by decide) rfl rfl ?_
  refine l_strength (by omega) hI hT hl w nR 0 rfl (Nat.zero_le _) ?_
  rw [thr0_pw]
  refine g_iload_n (pc := 77) dX11_strength_77 rfl ?_
  refine g_ireturn (pc := 78) dX11_strength_78 rfl (by first | exact rfl | exact j_nb _) ?_
  exact ⟨rfl, hI, hF⟩
end
