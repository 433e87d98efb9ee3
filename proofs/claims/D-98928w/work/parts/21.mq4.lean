/-! THE REFERENCE: sister, relic, pilgrim, can, would. Printed by m_q4.py -/
set_option maxRecDepth 100000
def sisS (V : mV) (D : Nat → Nat → Nat) (nR : Nat) (s : Nat) : Nat → Int32
  | 0 => nI (D 5 s) | 1 => V 31 (8 + s) | 2 => bitsI (hersB D s) nR | 3 => bitsI (kpS D (V 31) s) nR | _ => V 16 s
def rcuB (V : mV) (D : Nat → Nat → Nat) (nR r p : Nat) : Bool := decide (V 31 (36 + p) = -1) && ablI (mlaw V) D nR (V 31) r p
def relS (V : mV) (D : Nat → Nat → Nat) (nR nP r : Nat) : Nat → Int32
  | 0 => nI (D 0 r) | 1 => nI (D 1 r) | 2 => nI (D 2 r) | 3 => V 31 (16 + r) | 4 => pwN V D nR r | _ => bitsI (rcuB V D nR r) nP
def pilS (V : mV) (D : Nat → Nat → Nat) (nR p : Nat) : Nat → Int32
  | 0 => nI (D 3 p) | 1 => nI (D 4 p) | 2 => V 31 (36 + p) | _ => bitsI (fun r => ablI (mlaw V) D nR (V 31) r p) nR
theorem thr0_law {V : mV} : mlaw (thr0 V) = mlaw V := mlaw_f0 (by decide)
section
variable {E : jE} {d : Nat} {h : jH} {am : Nat → Nat} {V : mV} {D : Nat → Nat → Nat} {nS nR nP k : Nat}
set_option maxHeartbeats 2000000 in
theorem l_msister {bc bs : Nat} {Q : jR → jH → Prop} (hd : 7 ≤ d) (hI : InvM am V h) (hT : MT V D nS nR nP) (s : Nat) (hs8 : s < 8) (w : Int32) : ∀ (m r : Nat), nR - r = m → r ≤ nR → G E d bc bs mX11_sister 98 [some (vR (nMo am)), some (vI (nI s)), some (vI w), some (vI (bitsI (hersB D s) nR)), some (vI (nI nR))] [] h Q → G E d bc bs mX11_sister 57 [some (vR (nMo am)), some (vI (nI s)), some (vI w), some (vI (bitsI (hersB D s) r)), some (vI (nI r))] [] h Q := by
  intro m
  induction m with
  | zero =>
    intro r hm hr kk
    have e : r = nR := by omega
    subst e
    have b8 := hT.2.2.2.1
    have b10 := hT.2.2.2.2.1
    have bP := hT.2.2.2.2.2.1
    refine g_iload (pc := 57) dX11_sister_57 rfl ?_
    refine g_aload_n (pc := 59) dX11_sister_59 rfl ?_
    refine g_getfield (pc := 60) f_X11_23_11 dX11_sister_60 hI.1 mf_12 ?_
    refine g_iconst (pc := 63) (v := 1) dX11_sister_63 (by decide) ?_
    refine g_iaload (pc := 64) dX11_sister_64 (mA hI 12 3 rfl (by decide)) (j := 1) (by decide) (by omega) (by decide) rfl ?_
    rw [hT.2.1]
    refine g_icmp_ge (pc := 65) 98 dX11_sister_65 (by decide) (fun c_65 => ?_) (fun c_65 => absurd (nI_le (Nat.le_refl _) (by omega)) c_65)
    exact kk
  | succ m ih =>
    intro r hm hr kk
    have b8 := hT.2.2.2.1
    have b10 := hT.2.2.2.2.1
    have bP := hT.2.2.2.2.2.1
    have hrr := hT.2.2.2.2.2.2.1 r (by omega)
    refine g_iload (pc := 57) dX11_sister_57 rfl ?_
    refine g_aload_n (pc := 59) dX11_sister_59 rfl ?_
    refine g_getfield (pc := 60) f_X11_23_11 dX11_sister_60 hI.1 mf_12 ?_
    refine g_iconst (pc := 63) (v := 1) dX11_sister_63 (by decide) ?_
    refine g_iaload (pc := 64) dX11_sister_64 (mA hI 12 3 rfl (by decide)) (j := 1) (by decide) (by omega) (by decide) rfl ?_
    rw [hT.2.1]
    refine g_icmp_ge (pc := 65) 98 dX11_sister_65 (by decide) (fun c_65 => absurd c_65 (by intro w; have := (nI_leI (by omega) (by omega)).mp w; omega)) (fun c_65 => ?_)
    refine g_iload_n (pc := 68) dX11_sister_68 rfl ?_
    refine g_aload_n (pc := 69) dX11_sister_69 rfl ?_
    refine g_getfield (pc := 70) f_X11_43_11 dX11_sister_70 hI.1 mf_18 ?_
    refine g_iload (pc := 73) dX11_sister_73 rfl ?_
    refine g_aaload (pc := 75) (t := 5) rfl rfl dX11_sister_75 (mG hI 18 10 rfl (by decide)) rfl (by omega) (by decide) rfl ?_
    refine g_iconst (pc := 76) (v := 0) dX11_sister_76 (by decide) ?_
    refine g_iaload (pc := 77) dX11_sister_77 (mR hI 18 3 _ rfl (by show _ < 10; omega)) (j := 0) (by decide) (by omega) (by decide) rfl ?_
    rw [hrr.1]
    refine g_iload_n (pc := 78) dX11_sister_78 rfl ?_
    refine g_icmp_ne (pc := 79) 89 dX11_sister_79 (by decide) (fun c_79 => ?_) (fun c_79 => ?_)
    · refine g_iconst (pc := 89) (v := 0) dX11_sister_89 (by decide) ?_
      refine g_ior (pc := 90) dX11_sister_90 ?_
      refine g_istore_n (pc := 91) (ls' := [_, _, _, _, _]) dX11_sister_91 (by decide) rfl rfl ?_
      refine g_iinc (pc := 92) (ls' := [_, _, _, _, _]) dX11_sister_92 rfl (by first | exact nI_1 _ | exact rfl) (by decide) rfl rfl ?_
      refine g_goto (pc := 95) 57 dX11_sister_95 (by decide) ?_
      have e0 : bitsI (hersB D s) (r + 1) = _ := show bitsI (hersB D s) r ||| (if (hersB D s) r = true then bitI r else 0) = _ from by rw [if_neg (by simp only [hersB, decide_eq_true_eq]; exact fun q => c_79 (by rw [q]))]
      have q := ih (r + 1) (by omega) (by omega) kk
      rw [e0] at q
      exact q
    · refine g_iconst (pc := 82) (v := 1) dX11_sister_82 (by decide) ?_
      refine g_iload (pc := 83) dX11_sister_83 rfl ?_
      refine g_ishl (pc := 85) dX11_sister_85 ?_
      refine g_goto (pc := 86) 90 dX11_sister_86 (by decide) ?_
      refine g_ior (pc := 90) dX11_sister_90 ?_
      refine g_istore_n (pc := 91) (ls' := [_, _, _, _, _]) dX11_sister_91 (by decide) rfl rfl ?_
      refine g_iinc (pc := 92) (ls' := [_, _, _, _, _]) dX11_sister_92 rfl (by first | exact nI_1 _ | exact rfl) (by decide) rfl rfl ?_
      refine g_goto (pc := 95) 57 dX11_sister_95 (by decide) ?_
      have e0 : bitsI (hersB D s) (r + 1) = _ := show bitsI (hersB D s) r ||| (if (hersB D s) r = true then bitI r else 0) = _ from by rw [if_pos (by simp only [hersB, decide_eq_true_eq]; exact (nI_eq (by omega) (by omega)).mp c_79)]
      have q := ih (r + 1) (by omega) (by omega) kk
      rw [e0] at q
      exact q
set_option maxHeartbeats 2000000 in
theorem l_mrelic {bc bs : Nat} {Q : jR → jH → Prop} (hd : 7 ≤ d) (hI : InvM am V h) (hT : MT V D nS nR nP) (hl : okL V) (a : Nat) (ha : a < nR) (w : Int32) : ∀ (m r : Nat), nP - r = m → r ≤ nP → G E d bc bs mX11_relic 113 [some (vR (nMo am)), some (vI (nI a)), some (vI w), some (vI (bitsI (rcuB V D nR a) nP)), some (vI (nI nP))] [] h Q → G E d bc bs mX11_relic 57 [some (vR (nMo am)), some (vI (nI a)), some (vI w), some (vI (bitsI (rcuB V D nR a) r)), some (vI (nI r))] [] h Q := by
  intro m
  induction m with
  | zero =>
    intro r hm hr kk
    have e : r = nP := by omega
    subst e
    have b8 := hT.2.2.2.1
    have b10 := hT.2.2.2.2.1
    have bP := hT.2.2.2.2.2.1
    refine g_iload (pc := 57) dX11_relic_57 rfl ?_
    refine g_aload_n (pc := 59) dX11_relic_59 rfl ?_
    refine g_getfield (pc := 60) f_X11_23_11 dX11_relic_60 hI.1 mf_12 ?_
    refine g_iconst (pc := 63) (v := 2) dX11_relic_63 (by decide) ?_
    refine g_iaload (pc := 64) dX11_relic_64 (mA hI 12 3 rfl (by decide)) (j := 2) (by decide) (by omega) (by decide) rfl ?_
    rw [hT.2.2.1]
    refine g_icmp_ge (pc := 65) 113 dX11_relic_65 (by decide) (fun c_65 => ?_) (fun c_65 => absurd (nI_le (Nat.le_refl _) (by omega)) c_65)
    exact kk
  | succ m ih =>
    intro r hm hr kk
    have b8 := hT.2.2.2.1
    have b10 := hT.2.2.2.2.1
    have bP := hT.2.2.2.2.2.1
    refine g_iload (pc := 57) dX11_relic_57 rfl ?_
    refine g_aload_n (pc := 59) dX11_relic_59 rfl ?_
    refine g_getfield (pc := 60) f_X11_23_11 dX11_relic_60 hI.1 mf_12 ?_
    refine g_iconst (pc := 63) (v := 2) dX11_relic_63 (by decide) ?_
    refine g_iaload (pc := 64) dX11_relic_64 (mA hI 12 3 rfl (by decide)) (j := 2) (by decide) (by omega) (by decide) rfl ?_
    rw [hT.2.2.1]
    refine g_icmp_ge (pc := 65) 113 dX11_relic_65 (by decide) (fun c_65 => absurd c_65 (by intro w; have := (nI_leI (by omega) (by omega)).mp w; omega)) (fun c_65 => ?_)
    refine g_iload_n (pc := 68) dX11_relic_68 rfl ?_
    refine g_aload_n (pc := 69) dX11_relic_69 rfl ?_
    refine g_getfield (pc := 70) f_X11_73_11 dX11_relic_70 hI.1 mf_31 ?_
    refine g_bipush (pc := 73) (v := 36) dX11_relic_73 (by decide) ?_
    refine g_iload (pc := 75) dX11_relic_75 rfl ?_
    refine g_iadd (pc := 77) dX11_relic_77 ?_
    refine g_iaload (pc := 78) dX11_relic_78 (mA hI 31 45 rfl (by decide)) (j := 36 + r) (nI_add 36 r) (by omega) (by decide) rfl ?_
    refine g_iconst (pc := 79) (v := -1) dX11_relic_79 (by decide) ?_
    refine g_icmp_ne (pc := 80) 104 dX11_relic_80 (by decide) (fun c_80 => ?_) (fun c_80 => ?_)
    · refine g_iconst (pc := 104) (v := 0) dX11_relic_104 (by decide) ?_
      refine g_ior (pc := 105) dX11_relic_105 ?_
      refine g_istore_n (pc := 106) (ls' := [_, _, _, _, _]) dX11_relic_106 (by decide) rfl rfl ?_
      refine g_iinc (pc := 107) (ls' := [_, _, _, _, _]) dX11_relic_107 rfl (by first | exact nI_1 _ | exact rfl) (by decide) rfl rfl ?_
      refine g_goto (pc := 110) 57 dX11_relic_110 (by decide) ?_
      have e0 : bitsI (rcuB V D nR a) (r + 1) = _ := show bitsI (rcuB V D nR a) r ||| (if (rcuB V D nR a) r = true then bitI r else 0) = _ from by rw [if_neg (by simp [rcuB, c_80])]
      have q := ih (r + 1) (by omega) (by omega) kk
      rw [e0] at q
      exact q
    · refine g_aload_n (pc := 83) dX11_relic_83 rfl ?_
      refine g_aload_n (pc := 84) dX11_relic_84 rfl ?_
      refine g_getfield (pc := 85) f_X11_73_11 dX11_relic_85 hI.1 mf_31 ?_
      refine g_iload_n (pc := 88) dX11_relic_88 rfl ?_
      refine g_iload (pc := 89) dX11_relic_89 rfl ?_
      refine m_cP (pc := 91) (M' := mX11_isAble) (as := [_, _, _]) i_X11_292_11 eX11_isAble hI dX11_relic_91 (c_isAble (by omega) hI hT hl (k := 31) rfl a r ha (by omega)) (by omega) rfl rfl (Nat.le_of_ble_eq_true rfl) ?_
      refine g_ifB_eq (pc := 94) 104 dX11_relic_94 (by decide) (fun c_94 => ?_) (fun c_94 => ?_)
      · refine g_iconst (pc := 104) (v := 0) dX11_relic_104 (by decide) ?_
        refine g_ior (pc := 105) dX11_relic_105 ?_
        refine g_istore_n (pc := 106) (ls' := [_, _, _, _, _]) dX11_relic_106 (by decide) rfl rfl ?_
        refine g_iinc (pc := 107) (ls' := [_, _, _, _, _]) dX11_relic_107 rfl (by first | exact nI_1 _ | exact rfl) (by decide) rfl rfl ?_
        refine g_goto (pc := 110) 57 dX11_relic_110 (by decide) ?_
        have e0 : bitsI (rcuB V D nR a) (r + 1) = _ := show bitsI (rcuB V D nR a) r ||| (if (rcuB V D nR a) r = true then bitI r else 0) = _ from by rw [if_neg (by simp [rcuB, c_94])]
        have q := ih (r + 1) (by omega) (by omega) kk
        rw [e0] at q
        exact q
      · refine g_iconst (pc := 97) (v := 1) dX11_relic_97 (by decide) ?_
        refine g_iload (pc := 98) dX11_relic_98 rfl ?_
        refine g_ishl (pc := 100) dX11_relic_100 ?_
        refine g_goto (pc := 101) 105 dX11_relic_101 (by decide) ?_
        refine g_ior (pc := 105) dX11_relic_105 ?_
        refine g_istore_n (pc := 106) (ls' := [_, _, _, _, _]) dX11_relic_106 (by decide) rfl rfl ?_
        refine g_iinc (pc := 107) (ls' := [_, _, _, _, _]) dX11_relic_107 rfl (by first | exact nI_1 _ | exact rfl) (by decide) rfl rfl ?_
        refine g_goto (pc := 110) 57 dX11_relic_110 (by decide) ?_
        have e0 : bitsI (rcuB V D nR a) (r + 1) = _ := show bitsI (rcuB V D nR a) r ||| (if (rcuB V D nR a) r = true then bitI r else 0) = _ from by rw [if_pos (by simp [rcuB, c_80, c_94])]
        have q := ih (r + 1) (by omega) (by omega) kk
        rw [e0] at q
        exact q
set_option maxHeartbeats 2000000 in
theorem l_mpilgrim {bc bs : Nat} {Q : jR → jH → Prop} (hd : 7 ≤ d) (hI : InvM am V h) (hT : MT V D nS nR nP) (hl : okL V) (p : Nat) (hp : p < nP) (w : Int32) : ∀ (m r : Nat), nR - r = m → r ≤ nR → G E d bc bs mX11_pilgrim 99 [some (vR (nMo am)), some (vI (nI p)), some (vI w), some (vI (bitsI (fun r => ablI (mlaw V) D nR (V 31) r p) nR)), some (vI (nI nR))] [] h Q → G E d bc bs mX11_pilgrim 57 [some (vR (nMo am)), some (vI (nI p)), some (vI w), some (vI (bitsI (fun r => ablI (mlaw V) D nR (V 31) r p) r)), some (vI (nI r))] [] h Q := by
  intro m
  induction m with
  | zero =>
    intro r hm hr kk
    have e : r = nR := by omega
    subst e
    have b8 := hT.2.2.2.1
    have b10 := hT.2.2.2.2.1
    have bP := hT.2.2.2.2.2.1
    refine g_iload (pc := 57) dX11_pilgrim_57 rfl ?_
    refine g_aload_n (pc := 59) dX11_pilgrim_59 rfl ?_
    refine g_getfield (pc := 60) f_X11_23_11 dX11_pilgrim_60 hI.1 mf_12 ?_
    refine g_iconst (pc := 63) (v := 1) dX11_pilgrim_63 (by decide) ?_
    refine g_iaload (pc := 64) dX11_pilgrim_64 (mA hI 12 3 rfl (by decide)) (j := 1) (by decide) (by omega) (by decide) rfl ?_
    rw [hT.2.1]
    refine g_icmp_ge (pc := 65) 99 dX11_pilgrim_65 (by decide) (fun c_65 => ?_) (fun c_65 => absurd (nI_le (Nat.le_refl _) (by omega)) c_65)
    exact kk
  | succ m ih =>
    intro r hm hr kk
    have b8 := hT.2.2.2.1
    have b10 := hT.2.2.2.2.1
    have bP := hT.2.2.2.2.2.1
    refine g_iload (pc := 57) dX11_pilgrim_57 rfl ?_
    refine g_aload_n (pc := 59) dX11_pilgrim_59 rfl ?_
    refine g_getfield (pc := 60) f_X11_23_11 dX11_pilgrim_60 hI.1 mf_12 ?_
    refine g_iconst (pc := 63) (v := 1) dX11_pilgrim_63 (by decide) ?_
    refine g_iaload (pc := 64) dX11_pilgrim_64 (mA hI 12 3 rfl (by decide)) (j := 1) (by decide) (by omega) (by decide) rfl ?_
    rw [hT.2.1]
    refine g_icmp_ge (pc := 65) 99 dX11_pilgrim_65 (by decide) (fun c_65 => absurd c_65 (by intro w; have := (nI_leI (by omega) (by omega)).mp w; omega)) (fun c_65 => ?_)
    refine g_iload_n (pc := 68) dX11_pilgrim_68 rfl ?_
    refine g_aload_n (pc := 69) dX11_pilgrim_69 rfl ?_
    refine g_aload_n (pc := 70) dX11_pilgrim_70 rfl ?_
    refine g_getfield (pc := 71) f_X11_73_11 dX11_pilgrim_71 hI.1 mf_31 ?_
    refine g_iload (pc := 74) dX11_pilgrim_74 rfl ?_
    refine g_iload_n (pc := 76) dX11_pilgrim_76 rfl ?_
    refine m_cP (pc := 77) (M' := mX11_isAble) (as := [_, _, _]) i_X11_292_11 eX11_isAble hI dX11_pilgrim_77 (c_isAble (by omega) hI hT hl (k := 31) rfl r p (by omega) hp) (by omega) rfl rfl (Nat.le_of_ble_eq_true rfl) ?_
    refine g_ifB_eq (pc := 80) 90 dX11_pilgrim_80 (by decide) (fun c_80 => ?_) (fun c_80 => ?_)
    · refine g_iconst (pc := 90) (v := 0) dX11_pilgrim_90 (by decide) ?_
      refine g_ior (pc := 91) dX11_pilgrim_91 ?_
      refine g_istore_n (pc := 92) (ls' := [_, _, _, _, _]) dX11_pilgrim_92 (by decide) rfl rfl ?_
      refine g_iinc (pc := 93) (ls' := [_, _, _, _, _]) dX11_pilgrim_93 rfl (by first | exact nI_1 _ | exact rfl) (by decide) rfl rfl ?_
      refine g_goto (pc := 96) 57 dX11_pilgrim_96 (by decide) ?_
      have e0 : bitsI (fun r => ablI (mlaw V) D nR (V 31) r p) (r + 1) = _ := show bitsI (fun r => ablI (mlaw V) D nR (V 31) r p) r ||| (if ablI (mlaw V) D nR (V 31) r p = true then bitI r else 0) = _ from by rw [if_neg (by rw [c_80]; decide)]
      have q := ih (r + 1) (by omega) (by omega) kk
      rw [e0] at q
      exact q
    · refine g_iconst (pc := 83) (v := 1) dX11_pilgrim_83 (by decide) ?_
      refine g_iload (pc := 84) dX11_pilgrim_84 rfl ?_
      refine g_ishl (pc := 86) dX11_pilgrim_86 ?_
      refine g_goto (pc := 87) 91 dX11_pilgrim_87 (by decide) ?_
      refine g_ior (pc := 91) dX11_pilgrim_91 ?_
      refine g_istore_n (pc := 92) (ls' := [_, _, _, _, _]) dX11_pilgrim_92 (by decide) rfl rfl ?_
      refine g_iinc (pc := 93) (ls' := [_, _, _, _, _]) dX11_pilgrim_93 rfl (by first | exact nI_1 _ | exact rfl) (by decide) rfl rfl ?_
      refine g_goto (pc := 96) 57 dX11_pilgrim_96 (by decide) ?_
      have e0 : bitsI (fun r => ablI (mlaw V) D nR (V 31) r p) (r + 1) = _ := show bitsI (fun r => ablI (mlaw V) D nR (V 31) r p) r ||| (if ablI (mlaw V) D nR (V 31) r p = true then bitI r else 0) = _ from by rw [if_pos c_80]
      have q := ih (r + 1) (by omega) (by omega) kk
      rw [e0] at q
      exact q
end
