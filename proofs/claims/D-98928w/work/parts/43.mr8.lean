/-! THE REFERENCE: work goes. Printed by m_r8.py -/
set_option maxRecDepth 100000
section
variable {E : jE} {d : Nat} {h : jH} {am : Nat → Nat} {V : mV} {D : Nat → Nat → Nat} {nS nR nP k : Nat}
set_option maxHeartbeats 4000000 in
theorem l_dies {bc bs i : Nat} {h0 : jH} (hT0 : MT V D nS nR nP) (hk : mlen k = 45) (s : Nat) (hs8 : s < nS) : ∀ (m r : Nat) (h : jH), nR - r = m → r ≤ nR → InvM am (svR V k (dieF D (V k) s r)) h → mFr h0 h → G E d bc bs mX11_does 125 [some (vR (nMo am)), some (vR (nMa am k)), some (vR (nMr am 29 i)), some (vI (nI s)), some (vI (nI r))] [] h (mQ am (svR V k (dieR D nR (V k) s)) h0 (some (vI 1))) := by
  intro m
  induction m with
  | zero =>
    intro r h hm hr hI hF
    have e : r = nR := by omega
    subst e
    have h10 := hT0.2.2.2.2.1
    have h8 := hT0.2.2.2.1
    have hT := hT0.row (R := dieF D (V k) s r) hk
    refine g_iload (pc := 125) dX11_does_125 rfl ?_
    refine g_aload_n (pc := 127) dX11_does_127 rfl ?_
    refine g_getfield (pc := 128) f_X11_23_11 dX11_does_128 hI.1 mf_12 ?_
    refine g_iconst (pc := 131) (v := 1) dX11_does_131 (by decide) ?_
    refine g_iaload (pc := 132) dX11_does_132 (mA hI 12 3 rfl (by decide)) (j := 1) (by decide) (by omega) (by decide) rfl ?_
    rw [hT.2.1]
    refine g_icmp_ge (pc := 133) 173 dX11_does_133 (by decide) (fun c_133 => ?_) (fun c_133 => absurd (nI_le (Nat.le_refl _) (by omega)) c_133)
    refine g_aload_n (pc := 173) dX11_does_173 rfl ?_
    refine g_iconst (pc := 174) (v := 0) dX11_does_174 (by decide) ?_
    refine g_iload_n (pc := 175) dX11_does_175 rfl ?_
    refine g_iadd (pc := 176) dX11_does_176 ?_
    refine g_iconst (pc := 177) (v := 1) dX11_does_177 (by decide) ?_
    refine m_iast (pc := 178) (k := k) (n := 45) hI hk (by decide) dX11_does_178 (j := s) (by exact (Int32.zero_add _)) (by omega) (by decide) (fun h hI fr => ?_)
    replace hF := mFr.tr hF fr
    refine g_iconst (pc := 179) (v := 1) dX11_does_179 (by decide) ?_
    refine g_ireturn (pc := 180) dX11_does_180 rfl (by first | exact rfl | exact j_nb _) ?_
    refine ⟨rfl, ?_, hF⟩
    rw [sv_svR] at hI
    exact hI
  | succ m ih =>
    intro r h hm hr hI hF
    have h10 := hT0.2.2.2.2.1
    have h8 := hT0.2.2.2.1
    have hT := hT0.row (R := dieF D (V k) s r) hk
    refine g_iload (pc := 125) dX11_does_125 rfl ?_
    refine g_aload_n (pc := 127) dX11_does_127 rfl ?_
    refine g_getfield (pc := 128) f_X11_23_11 dX11_does_128 hI.1 mf_12 ?_
    refine g_iconst (pc := 131) (v := 1) dX11_does_131 (by decide) ?_
    refine g_iaload (pc := 132) dX11_does_132 (mA hI 12 3 rfl (by decide)) (j := 1) (by decide) (by omega) (by decide) rfl ?_
    rw [hT.2.1]
    refine g_icmp_ge (pc := 133) 173 dX11_does_133 (by decide) (fun c_133 => absurd c_133 (by intro w; have := (nI_leI (by omega) (by omega)).mp w; omega)) (fun c_133 => ?_)
    refine g_aload_n (pc := 136) dX11_does_136 rfl ?_
    refine g_bipush (pc := 137) (v := 16) dX11_does_137 (by decide) ?_
    refine g_iload (pc := 139) dX11_does_139 rfl ?_
    refine g_iadd (pc := 141) dX11_does_141 ?_
    refine g_aload_n (pc := 142) dX11_does_142 rfl ?_
    refine g_getfield (pc := 143) f_X11_43_11 dX11_does_143 hI.1 mf_18 ?_
    refine g_iload (pc := 146) dX11_does_146 rfl ?_
    refine g_aaload (pc := 148) (t := 5) rfl rfl dX11_does_148 (mG hI 18 10 rfl (by decide)) (j := r) rfl (by omega) (by decide) rfl ?_
    refine g_iconst (pc := 149) (v := 0) dX11_does_149 (by decide) ?_
    refine g_iaload (pc := 150) dX11_does_150 (mR hI 18 3 _ rfl (by show _ < 10; omega)) (j := 0) (by decide) (by omega) (by decide) rfl ?_
    refine g_iload_n (pc := 151) dX11_does_151 rfl ?_
    rw [(hT.2.2.2.2.2.2.1 r (by omega)).1]
    refine g_icmp_ne (pc := 152) 159 dX11_does_152 (by decide) (fun c_152 => ?_) (fun c_152 => ?_)
    · refine g_aload_n (pc := 159) dX11_does_159 rfl ?_
      refine g_bipush (pc := 160) (v := 16) dX11_does_160 (by decide) ?_
      refine g_iload (pc := 162) dX11_does_162 rfl ?_
      refine g_iadd (pc := 164) dX11_does_164 ?_
      refine g_iaload (pc := 165) dX11_does_165 (mA hI k 45 hk (by decide)) (j := 16 + r) (nI_add 16 r) (by omega) (by decide) rfl ?_
      refine m_iast (pc := 166) (k := k) (n := 45) hI hk (by decide) dX11_does_166 (j := 16 + r) (nI_add 16 r) (by omega) (by decide) (fun h hI fr => ?_)
      replace hF := mFr.tr hF fr
      refine g_iinc (pc := 167) (ls' := [_, _, _, _, _]) dX11_does_167 rfl (by first | exact nI_1 _ | exact rfl) (by decide) rfl rfl ?_
      refine g_goto (pc := 170) 125 dX11_does_170 (by decide) ?_
      have hD := (hT.2.2.2.2.2.2.1 r (by omega)).2.2.2.1
      refine ih (r + 1) h (by omega) (by omega) ?_ hF
      rw [sv_svR, dieF_s (by rw [if_neg (fun e => c_152 (by rw [e])), svR_row]; unfold dieF; rw [if_neg (by omega)])] at hI
      exact hI
    · refine g_iconst (pc := 155) (v := -1) dX11_does_155 (by decide) ?_
      refine g_goto (pc := 156) 166 dX11_does_156 (by decide) ?_
      refine m_iast (pc := 166) (k := k) (n := 45) hI hk (by decide) dX11_does_166 (j := 16 + r) (nI_add 16 r) (by omega) (by decide) (fun h hI fr => ?_)
      replace hF := mFr.tr hF fr
      refine g_iinc (pc := 167) (ls' := [_, _, _, _, _]) dX11_does_167 rfl (by first | exact nI_1 _ | exact rfl) (by decide) rfl rfl ?_
      refine g_goto (pc := 170) 125 dX11_does_170 (by decide) ?_
      have hD := (hT.2.2.2.2.2.2.1 r (by omega)).2.2.2.1
      refine ih (r + 1) h (by omega) (by omega) ?_ hF
      rw [sv_svR, dieF_s (y := -1) (by rw [if_pos ((nI_eq (by omega) (by omega)).mp c_152)])] at hI
      exact hI
set_option maxHeartbeats 2000000 in
theorem c_does0 {i x1 x2 x3 : Nat} (hd : 9 ≤ d) (hI : InvM am V h) (hT : MT V D nS nR nP) (hl : okL V) (hk : mlen k = 45) (hi : i < 80) (hx : RW V i (0, x1, x2, x3)) (hv : RV (V k) (2 ^ 30)) (hx1 : x1 < nR) : Ct E d 0 0 mX11_does [vR (nMo am), vR (nMa am k), vR (nMr am 29 i)] h (mQ am (svR V k (actR (mlaw V) D nR (V k) (0, x1, x2, x3))) h (some (vI (bI (actB (mlaw V) D nR (V k) (0, x1, x2, x3)))))) := by
  refine ct_of (by decide) (Nat.le_of_ble_eq_true rfl) rfl ?_
  have hF : mFr h h := mFr.rf
  have h10 := hT.2.2.2.2.1
  have h8 := hT.2.2.2.1
  refine g_aload_n (pc := 0) dX11_does_0 rfl ?_
  refine g_iconst (pc := 1) (v := 1) dX11_does_1 (by decide) ?_
  refine g_iaload (pc := 2) dX11_does_2 (mR hI 29 4 _ rfl (by show _ < 80; omega)) (j := 1) (by decide) (by omega) (by decide) rfl ?_
  rw [show V (1000 * 29 + i) 1 = nI x1 from hx.2.1 (show ¬ 0 = 5 by decide)]
  refine g_istore_n (pc := 3) (ls' := [_, _, _, _, _]) dX11_does_3 (by decide) rfl rfl ?_
  refine g_aload_n (pc := 4) dX11_does_4 rfl ?_
  refine g_iconst (pc := 5) (v := 0) dX11_does_5 (by decide) ?_
  refine g_iaload (pc := 6) dX11_does_6 (mR hI 29 4 _ rfl (by show _ < 80; omega)) (j := 0) (by decide) (by omega) (by decide) rfl ?_
  rw [show V (1000 * 29 + i) 0 = 0 from hx.1]
  refine g_tableIn (pc := 7) 40 dX11_does_7 (by decide) (by decide) rfl (by decide) ?_
  refine g_aload_n (pc := 40) dX11_does_40 rfl ?_
  refine g_iload_n (pc := 41) dX11_does_41 rfl ?_
  refine g_cS (pc := 42) (M' := mX11_isKept) (as := [_, _]) i_X11_267 eX11_isKept dX11_does_42 (c_isKept hI hk x1 (by omega)) (by omega) rfl rfl (Nat.le_of_ble_eq_true rfl) ?_
  refine g_ifB_ne (pc := 45) 64 dX11_does_45 (by decide) (fun c_45 => ?_) (fun c_45 => ?_)
  · refine g_iconst (pc := 64) (v := 0) dX11_does_64 (by decide) ?_
    refine g_ireturn (pc := 65) dX11_does_65 rfl (by first | exact rfl | exact j_nb _) ?_
    have eb : actB (mlaw V) D nR (V k) (0, x1, x2, x3) = false := by show (!(kpd (V k) x1) && !(decide (V k (D 0 x1) = 1))) = _; rw [c_45]; rfl
    rw [eb]
    unfold actR
    rw [if_neg (by rw [eb]; decide), svR_self]
    exact ⟨rfl, hI, hF⟩
  · refine g_aload_n (pc := 48) dX11_does_48 rfl ?_
    refine g_iconst (pc := 49) (v := 0) dX11_does_49 (by decide) ?_
    refine g_aload_n (pc := 50) dX11_does_50 rfl ?_
    refine g_getfield (pc := 51) f_X11_43_11 dX11_does_51 hI.1 mf_18 ?_
    refine g_iload_n (pc := 54) dX11_does_54 rfl ?_
    refine g_aaload (pc := 55) (t := 5) rfl rfl dX11_does_55 (mG hI 18 10 rfl (by decide)) (j := x1) rfl (by omega) (by decide) rfl ?_
    refine g_iconst (pc := 56) (v := 0) dX11_does_56 (by decide) ?_
    refine g_iaload (pc := 57) dX11_does_57 (mR hI 18 3 _ rfl (by show _ < 10; omega)) (j := 0) (by decide) (by omega) (by decide) rfl ?_
    rw [(hT.2.2.2.2.2.2.1 x1 hx1).1]
    refine g_iadd (pc := 58) dX11_does_58 ?_
    have hD := (hT.2.2.2.2.2.2.1 x1 hx1).2.2.2.1
    refine g_iaload (pc := 59) dX11_does_59 (mA hI k 45 hk (by decide)) (j := D 0 x1) (by exact (Int32.zero_add _)) (by omega) (by decide) rfl ?_
    refine g_iconst (pc := 60) (v := 1) dX11_does_60 (by decide) ?_
    refine g_icmp_ne (pc := 61) 66 dX11_does_61 (by decide) (fun c_61 => ?_) (fun c_61 => ?_)
    · refine g_aload_n (pc := 66) dX11_does_66 rfl ?_
      refine g_bipush (pc := 67) (v := 16) dX11_does_67 (by decide) ?_
      refine g_iload_n (pc := 69) dX11_does_69 rfl ?_
      refine g_iadd (pc := 70) dX11_does_70 ?_
      refine g_iconst (pc := 71) (v := 0) dX11_does_71 (by decide) ?_
      refine m_iast (pc := 72) (k := k) (n := 45) hI hk (by decide) dX11_does_72 (j := 16 + x1) (nI_add 16 x1) (by omega) (by decide) (fun h hI fr => ?_)
      replace hF := mFr.tr hF fr
      refine g_iconst (pc := 73) (v := 1) dX11_does_73 (by decide) ?_
      refine g_ireturn (pc := 74) dX11_does_74 rfl (by first | exact rfl | exact j_nb _) ?_
      have eb : actB (mlaw V) D nR (V k) (0, x1, x2, x3) = true := by show (!(kpd (V k) x1) && !(decide (V k (D 0 x1) = 1))) = _; rw [c_45, decide_eq_false c_61]; rfl
      rw [eb]
      unfold actR
      rw [if_pos eb]
      rw [sv_R (V := V)] at hI
      exact ⟨rfl, hI, hF⟩
    · refine g_iconst (pc := 64) (v := 0) dX11_does_64 (by decide) ?_
      refine g_ireturn (pc := 65) dX11_does_65 rfl (by first | exact rfl | exact j_nb _) ?_
      have eb : actB (mlaw V) D nR (V k) (0, x1, x2, x3) = false := by show (!(kpd (V k) x1) && !(decide (V k (D 0 x1) = 1))) = _; rw [c_45, decide_eq_true c_61]; rfl
      rw [eb]
      unfold actR
      rw [if_neg (by rw [eb]; decide), svR_self]
      exact ⟨rfl, hI, hF⟩
set_option maxHeartbeats 2000000 in
theorem c_does1 {i x1 x2 x3 : Nat} (hd : 9 ≤ d) (hI : InvM am V h) (hT : MT V D nS nR nP) (hl : okL V) (hk : mlen k = 45) (hi : i < 80) (hx : RW V i (1, x1, x2, x3)) (hv : RV (V k) (2 ^ 30)) (hx1 : x1 < nR) : Ct E d 0 0 mX11_does [vR (nMo am), vR (nMa am k), vR (nMr am 29 i)] h (mQ am (svR V k (actR (mlaw V) D nR (V k) (1, x1, x2, x3))) h (some (vI (bI (actB (mlaw V) D nR (V k) (1, x1, x2, x3)))))) := by
  refine ct_of (by decide) (Nat.le_of_ble_eq_true rfl) rfl ?_
  have hF : mFr h h := mFr.rf
  have h10 := hT.2.2.2.2.1
  have h8 := hT.2.2.2.1
  refine g_aload_n (pc := 0) dX11_does_0 rfl ?_
  refine g_iconst (pc := 1) (v := 1) dX11_does_1 (by decide) ?_
  refine g_iaload (pc := 2) dX11_does_2 (mR hI 29 4 _ rfl (by show _ < 80; omega)) (j := 1) (by decide) (by omega) (by decide) rfl ?_
  rw [show V (1000 * 29 + i) 1 = nI x1 from hx.2.1 (show ¬ 1 = 5 by decide)]
  refine g_istore_n (pc := 3) (ls' := [_, _, _, _, _]) dX11_does_3 (by decide) rfl rfl ?_
  refine g_aload_n (pc := 4) dX11_does_4 rfl ?_
  refine g_iconst (pc := 5) (v := 0) dX11_does_5 (by decide) ?_
  refine g_iaload (pc := 6) dX11_does_6 (mR hI 29 4 _ rfl (by show _ < 80; omega)) (j := 0) (by decide) (by omega) (by decide) rfl ?_
  rw [show V (1000 * 29 + i) 0 = 1 from hx.1]
  refine g_tableIn (pc := 7) 75 dX11_does_7 (by decide) (by decide) rfl (by decide) ?_
  refine g_aload_n (pc := 75) dX11_does_75 rfl ?_
  refine g_iload_n (pc := 76) dX11_does_76 rfl ?_
  refine g_cS (pc := 77) (M' := mX11_isKept) (as := [_, _]) i_X11_267 eX11_isKept dX11_does_77 (c_isKept hI hk x1 (by omega)) (by omega) rfl rfl (Nat.le_of_ble_eq_true rfl) ?_
  refine g_ifB_ne (pc := 80) 85 dX11_does_80 (by decide) (fun c_80 => ?_) (fun c_80 => ?_)
  · refine g_aload_n (pc := 85) dX11_does_85 rfl ?_
    refine g_bipush (pc := 86) (v := 16) dX11_does_86 (by decide) ?_
    refine g_iload_n (pc := 88) dX11_does_88 rfl ?_
    refine g_iadd (pc := 89) dX11_does_89 ?_
    refine g_iconst (pc := 90) (v := -1) dX11_does_90 (by decide) ?_
    refine m_iast (pc := 91) (k := k) (n := 45) hI hk (by decide) dX11_does_91 (j := 16 + x1) (nI_add 16 x1) (by omega) (by decide) (fun h hI fr => ?_)
    replace hF := mFr.tr hF fr
    refine g_iconst (pc := 92) (v := 1) dX11_does_92 (by decide) ?_
    refine g_ireturn (pc := 93) dX11_does_93 rfl (by first | exact rfl | exact j_nb _) ?_
    have eb : actB (mlaw V) D nR (V k) (1, x1, x2, x3) = true := by exact c_80
    rw [eb]
    unfold actR
    rw [if_pos eb]
    rw [sv_R (V := V)] at hI
    exact ⟨rfl, hI, hF⟩
  · refine g_iconst (pc := 83) (v := 0) dX11_does_83 (by decide) ?_
    refine g_ireturn (pc := 84) dX11_does_84 rfl (by first | exact rfl | exact j_nb _) ?_
    have eb : actB (mlaw V) D nR (V k) (1, x1, x2, x3) = false := by exact c_80
    rw [eb]
    unfold actR
    rw [if_neg (by rw [eb]; decide), svR_self]
    exact ⟨rfl, hI, hF⟩
set_option maxHeartbeats 2000000 in
theorem c_does2 {i x1 x2 x3 : Nat} (hd : 9 ≤ d) (hI : InvM am V h) (hT : MT V D nS nR nP) (hl : okL V) (hk : mlen k = 45) (hi : i < 80) (hx : RW V i (2, x1, x2, x3)) (hv : RV (V k) (2 ^ 30)) (hx1 : x1 < nS) : Ct E d 0 0 mX11_does [vR (nMo am), vR (nMa am k), vR (nMr am 29 i)] h (mQ am (svR V k (actR (mlaw V) D nR (V k) (2, x1, x2, x3))) h (some (vI (bI (actB (mlaw V) D nR (V k) (2, x1, x2, x3)))))) := by
  refine ct_of (by decide) (Nat.le_of_ble_eq_true rfl) rfl ?_
  have hF : mFr h h := mFr.rf
  have h10 := hT.2.2.2.2.1
  have h8 := hT.2.2.2.1
  refine g_aload_n (pc := 0) dX11_does_0 rfl ?_
  refine g_iconst (pc := 1) (v := 1) dX11_does_1 (by decide) ?_
  refine g_iaload (pc := 2) dX11_does_2 (mR hI 29 4 _ rfl (by show _ < 80; omega)) (j := 1) (by decide) (by omega) (by decide) rfl ?_
  rw [show V (1000 * 29 + i) 1 = nI x1 from hx.2.1 (show ¬ 2 = 5 by decide)]
  refine g_istore_n (pc := 3) (ls' := [_, _, _, _, _]) dX11_does_3 (by decide) rfl rfl ?_
  refine g_aload_n (pc := 4) dX11_does_4 rfl ?_
  refine g_iconst (pc := 5) (v := 0) dX11_does_5 (by decide) ?_
  refine g_iaload (pc := 6) dX11_does_6 (mR hI 29 4 _ rfl (by show _ < 80; omega)) (j := 0) (by decide) (by omega) (by decide) rfl ?_
  rw [show V (1000 * 29 + i) 0 = 2 from hx.1]
  refine g_tableIn (pc := 7) 94 dX11_does_7 (by decide) (by decide) rfl (by decide) ?_
  refine g_aload_n (pc := 94) dX11_does_94 rfl ?_
  refine g_aload_n (pc := 95) dX11_does_95 rfl ?_
  refine g_iload_n (pc := 96) dX11_does_96 rfl ?_
  refine m_cV (pc := 97) (M' := mX11_lapses) (as := [_, _]) i_X11_302_11 eX11_lapses hI dX11_does_97 (c_lapses (by omega) hI hT hk x1 (by omega) hv) (by omega) rfl rfl (Nat.le_of_ble_eq_true rfl) (fun h hI fr => ?_)
  replace hF := mFr.tr hF fr
  refine g_ireturn (pc := 100) dX11_does_100 rfl (by first | exact rfl | exact j_nb _) ?_
  refine ⟨rfl, ?_, hF⟩
  unfold actR
  show InvM am (svR V k (if clI D nR (V k) x1 = true then lapR D nR (V k) x1 else V k)) h
  by_cases q : clI D nR (V k) x1 = true
  · rw [if_pos q] at hI ⊢; exact hI
  · rw [if_neg q] at hI ⊢; rw [svR_self]; exact hI
set_option maxHeartbeats 2000000 in
theorem c_does3 {i x1 x2 x3 : Nat} (hd : 9 ≤ d) (hI : InvM am V h) (hT : MT V D nS nR nP) (hl : okL V) (hk : mlen k = 45) (hi : i < 80) (hx : RW V i (3, x1, x2, x3)) (hv : RV (V k) (2 ^ 30)) (hx1 : x1 < nR) (hx2 : x2 < nP) : Ct E d 0 0 mX11_does [vR (nMo am), vR (nMa am k), vR (nMr am 29 i)] h (mQ am (svR V k (actR (mlaw V) D nR (V k) (3, x1, x2, x3))) h (some (vI (bI (actB (mlaw V) D nR (V k) (3, x1, x2, x3)))))) := by
  refine ct_of (by decide) (Nat.le_of_ble_eq_true rfl) rfl ?_
  have hF : mFr h h := mFr.rf
  have h10 := hT.2.2.2.2.1
  have h8 := hT.2.2.2.1
  refine g_aload_n (pc := 0) dX11_does_0 rfl ?_
  refine g_iconst (pc := 1) (v := 1) dX11_does_1 (by decide) ?_
  refine g_iaload (pc := 2) dX11_does_2 (mR hI 29 4 _ rfl (by show _ < 80; omega)) (j := 1) (by decide) (by omega) (by decide) rfl ?_
  rw [show V (1000 * 29 + i) 1 = nI x1 from hx.2.1 (show ¬ 3 = 5 by decide)]
  refine g_istore_n (pc := 3) (ls' := [_, _, _, _, _]) dX11_does_3 (by decide) rfl rfl ?_
  refine g_aload_n (pc := 4) dX11_does_4 rfl ?_
  refine g_iconst (pc := 5) (v := 0) dX11_does_5 (by decide) ?_
  refine g_iaload (pc := 6) dX11_does_6 (mR hI 29 4 _ rfl (by show _ < 80; omega)) (j := 0) (by decide) (by omega) (by decide) rfl ?_
  rw [show V (1000 * 29 + i) 0 = 3 from hx.1]
  refine g_tableIn (pc := 7) 101 dX11_does_7 (by decide) (by decide) rfl (by decide) ?_
  refine g_aload_n (pc := 101) dX11_does_101 rfl ?_
  refine g_aload_n (pc := 102) dX11_does_102 rfl ?_
  refine g_iload_n (pc := 103) dX11_does_103 rfl ?_
  refine g_aload_n (pc := 104) dX11_does_104 rfl ?_
  refine g_iconst (pc := 105) (v := 2) dX11_does_105 (by decide) ?_
  refine g_iaload (pc := 106) dX11_does_106 (mR hI 29 4 _ rfl (by show _ < 80; omega)) (j := 2) (by decide) (by omega) (by decide) rfl ?_
  rw [show V (1000 * 29 + i) 2 = nI x2 from hx.2.2.1 rfl]
  refine m_cV (pc := 107) (M' := mX11_cures) (as := [_, _, _]) i_X11_305_11 eX11_cures hI dX11_does_107 (c_cures (by omega) hI hT hl hk x1 x2 hx1 hx2) (by omega) rfl rfl (Nat.le_of_ble_eq_true rfl) (fun h hI fr => ?_)
  replace hF := mFr.tr hF fr
  refine g_ireturn (pc := 110) dX11_does_110 rfl (by first | exact rfl | exact j_nb _) ?_
  refine ⟨rfl, ?_, hF⟩
  unfold actR
  show InvM am (svR V k (if ccI (mlaw V) D nR (V k) x1 x2 = true then curR (V k) x1 x2 else V k)) h
  by_cases q : ccI (mlaw V) D nR (V k) x1 x2 = true
  · rw [if_pos q] at hI ⊢; exact hI
  · rw [if_neg q] at hI ⊢; rw [svR_self]; exact hI
set_option maxHeartbeats 2000000 in
theorem c_does4 {i x1 x2 x3 : Nat} (hd : 9 ≤ d) (hI : InvM am V h) (hT : MT V D nS nR nP) (hl : okL V) (hk : mlen k = 45) (hi : i < 80) (hx : RW V i (4, x1, x2, x3)) (hv : RV (V k) (2 ^ 30)) (hx1 : x1 < nS) : Ct E d 0 0 mX11_does [vR (nMo am), vR (nMa am k), vR (nMr am 29 i)] h (mQ am (svR V k (actR (mlaw V) D nR (V k) (4, x1, x2, x3))) h (some (vI (bI (actB (mlaw V) D nR (V k) (4, x1, x2, x3)))))) := by
  refine ct_of (by decide) (Nat.le_of_ble_eq_true rfl) rfl ?_
  have hF : mFr h h := mFr.rf
  have h10 := hT.2.2.2.2.1
  have h8 := hT.2.2.2.1
  refine g_aload_n (pc := 0) dX11_does_0 rfl ?_
  refine g_iconst (pc := 1) (v := 1) dX11_does_1 (by decide) ?_
  refine g_iaload (pc := 2) dX11_does_2 (mR hI 29 4 _ rfl (by show _ < 80; omega)) (j := 1) (by decide) (by omega) (by decide) rfl ?_
  rw [show V (1000 * 29 + i) 1 = nI x1 from hx.2.1 (show ¬ 4 = 5 by decide)]
  refine g_istore_n (pc := 3) (ls' := [_, _, _, _, _]) dX11_does_3 (by decide) rfl rfl ?_
  refine g_aload_n (pc := 4) dX11_does_4 rfl ?_
  refine g_iconst (pc := 5) (v := 0) dX11_does_5 (by decide) ?_
  refine g_iaload (pc := 6) dX11_does_6 (mR hI 29 4 _ rfl (by show _ < 80; omega)) (j := 0) (by decide) (by omega) (by decide) rfl ?_
  rw [show V (1000 * 29 + i) 0 = 4 from hx.1]
  refine g_tableIn (pc := 7) 111 dX11_does_7 (by decide) (by decide) rfl (by decide) ?_
  refine g_aload_n (pc := 111) dX11_does_111 rfl ?_
  refine g_iconst (pc := 112) (v := 0) dX11_does_112 (by decide) ?_
  refine g_iload_n (pc := 113) dX11_does_113 rfl ?_
  refine g_iadd (pc := 114) dX11_does_114 ?_
  refine g_iaload (pc := 115) dX11_does_115 (mA hI k 45 hk (by decide)) (j := x1) (by exact (Int32.zero_add _)) (by omega) (by decide) rfl ?_
  refine g_iconst (pc := 116) (v := 1) dX11_does_116 (by decide) ?_
  refine g_icmp_ne (pc := 117) 122 dX11_does_117 (by decide) (fun c_117 => ?_) (fun c_117 => ?_)
  · refine g_iconst (pc := 122) (v := 0) dX11_does_122 (by decide) ?_
    refine g_istore (pc := 123) (ls' := [_, _, _, _, _]) dX11_does_123 (by decide) rfl rfl ?_
    have eb : actB (mlaw V) D nR (V k) (4, x1, x2, x3) = true := by show (!(decide (V k x1 = 1))) = _; rw [decide_eq_false c_117]; rfl
    rw [eb]
    unfold actR
    rw [if_pos eb]
    exact l_dies hT hk x1 hx1 nR 0 h rfl (Nat.zero_le _) (by rw [dieF_0, svR_self]; exact hI) hF
  · refine g_iconst (pc := 120) (v := 0) dX11_does_120 (by decide) ?_
    refine g_ireturn (pc := 121) dX11_does_121 rfl (by first | exact rfl | exact j_nb _) ?_
    have eb : actB (mlaw V) D nR (V k) (4, x1, x2, x3) = false := by show (!(decide (V k x1 = 1))) = _; rw [decide_eq_true c_117]; rfl
    rw [eb]
    unfold actR
    rw [if_neg (by rw [eb]; decide), svR_self]
    exact ⟨rfl, hI, hF⟩
set_option maxHeartbeats 2000000 in
theorem c_does5 {i x1 x2 x3 : Nat} (hd : 9 ≤ d) (hI : InvM am V h) (hT : MT V D nS nR nP) (hl : okL V) (hk : mlen k = 45) (hi : i < 80) (hx : RW V i (5, x1, x2, x3)) (hv : RV (V k) (2 ^ 30))  : Ct E d 0 0 mX11_does [vR (nMo am), vR (nMa am k), vR (nMr am 29 i)] h (mQ am (svR V k (actR (mlaw V) D nR (V k) (5, x1, x2, x3))) h (some (vI (bI (actB (mlaw V) D nR (V k) (5, x1, x2, x3)))))) := by
  refine ct_of (by decide) (Nat.le_of_ble_eq_true rfl) rfl ?_
  have hF : mFr h h := mFr.rf
  have h10 := hT.2.2.2.2.1
  have h8 := hT.2.2.2.1
  refine g_aload_n (pc := 0) dX11_does_0 rfl ?_
  refine g_iconst (pc := 1) (v := 1) dX11_does_1 (by decide) ?_
  refine g_iaload (pc := 2) dX11_does_2 (mR hI 29 4 _ rfl (by show _ < 80; omega)) (j := 1) (by decide) (by omega) (by decide) rfl ?_
  
  refine g_istore_n (pc := 3) (ls' := [_, _, _, _, _]) dX11_does_3 (by decide) rfl rfl ?_
  refine g_aload_n (pc := 4) dX11_does_4 rfl ?_
  refine g_iconst (pc := 5) (v := 0) dX11_does_5 (by decide) ?_
  refine g_iaload (pc := 6) dX11_does_6 (mR hI 29 4 _ rfl (by show _ < 80; omega)) (j := 0) (by decide) (by omega) (by decide) rfl ?_
  rw [show V (1000 * 29 + i) 0 = 5 from hx.1]
  refine g_tableOut (pc := 7) 181 dX11_does_7 (Or.inr (by decide)) (by decide) ?_
  refine g_aload_n (pc := 181) dX11_does_181 rfl ?_
  refine g_bipush (pc := 182) (v := 44) dX11_does_182 (by decide) ?_
  refine g_iaload (pc := 184) dX11_does_184 (mA hI k 45 hk (by decide)) (j := 44) (by decide) (by omega) (by decide) rfl ?_
  refine g_sipush (pc := 185) (v := 500) dX11_does_185 (by decide) ?_
  refine g_icmp_lt (pc := 188) 193 dX11_does_188 (by decide) (fun c_188 => ?_) (fun c_188 => ?_)
  · refine g_aload_n (pc := 193) dX11_does_193 rfl ?_
    refine g_aload_n (pc := 194) dX11_does_194 rfl ?_
    refine m_cVv (pc := 195) (M' := mX11_dayEnds) (as := [_]) i_X11_308_11 eX11_dayEnds hI dX11_does_195 (c_dayEnds (by omega) hI hT hk) (by omega) rfl rfl (Nat.le_of_ble_eq_true rfl) (fun h hI fr => ?_)
    replace hF := mFr.tr hF fr
    refine g_iconst (pc := 198) (v := 1) dX11_does_198 (by decide) ?_
    refine g_ireturn (pc := 199) dX11_does_199 rfl (by first | exact rfl | exact j_nb _) ?_
    have eb : actB (mlaw V) D nR (V k) (5, x1, x2, x3) = true := by exact decide_eq_true c_188
    rw [eb]
    unfold actR
    rw [if_pos eb]
    exact ⟨rfl, hI, hF⟩
  · refine g_iconst (pc := 191) (v := 0) dX11_does_191 (by decide) ?_
    refine g_ireturn (pc := 192) dX11_does_192 rfl (by first | exact rfl | exact j_nb _) ?_
    have eb : actB (mlaw V) D nR (V k) (5, x1, x2, x3) = false := by exact decide_eq_false c_188
    rw [eb]
    unfold actR
    rw [if_neg (by rw [eb]; decide), svR_self]
    exact ⟨rfl, hI, hF⟩
theorem c_does {i : Nat} {x : sr} (hd : 9 ≤ d) (hI : InvM am V h) (hT : MT V D nS nR nP) (hl : okL V) (hk : mlen k = 45) (hi : i < 80) (hx : RW V i x) (hg : RG (V k)) (ok : okA nS nR nP x) : Ct E d 0 0 mX11_does [vR (nMo am), vR (nMa am k), vR (nMr am 29 i)] h (mQ am (svR V k (actR (mlaw V) D nR (V k) x)) h (some (vI (bI (actB (mlaw V) D nR (V k) x))))) := by
  obtain ⟨⟨y, h1, h2, h3⟩, -⟩ := hg
  have hv : RV (V k) (2 ^ 30) := h3.mono (by omega)
  obtain ⟨x0, x1, x2, x3⟩ := x
  rcases ok with w | w | w | w
  · obtain ⟨w1, w2⟩ := w
    have w1 : x0 < 2 := w1
    have : x0 = 0 ∨ x0 = 1 := by omega
    rcases this with rfl | rfl
    · exact c_does0 hd hI hT hl hk hi hx hv w2
    · exact c_does1 hd hI hT hl hk hi hx hv w2
  · obtain ⟨w1, w2, w3⟩ := w
    have w1 : x0 = 3 := w1
    subst w1
    exact c_does3 hd hI hT hl hk hi hx hv w2 w3
  · obtain ⟨w1, w2⟩ := w
    have w1 : x0 = 2 ∨ x0 = 4 := w1
    rcases w1 with rfl | rfl
    · exact c_does2 hd hI hT hl hk hi hx hv w2
    · exact c_does4 hd hI hT hl hk hi hx hv w2
  · have w : x0 = 5 := w
    subst w
    exact c_does5 hd hI hT hl hk hi hx hv
end
def xV (V : mV) (g : xS) : mV := sv (sv (sv (svR V 31 g.1) 0 40 (nI g.2.1)) 0 41 (nI g.2.2.1)) 0 37 (nI g.2.2.2)
theorem xV_e {V : mV} {g : xS} : xV V g = svR (sv (sv (sv V 0 40 (nI g.2.1)) 0 41 (nI g.2.2.1)) 0 37 (nI g.2.2.2)) 31 g.1 := by unfold xV; rw [svR_f0 (by decide), svR_f0 (by decide), svR_f0 (by decide)]
theorem xV_MT {V : mV} {D : Nat → Nat → Nat} {nS nR nP : Nat} {g : xS} (h : MT V D nS nR nP) : MT (xV V g) D nS nR nP := (h.row (k := 31) rfl).f0.f0.f0
theorem xV_okL {V : mV} {g : xS} (h : okL V) : okL (xV V g) := (((h.row (k := 31) rfl).f0 (by decide)).f0 (by decide)).f0 (by decide)
theorem xV_law {V : mV} {g : xS} : mlaw (xV V g) = mlaw V := by unfold xV; rw [mlaw_f0 (by decide), mlaw_f0 (by decide), mlaw_f0 (by decide), mlaw_row (k := 31) rfl]
theorem xV_31 {V : mV} {g : xS} : xV V g 31 = g.1 := by rw [xV_e, svR_row]
theorem xV_40 {V : mV} {g : xS} : xV V g 0 40 = nI g.2.1 := by unfold xV; rw [sv_nj (by decide), sv_nj (by decide), sv_same]
theorem xV_41 {V : mV} {g : xS} : xV V g 0 41 = nI g.2.2.1 := by unfold xV; rw [sv_nj (by decide), sv_same]
theorem xV_37 {V : mV} {g : xS} : xV V g 0 37 = nI g.2.2.2 := by unfold xV; rw [sv_same]
theorem xV_o {V : mV} {g : xS} {r : Nat} (h0 : r ≠ 0) (h1 : r ≠ 31) : xV V g r = V r := by rw [xV_e, svR_ne h1, sv_ne h0, sv_ne h0, sv_ne h0]
theorem xV_0 {V : mV} {g : xS} {j : Nat} (h1 : j ≠ 40) (h2 : j ≠ 41) (h3 : j ≠ 37) : xV V g 0 j = V 0 j := by rw [xV_e, svR_ne (by decide), sv_nj h3, sv_nj h2, sv_nj h1]
theorem xV_row {V : mV} {g : xS} {R : Nat → Int32} : svR (xV V g) 31 R = xV V (R, g.2) := by rw [xV_e, svR_svR, xV_e]
theorem xV_b {V : mV} {g : xS} {x : Nat} : sv (xV V g) 0 40 (nI x) = xV V (g.1, x, g.2.2) := by unfold xV; rw [sv_cm (r := 0) (j := 37) (r' := 0) (j' := 40) (Or.inr (by decide)), sv_cm (r := 0) (j := 41) (r' := 0) (j' := 40) (Or.inr (by decide)), sv_sv]
theorem xV_d {V : mV} {g : xS} {x : Nat} : sv (xV V g) 0 41 (nI x) = xV V (g.1, g.2.1, x, g.2.2.2) := by unfold xV; rw [sv_cm (r := 0) (j := 37) (r' := 0) (j' := 41) (Or.inr (by decide)), sv_sv]
theorem xV_r {V : mV} {g : xS} {x : Nat} : sv (xV V g) 0 37 (nI x) = xV V (g.1, g.2.1, g.2.2.1, x) := by unfold xV; rw [sv_sv]
theorem wx_full {lw : (Nat → Int32) → Int32} {D : Nat → Nat → Nat} {nR : Nat} {L : List sr} : ∀ (m md a b : Nat) (g : xS), g.2.1 = 200 → wx lw D nR L m md a b g = g
  | 0, _, _, _, _, _ => rfl
  | m + 1, md, a, b, g, h => by
    unfold wx
    rw [if_pos h, if_pos h, wx_full m 0 a 0 g h, wx_full m 2 _ b g h]
    simp
theorem nI_200 {x : Nat} (h : x ≤ 200) (hn : ¬ x = 200) : ¬ (200 : Int32) ≤ nI x := by
  intro w
  have := (nI_leI (a := 200) (b := x) (by decide) (by omega)).mp w
  omega
section
variable {E : jE} {am : Nat → Nat} {V : mV} {D : Nat → Nat → Nat} {nS nR nP : Nat} {L : List sr}
def GOb (E : jE) (am : Nat → Nat) (V : mV) (D : Nat → Nat → Nat) (nR : Nat) (L : List sr) (m : Nat) : Prop := ∀ (d bc bs : Nat) (h h0 : jH) (a b : Nat) (g : xS) (x : Int32) (u : Option jV), InvM am (xV V g) h → mFr h0 h → okX g → okE L a b → a ≤ b → 45 * (b - a) + 1 ≤ m → (b - a) + 12 ≤ d → G E d bc bs mX11_goes 2 [some (vR (nMo am)), some (vI x), some (vI (nI b)), some (vI (nI a)), u] [] h (mQ am (xV V (wx (mlaw V) D nR L m 2 a b g)) h0 none)
def GOi (E : jE) (am : Nat → Nat) (V : mV) (D : Nat → Nat → Nat) (nR : Nat) (L : List sr) (m : Nat) : Prop := ∀ (d bc bs : Nat) (h h0 : jH) (a b j : Nat) (g : xS) (x : Int32) (Q : jR → jH → Prop), InvM am (xV V g) h → mFr h0 h → okX g → a < L.length → (L.getD a s0).1 = 6 → j ≤ (L.getD a s0).2.1 → ((L.getD a s0).2.1 - j) + 45 * ((L.getD a s0).2.2.2 - (a + 1)) + 2 ≤ m → ((L.getD a s0).2.2.2 - (a + 1)) + 13 ≤ d →
  (∀ h j', InvM am (xV V (wx (mlaw V) D nR L m 1 a ((L.getD a s0).2.1 - j) g)) h → mFr h0 h → G E d bc bs mX11_goes 87 [some (vR (nMo am)), some (vI x), some (vI (nI b)), some (vI (nI a)), some (vI (nI j'))] [] h Q) →
  G E d bc bs mX11_goes 43 [some (vR (nMo am)), some (vI x), some (vI (nI b)), some (vI (nI a)), some (vI (nI j))] [] h Q
theorem c_goes_of {m d : Nat} {h : jH} (hb : GOb E am V D nR L m) {a b : Nat} {g : xS} (hI : InvM am (xV V g) h) (hx : okX g) (he : okE L a b) (hab : a ≤ b) (hm : 45 * (b - a) + 1 ≤ m) (hd : (b - a) + 12 ≤ d) : Ct E d 0 0 mX11_goes [vR (nMo am), vI (nI a), vI (nI b)] h (mQ am (xV V (wx (mlaw V) D nR L m 2 a b g)) h none) := by
  refine ct_of (by decide) (Nat.le_of_ble_eq_true rfl) rfl ?_
  refine g_iload_n (pc := 0) dX11_goes_0 rfl ?_
  refine g_istore_n (pc := 1) (ls' := [_, _, _, _, _]) dX11_goes_1 (by decide) rfl rfl ?_
  exact hb d _ _ h h a b g _ _ hI mFr.rf hx he hab hm hd
set_option maxHeartbeats 2000000 in
theorem go_i (hT : MT V D nS nR nP) (hl : okL V) (hL : okV nS nR nP L) (hR : ∀ q, q < L.length → RW V q (L.getD q s0)) (hL8 : L.length < 80) {m : Nat} (ihb : GOb E am V D nR L m) (ihi : GOi E am V D nR L m) : GOi E am V D nR L (m + 1) := by
  intro d bc bs h h0 a b j g x Q hI hF hg ha e6 hj hm hd kk
  have hk := hL a ha
  have ht : (L.getD a s0).2.1 ≤ 40 := by
    rcases hk.1 with w | w
    · exact w.2
    · rcases w.1 with z | z | z | z <;> omega
  have hr := (hR a ha).of (show xV V g (1000 * 29 + a) = V (1000 * 29 + a) from xV_o (by omega) (by omega))
  generalize hx1 : (L.getD a s0).2.1 = t at *
  generalize hx3 : (L.getD a s0).2.2.2 = e at *
  have hr1 : xV V g (1000 * 29 + a) 1 = nI t := by rw [← hx1]; exact hr.2.1 (by omega)
  have hr3 : xV V g (1000 * 29 + a) 3 = nI e := by rw [← hx3]; exact hr.2.2.2
  refine g_iload (pc := 43) dX11_goes_43 rfl ?_
  refine g_aload_n (pc := 45) dX11_goes_45 rfl ?_
  refine g_getfield (pc := 46) f_X11_70_11 dX11_goes_46 hI.1 mf_29 ?_
  refine g_iload_n (pc := 49) dX11_goes_49 rfl ?_
  refine g_aaload (pc := 50) (t := 5) rfl rfl dX11_goes_50 (mG hI 29 80 rfl (by decide)) (j := a) rfl (by omega) (by decide) rfl ?_
  refine g_iconst (pc := 51) (v := 1) dX11_goes_51 (by decide) ?_
  refine g_iaload (pc := 52) dX11_goes_52 (mR hI 29 4 _ rfl (by show _ < 80; omega)) (j := 1) (by decide) (by omega) (by decide) rfl ?_
  rw [hr1]
  refine g_icmp_ge (pc := 53) 87 dX11_goes_53 (by decide) (fun c_53 => ?_) (fun c_53 => ?_)
  · have ej : t - j = 0 := by
      have := (nI_leI (by omega) (by omega)).mp c_53
      omega
    rw [ej] at kk
    exact kk h j (by rw [show wx (mlaw V) D nR L (m + 1) 1 a 0 g = g by unfold wx; rw [if_neg (by decide), if_pos rfl, if_pos rfl]]; exact hI) hF
  · refine g_aload_n (pc := 56) dX11_goes_56 rfl ?_
    refine g_getfield (pc := 57) f_X11_312_11 dX11_goes_57 hI.1 mf_40 ?_
    rw [xV_40]
    refine g_sipush (pc := 60) (v := 200) dX11_goes_60 (by decide) ?_
    refine g_icmp_ge (pc := 63) 87 dX11_goes_63 (by decide) (fun c_63 => ?_) (fun c_63 => ?_)
    · have e2 : g.2.1 = 200 := by
        have h2 := hg.2.1
        by_cases w : g.2.1 = 200
        · exact w
        · exact absurd c_63 (nI_200 h2 w)
      exact kk h j (by rw [wx_full _ _ _ _ _ e2]; exact hI) hF
    · refine g_aload_n (pc := 66) dX11_goes_66 rfl ?_
      refine g_iload_n (pc := 67) dX11_goes_67 rfl ?_
      refine g_iconst (pc := 68) (v := 1) dX11_goes_68 (by decide) ?_
      refine g_iadd (pc := 69) dX11_goes_69 ?_
      rw [nI_1]
      refine g_aload_n (pc := 70) dX11_goes_70 rfl ?_
      refine g_getfield (pc := 71) f_X11_70_11 dX11_goes_71 hI.1 mf_29 ?_
      refine g_iload_n (pc := 74) dX11_goes_74 rfl ?_
      refine g_aaload (pc := 75) (t := 5) rfl rfl dX11_goes_75 (mG hI 29 80 rfl (by decide)) (j := a) rfl (by omega) (by decide) rfl ?_
      refine g_iconst (pc := 76) (v := 3) dX11_goes_76 (by decide) ?_
      refine g_iaload (pc := 77) dX11_goes_77 (mR hI 29 4 _ rfl (by show _ < 80; omega)) (j := 3) (by decide) (by omega) (by decide) rfl ?_
      rw [hr3]
      refine m_cVv (pc := 78) (M' := mX11_goes) (as := [_, _]) i_X11_315_11 eX11_goes hI dX11_goes_78 (c_goes_of ihb hI hg (show okE L (a + 1) e from ⟨by omega, fun q w1 w2 => by have := hk.2.2.2 q (by omega) w2; omega⟩) (by omega) (by omega) (by omega)) (by omega) rfl rfl (Nat.le_of_ble_eq_true rfl) (fun h hI fr => ?_)
      replace hF := mFr.tr hF fr
      refine g_iinc (pc := 81) (ls' := [_, _, _, _, _]) dX11_goes_81 rfl (by first | exact nI_1 _ | exact rfl) (by decide) rfl rfl ?_
      refine g_goto (pc := 84) 43 dX11_goes_84 (by decide) ?_
      have hjt : j < t := by
        rcases Nat.lt_or_ge j t with w | w
        · exact w
        · exact absurd (nI_le w (by omega)) c_53
      have hne : ¬ g.2.1 = 200 := fun w => c_63 (by rw [w]; decide)
      have ew : wx (mlaw V) D nR L (m + 1) 1 a (t - j) g = wx (mlaw V) D nR L m 1 a (t - (j + 1)) (wx (mlaw V) D nR L m 2 (a + 1) e g) := by
        rw [show wx (mlaw V) D nR L (m + 1) 1 a (t - j) g = (if (1 : Nat) = 0 then _ else if (1 : Nat) = 1 then (if t - j = 0 then g else if g.2.1 = 200 then g else wx (mlaw V) D nR L m 1 a (t - j - 1) (wx (mlaw V) D nR L m 2 (a + 1) (L.getD a s0).2.2.2 g)) else _) from rfl, if_neg (by decide), if_pos rfl, if_neg (by omega), if_neg hne, hx3]
        rfl
      rw [ew] at kk
      refine ihi d bc bs h h0 a b (j + 1) _ x Q hI hF (wx_ok hT.2.2.2.1 hT.2.2.2.2.1 hT.2.2.2.2.2.1 hL m 2 (a + 1) e g hg (fun w => absurd w (by decide)) (fun _ => ⟨by omega, fun q w1 w2 => by have := hk.2.2.2 q (by omega) w2; omega⟩)) ha e6 (by rw [hx1]; omega) (by rw [hx1, hx3]; omega) (by rw [hx3]; omega) ?_
      rw [hx1]
      exact kk
set_option maxHeartbeats 4000000 in
theorem go_b (hT : MT V D nS nR nP) (hl : okL V) (hL : okV nS nR nP L) (hR : ∀ q, q < L.length → RW V q (L.getD q s0)) (hL8 : L.length < 80) {m : Nat} (ihb : ∀ m', m' < m → GOb E am V D nR L m') (ihi : ∀ m', m' < m → GOi E am V D nR L m') : GOb E am V D nR L m := by
  intro d bc bs h h0 a b g x u hI hF hg he hab hm hd
  have hb8 := he.1
  refine g_iload_n (pc := 2) dX11_goes_2 rfl ?_
  refine g_iload_n (pc := 3) dX11_goes_3 rfl ?_
  refine g_icmp_ge (pc := 4) 156 dX11_goes_4 (by decide) (fun c_4 => ?_) (fun c_4 => ?_)
  · have eab : ¬ a < b := fun w => absurd c_4 (nI_ge w (by omega))
    rw [show wx (mlaw V) D nR L m 2 a b g = g by cases m with | zero => rfl | succ m => unfold wx; rw [if_neg (by decide), if_neg (by decide), if_neg eab]]
    refine g_return (pc := 156) dX11_goes_156 rfl ?_
    exact ⟨rfl, hI, hF⟩
  · refine g_aload_n (pc := 7) dX11_goes_7 rfl ?_
    refine g_getfield (pc := 8) f_X11_312_11 dX11_goes_8 hI.1 mf_40 ?_
    refine g_sipush (pc := 11) (v := 200) dX11_goes_11 (by decide) ?_
    rw [xV_40]
    refine g_icmp_ge (pc := 14) 156 dX11_goes_14 (by decide) (fun c_14 => ?_) (fun c_14 => ?_)
    · have e2 : g.2.1 = 200 := by
        by_cases w : g.2.1 = 200
        · exact w
        · exact absurd c_14 (nI_200 hg.2.1 w)
      rw [wx_full _ _ _ _ _ e2]
      refine g_return (pc := 156) dX11_goes_156 rfl ?_
      exact ⟨rfl, hI, hF⟩
    · have hlt : a < b := by
        rcases Nat.lt_or_ge a b with w | w
        · exact w
        · exact absurd (nI_le w (by omega)) c_4
      have ha : a < L.length := by omega
      have hne : ¬ g.2.1 = 200 := fun w => c_14 (by rw [w]; decide)
      have hk := hL a ha
      have hea := he.2 a (Nat.le_refl _) hlt
      have hg1 : okX (g.1, g.2.1 + 1, g.2.2) := ⟨hg.1, by have := hg.2.1; show g.2.1 + 1 ≤ 200; omega, by have := hg.2.2; show g.2.2.1 + g.2.2.2 ≤ g.2.1 + 1; omega⟩
      obtain ⟨m1, rfl⟩ : ∃ m1, m = m1 + 1 + 1 := ⟨m - 2, by omega⟩
      rw [show wx (mlaw V) D nR L (m1 + 1 + 1) 2 a b g = wx (mlaw V) D nR L (m1 + 1) 2 (L.getD a s0).2.2.2 b (wx (mlaw V) D nR L (m1 + 1) 0 a 0 g) by
        rw [show wx (mlaw V) D nR L (m1 + 1 + 1) 2 a b g = (if (2 : Nat) = 0 then _ else if (2 : Nat) = 1 then _ else if a < b then wx (mlaw V) D nR L (m1 + 1) 2 (L.getD a s0).2.2.2 b (wx (mlaw V) D nR L (m1 + 1) 0 a 0 g) else g) from rfl, if_neg (by decide), if_neg (by decide), if_pos hlt]]
      by_cases e6 : (L.getD a s0).1 = 6
      · have ht : (L.getD a s0).2.1 ≤ 40 := by
          rcases hk.1 with w | w
          · exact w.2
          · rcases w.1 with z | z | z | z <;> omega
        refine g_aload_n (pc := 17) dX11_goes_17 rfl ?_
        refine g_dup (pc := 18) dX11_goes_18 rfl ?_
        refine g_getfield (pc := 19) f_X11_312_11 dX11_goes_19 hI.1 mf_40 ?_
        refine g_iconst (pc := 22) (v := 1) dX11_goes_22 (by decide) ?_
        refine g_iadd (pc := 23) dX11_goes_23 ?_
        rw [xV_40, nI_1]
        refine m_put (pc := 24) hI w_X11_312_11 rfl (by decide) dX11_goes_24 (fun h hI fr => ?_)
        replace hF := mFr.tr hF fr
        rw [xV_b] at hI
        refine g_aload_n (pc := 27) dX11_goes_27 rfl ?_
        refine g_getfield (pc := 28) f_X11_70_11 dX11_goes_28 hI.1 mf_29 ?_
        refine g_iload_n (pc := 31) dX11_goes_31 rfl ?_
        refine g_aaload (pc := 32) (t := 5) rfl rfl dX11_goes_32 (mG hI 29 80 rfl (by decide)) (j := a) rfl (by omega) (by decide) rfl ?_
        refine g_iconst (pc := 33) (v := 0) dX11_goes_33 (by decide) ?_
        refine g_iaload (pc := 34) dX11_goes_34 (mR hI 29 4 _ rfl (by show _ < 80; omega)) (j := 0) (by decide) (by omega) (by decide) rfl ?_
        rw [((hR a ha).of (show xV V (g.1, g.2.1 + 1, g.2.2) (1000 * 29 + a) = V (1000 * 29 + a) from xV_o (by omega) (by omega))).1, e6]
        refine g_bipush (pc := 35) (v := 6) dX11_goes_35 (by decide) ?_
        refine g_icmp_ne (pc := 37) 90 dX11_goes_37 (by decide) (fun c_37 => absurd rfl c_37) (fun c_37 => ?_)
        refine g_iconst (pc := 40) (v := 0) dX11_goes_40 (by decide) ?_
        refine g_istore (pc := 41) (ls' := [_, _, _, _, _]) dX11_goes_41 (by decide) rfl rfl ?_
        refine ihi m1 (by omega) d bc bs h h0 a b 0 (g.1, g.2.1 + 1, g.2.2) x _ hI hF hg1 ha e6 (Nat.zero_le _) (by omega) (by omega) (fun h j' hI hF => ?_)
        have ew : wx (mlaw V) D nR L (m1 + 1) 0 a 0 g = wx (mlaw V) D nR L m1 1 a ((L.getD a s0).2.1 - 0) (g.1, g.2.1 + 1, g.2.2) := by
          rw [show wx (mlaw V) D nR L (m1 + 1) 0 a 0 g = (if (0 : Nat) = 0 then (if g.2.1 = 200 then g else if (L.getD a s0).1 = 6 then wx (mlaw V) D nR L m1 1 a (L.getD a s0).2.1 (g.1, g.2.1 + 1, g.2.2) else xAct (mlaw V) D nR (L.getD a s0) g) else _) from rfl, if_pos rfl, if_neg hne, if_pos e6]
          rfl
        rw [← ew] at hI
        refine g_goto (pc := 87) 144 dX11_goes_87 (by decide) ?_
        refine g_aload_n (pc := 144) dX11_goes_144 rfl ?_
        refine g_getfield (pc := 145) f_X11_70_11 dX11_goes_145 hI.1 mf_29 ?_
        refine g_iload_n (pc := 148) dX11_goes_148 rfl ?_
        refine g_aaload (pc := 149) (t := 5) rfl rfl dX11_goes_149 (mG hI 29 80 rfl (by decide)) (j := a) rfl (by omega) (by decide) rfl ?_
        refine g_iconst (pc := 150) (v := 3) dX11_goes_150 (by decide) ?_
        refine g_iaload (pc := 151) dX11_goes_151 (mR hI 29 4 _ rfl (by show _ < 80; omega)) (j := 3) (by decide) (by omega) (by decide) rfl ?_
        rw [((hR a ha).of (show xV V (wx (mlaw V) D nR L (m1 + 1) 0 a 0 g) (1000 * 29 + a) = V (1000 * 29 + a) from xV_o (by omega) (by omega))).2.2.2]
        refine g_istore_n (pc := 152) (ls' := [_, _, _, _, _]) dX11_goes_152 (by decide) rfl rfl ?_
        refine g_goto (pc := 153) 2 dX11_goes_153 (by decide) ?_
        refine ihb (m1 + 1) (by omega) d bc bs h h0 (L.getD a s0).2.2.2 b _ x _ hI hF (wx_ok hT.2.2.2.1 hT.2.2.2.2.1 hT.2.2.2.2.2.1 hL (m1 + 1) 0 a 0 g hg (fun _ => ha) (fun w => absurd w (by decide))) ⟨he.1, fun q w1 w2 => he.2 q (by omega) w2⟩ hea (by omega) (by omega)
      · have okx := (hk.1.resolve_left (fun w => e6 w.1)).1
        have ne6 : ¬ nI (L.getD a s0).1 = 6 := fun w => e6 ((nI_eq (b := 6) (by rcases okx with z | z | z | z <;> omega) (by decide)).mp w)
        have ew : wx (mlaw V) D nR L (m1 + 1) 0 a 0 g = xAct (mlaw V) D nR (L.getD a s0) g := by
          rw [show wx (mlaw V) D nR L (m1 + 1) 0 a 0 g = (if (0 : Nat) = 0 then (if g.2.1 = 200 then g else if (L.getD a s0).1 = 6 then wx (mlaw V) D nR L m1 1 a (L.getD a s0).2.1 (g.1, g.2.1 + 1, g.2.2) else xAct (mlaw V) D nR (L.getD a s0) g) else _) from rfl, if_pos rfl, if_neg hne, if_neg e6]
        refine g_aload_n (pc := 17) dX11_goes_17 rfl ?_
        refine g_dup (pc := 18) dX11_goes_18 rfl ?_
        refine g_getfield (pc := 19) f_X11_312_11 dX11_goes_19 hI.1 mf_40 ?_
        refine g_iconst (pc := 22) (v := 1) dX11_goes_22 (by decide) ?_
        refine g_iadd (pc := 23) dX11_goes_23 ?_
        rw [xV_40, nI_1]
        refine m_put (pc := 24) hI w_X11_312_11 rfl (by decide) dX11_goes_24 (fun h hI fr => ?_)
        replace hF := mFr.tr hF fr
        rw [xV_b] at hI
        refine g_aload_n (pc := 27) dX11_goes_27 rfl ?_
        refine g_getfield (pc := 28) f_X11_70_11 dX11_goes_28 hI.1 mf_29 ?_
        refine g_iload_n (pc := 31) dX11_goes_31 rfl ?_
        refine g_aaload (pc := 32) (t := 5) rfl rfl dX11_goes_32 (mG hI 29 80 rfl (by decide)) (j := a) rfl (by omega) (by decide) rfl ?_
        refine g_iconst (pc := 33) (v := 0) dX11_goes_33 (by decide) ?_
        refine g_iaload (pc := 34) dX11_goes_34 (mR hI 29 4 _ rfl (by show _ < 80; omega)) (j := 0) (by decide) (by omega) (by decide) rfl ?_
        rw [((hR a ha).of (show xV V (g.1, g.2.1 + 1, g.2.2) (1000 * 29 + a) = V (1000 * 29 + a) from xV_o (by omega) (by omega))).1]
        refine g_bipush (pc := 35) (v := 6) dX11_goes_35 (by decide) ?_
        refine g_icmp_ne (pc := 37) 90 dX11_goes_37 (by decide) (fun c_37 => ?_) (fun c_37 => absurd c_37 ne6)
        refine g_aload_n (pc := 90) dX11_goes_90 rfl ?_
        refine g_aload_n (pc := 91) dX11_goes_91 rfl ?_
        refine g_getfield (pc := 92) f_X11_73_11 dX11_goes_92 hI.1 mf_31 ?_
        refine g_aload_n (pc := 95) dX11_goes_95 rfl ?_
        refine g_getfield (pc := 96) f_X11_70_11 dX11_goes_96 hI.1 mf_29 ?_
        refine g_iload_n (pc := 99) dX11_goes_99 rfl ?_
        refine g_aaload (pc := 100) (t := 5) rfl rfl dX11_goes_100 (mG hI 29 80 rfl (by decide)) (j := a) rfl (by omega) (by decide) rfl ?_
        refine m_cV (pc := 101) (M' := mX11_does) (as := [_, _]) i_X11_318_11 eX11_does hI dX11_goes_101 (c_does (by omega) hI (xV_MT hT) (xV_okL hl) (k := 31) rfl (by omega) ((hR a ha).of (xV_o (by omega) (by omega))) (by rw [xV_31]; exact hg.1) okx) (by omega) rfl rfl (Nat.le_of_ble_eq_true rfl) (fun h hI fr => ?_)
        replace hF := mFr.tr hF fr
        refine g_istore (pc := 104) (ls' := [_, _, _, _, _]) dX11_goes_104 (by decide) rfl rfl ?_
        rw [xV_law, xV_31]
        rw [xV_law, xV_31, xV_row] at hI
        refine g_aload_n (pc := 106) dX11_goes_106 rfl ?_
        refine g_dup (pc := 107) dX11_goes_107 rfl ?_
        refine g_getfield (pc := 108) f_X11_322_11 dX11_goes_108 hI.1 mf_41 ?_
        refine g_iload (pc := 111) dX11_goes_111 rfl ?_
        refine g_ifB_eq (pc := 113) 120 dX11_goes_113 (by decide) (fun c_113 => ?_) (fun c_113 => ?_)
        · refine g_iconst (pc := 120) (v := 0) dX11_goes_120 (by decide) ?_
          refine g_iadd (pc := 121) dX11_goes_121 ?_
          rw [xV_41, show nI g.2.2.1 + 0 = nI (g.2.2.1 + (if actB (mlaw V) D nR g.1 (L.getD a s0) = true then 1 else 0)) by rw [c_113, if_neg (by decide)]; exact Int32.add_zero _]
          refine m_put (pc := 122) hI w_X11_322_11 rfl (by decide) dX11_goes_122 (fun h hI fr => ?_)
          replace hF := mFr.tr hF fr
          rw [xV_d] at hI
          refine g_aload_n (pc := 125) dX11_goes_125 rfl ?_
          refine g_dup (pc := 126) dX11_goes_126 rfl ?_
          refine g_getfield (pc := 127) f_X11_209_11 dX11_goes_127 hI.1 mf_37 ?_
          refine g_iload (pc := 130) dX11_goes_130 rfl ?_
          refine g_ifB_eq (pc := 132) 139 dX11_goes_132 (by decide) (fun c_132 => ?_) (fun c_132 => ?_)
          · refine g_iconst (pc := 139) (v := 1) dX11_goes_139 (by decide) ?_
            refine g_iadd (pc := 140) dX11_goes_140 ?_
            rw [xV_37, show nI g.2.2.2 + 1 = nI (g.2.2.2 + (if actB (mlaw V) D nR g.1 (L.getD a s0) = true then 0 else 1)) by rw [c_132, if_neg (by decide), nI_1]]
            refine m_put (pc := 141) hI w_X11_209_11 rfl (by decide) dX11_goes_141 (fun h hI fr => ?_)
            replace hF := mFr.tr hF fr
            rw [xV_r] at hI
            rw [show ((actR (mlaw V) D nR g.1 (L.getD a s0), g.2.1 + 1, g.2.2.1 + (if actB (mlaw V) D nR g.1 (L.getD a s0) = true then 1 else 0), g.2.2.2 + (if actB (mlaw V) D nR g.1 (L.getD a s0) = true then 0 else 1)) : xS) = wx (mlaw V) D nR L (m1 + 1) 0 a 0 g from ew.symm] at hI
            refine g_aload_n (pc := 144) dX11_goes_144 rfl ?_
            refine g_getfield (pc := 145) f_X11_70_11 dX11_goes_145 hI.1 mf_29 ?_
            refine g_iload_n (pc := 148) dX11_goes_148 rfl ?_
            refine g_aaload (pc := 149) (t := 5) rfl rfl dX11_goes_149 (mG hI 29 80 rfl (by decide)) (j := a) rfl (by omega) (by decide) rfl ?_
            refine g_iconst (pc := 150) (v := 3) dX11_goes_150 (by decide) ?_
            refine g_iaload (pc := 151) dX11_goes_151 (mR hI 29 4 _ rfl (by show _ < 80; omega)) (j := 3) (by decide) (by omega) (by decide) rfl ?_
            rw [((hR a ha).of (show xV V (wx (mlaw V) D nR L (m1 + 1) 0 a 0 g) (1000 * 29 + a) = V (1000 * 29 + a) from xV_o (by omega) (by omega))).2.2.2]
            refine g_istore_n (pc := 152) (ls' := [_, _, _, _, _]) dX11_goes_152 (by decide) rfl rfl ?_
            refine g_goto (pc := 153) 2 dX11_goes_153 (by decide) ?_
            refine ihb (m1 + 1) (by omega) d bc bs h h0 (L.getD a s0).2.2.2 b _ x _ hI hF (wx_ok hT.2.2.2.1 hT.2.2.2.2.1 hT.2.2.2.2.2.1 hL (m1 + 1) 0 a 0 g hg (fun _ => ha) (fun w => absurd w (by decide))) ⟨he.1, fun q w1 w2 => he.2 q (by omega) w2⟩ hea (by omega) (by omega)
          · refine g_iconst (pc := 135) (v := 0) dX11_goes_135 (by decide) ?_
            refine g_goto (pc := 136) 140 dX11_goes_136 (by decide) ?_
            refine g_iadd (pc := 140) dX11_goes_140 ?_
            rw [xV_37, show nI g.2.2.2 + 0 = nI (g.2.2.2 + (if actB (mlaw V) D nR g.1 (L.getD a s0) = true then 0 else 1)) by rw [c_132, if_pos rfl]; exact Int32.add_zero _]
            refine m_put (pc := 141) hI w_X11_209_11 rfl (by decide) dX11_goes_141 (fun h hI fr => ?_)
            replace hF := mFr.tr hF fr
            rw [xV_r] at hI
            rw [show ((actR (mlaw V) D nR g.1 (L.getD a s0), g.2.1 + 1, g.2.2.1 + (if actB (mlaw V) D nR g.1 (L.getD a s0) = true then 1 else 0), g.2.2.2 + (if actB (mlaw V) D nR g.1 (L.getD a s0) = true then 0 else 1)) : xS) = wx (mlaw V) D nR L (m1 + 1) 0 a 0 g from ew.symm] at hI
            refine g_aload_n (pc := 144) dX11_goes_144 rfl ?_
            refine g_getfield (pc := 145) f_X11_70_11 dX11_goes_145 hI.1 mf_29 ?_
            refine g_iload_n (pc := 148) dX11_goes_148 rfl ?_
            refine g_aaload (pc := 149) (t := 5) rfl rfl dX11_goes_149 (mG hI 29 80 rfl (by decide)) (j := a) rfl (by omega) (by decide) rfl ?_
            refine g_iconst (pc := 150) (v := 3) dX11_goes_150 (by decide) ?_
            refine g_iaload (pc := 151) dX11_goes_151 (mR hI 29 4 _ rfl (by show _ < 80; omega)) (j := 3) (by decide) (by omega) (by decide) rfl ?_
            rw [((hR a ha).of (show xV V (wx (mlaw V) D nR L (m1 + 1) 0 a 0 g) (1000 * 29 + a) = V (1000 * 29 + a) from xV_o (by omega) (by omega))).2.2.2]
            refine g_istore_n (pc := 152) (ls' := [_, _, _, _, _]) dX11_goes_152 (by decide) rfl rfl ?_
            refine g_goto (pc := 153) 2 dX11_goes_153 (by decide) ?_
            refine ihb (m1 + 1) (by omega) d bc bs h h0 (L.getD a s0).2.2.2 b _ x _ hI hF (wx_ok hT.2.2.2.1 hT.2.2.2.2.1 hT.2.2.2.2.2.1 hL (m1 + 1) 0 a 0 g hg (fun _ => ha) (fun w => absurd w (by decide))) ⟨he.1, fun q w1 w2 => he.2 q (by omega) w2⟩ hea (by omega) (by omega)
        · refine g_iconst (pc := 116) (v := 1) dX11_goes_116 (by decide) ?_
          refine g_goto (pc := 117) 121 dX11_goes_117 (by decide) ?_
          refine g_iadd (pc := 121) dX11_goes_121 ?_
          rw [xV_41, show nI g.2.2.1 + 1 = nI (g.2.2.1 + (if actB (mlaw V) D nR g.1 (L.getD a s0) = true then 1 else 0)) by rw [c_113, if_pos rfl, nI_1]]
          refine m_put (pc := 122) hI w_X11_322_11 rfl (by decide) dX11_goes_122 (fun h hI fr => ?_)
          replace hF := mFr.tr hF fr
          rw [xV_d] at hI
          refine g_aload_n (pc := 125) dX11_goes_125 rfl ?_
          refine g_dup (pc := 126) dX11_goes_126 rfl ?_
          refine g_getfield (pc := 127) f_X11_209_11 dX11_goes_127 hI.1 mf_37 ?_
          refine g_iload (pc := 130) dX11_goes_130 rfl ?_
          refine g_ifB_eq (pc := 132) 139 dX11_goes_132 (by decide) (fun c_132 => ?_) (fun c_132 => ?_)
          · refine g_iconst (pc := 139) (v := 1) dX11_goes_139 (by decide) ?_
            refine g_iadd (pc := 140) dX11_goes_140 ?_
            rw [xV_37, show nI g.2.2.2 + 1 = nI (g.2.2.2 + (if actB (mlaw V) D nR g.1 (L.getD a s0) = true then 0 else 1)) by rw [c_132, if_neg (by decide), nI_1]]
            refine m_put (pc := 141) hI w_X11_209_11 rfl (by decide) dX11_goes_141 (fun h hI fr => ?_)
            replace hF := mFr.tr hF fr
            rw [xV_r] at hI
            rw [show ((actR (mlaw V) D nR g.1 (L.getD a s0), g.2.1 + 1, g.2.2.1 + (if actB (mlaw V) D nR g.1 (L.getD a s0) = true then 1 else 0), g.2.2.2 + (if actB (mlaw V) D nR g.1 (L.getD a s0) = true then 0 else 1)) : xS) = wx (mlaw V) D nR L (m1 + 1) 0 a 0 g from ew.symm] at hI
            refine g_aload_n (pc := 144) dX11_goes_144 rfl ?_
            refine g_getfield (pc := 145) f_X11_70_11 dX11_goes_145 hI.1 mf_29 ?_
            refine g_iload_n (pc := 148) dX11_goes_148 rfl ?_
            refine g_aaload (pc := 149) (t := 5) rfl rfl dX11_goes_149 (mG hI 29 80 rfl (by decide)) (j := a) rfl (by omega) (by decide) rfl ?_
            refine g_iconst (pc := 150) (v := 3) dX11_goes_150 (by decide) ?_
            refine g_iaload (pc := 151) dX11_goes_151 (mR hI 29 4 _ rfl (by show _ < 80; omega)) (j := 3) (by decide) (by omega) (by decide) rfl ?_
            rw [((hR a ha).of (show xV V (wx (mlaw V) D nR L (m1 + 1) 0 a 0 g) (1000 * 29 + a) = V (1000 * 29 + a) from xV_o (by omega) (by omega))).2.2.2]
            refine g_istore_n (pc := 152) (ls' := [_, _, _, _, _]) dX11_goes_152 (by decide) rfl rfl ?_
            refine g_goto (pc := 153) 2 dX11_goes_153 (by decide) ?_
            refine ihb (m1 + 1) (by omega) d bc bs h h0 (L.getD a s0).2.2.2 b _ x _ hI hF (wx_ok hT.2.2.2.1 hT.2.2.2.2.1 hT.2.2.2.2.2.1 hL (m1 + 1) 0 a 0 g hg (fun _ => ha) (fun w => absurd w (by decide))) ⟨he.1, fun q w1 w2 => he.2 q (by omega) w2⟩ hea (by omega) (by omega)
          · refine g_iconst (pc := 135) (v := 0) dX11_goes_135 (by decide) ?_
            refine g_goto (pc := 136) 140 dX11_goes_136 (by decide) ?_
            refine g_iadd (pc := 140) dX11_goes_140 ?_
            rw [xV_37, show nI g.2.2.2 + 0 = nI (g.2.2.2 + (if actB (mlaw V) D nR g.1 (L.getD a s0) = true then 0 else 1)) by rw [c_132, if_pos rfl]; exact Int32.add_zero _]
            refine m_put (pc := 141) hI w_X11_209_11 rfl (by decide) dX11_goes_141 (fun h hI fr => ?_)
            replace hF := mFr.tr hF fr
            rw [xV_r] at hI
            rw [show ((actR (mlaw V) D nR g.1 (L.getD a s0), g.2.1 + 1, g.2.2.1 + (if actB (mlaw V) D nR g.1 (L.getD a s0) = true then 1 else 0), g.2.2.2 + (if actB (mlaw V) D nR g.1 (L.getD a s0) = true then 0 else 1)) : xS) = wx (mlaw V) D nR L (m1 + 1) 0 a 0 g from ew.symm] at hI
            refine g_aload_n (pc := 144) dX11_goes_144 rfl ?_
            refine g_getfield (pc := 145) f_X11_70_11 dX11_goes_145 hI.1 mf_29 ?_
            refine g_iload_n (pc := 148) dX11_goes_148 rfl ?_
            refine g_aaload (pc := 149) (t := 5) rfl rfl dX11_goes_149 (mG hI 29 80 rfl (by decide)) (j := a) rfl (by omega) (by decide) rfl ?_
            refine g_iconst (pc := 150) (v := 3) dX11_goes_150 (by decide) ?_
            refine g_iaload (pc := 151) dX11_goes_151 (mR hI 29 4 _ rfl (by show _ < 80; omega)) (j := 3) (by decide) (by omega) (by decide) rfl ?_
            rw [((hR a ha).of (show xV V (wx (mlaw V) D nR L (m1 + 1) 0 a 0 g) (1000 * 29 + a) = V (1000 * 29 + a) from xV_o (by omega) (by omega))).2.2.2]
            refine g_istore_n (pc := 152) (ls' := [_, _, _, _, _]) dX11_goes_152 (by decide) rfl rfl ?_
            refine g_goto (pc := 153) 2 dX11_goes_153 (by decide) ?_
            refine ihb (m1 + 1) (by omega) d bc bs h h0 (L.getD a s0).2.2.2 b _ x _ hI hF (wx_ok hT.2.2.2.1 hT.2.2.2.2.1 hT.2.2.2.2.2.1 hL (m1 + 1) 0 a 0 g hg (fun _ => ha) (fun w => absurd w (by decide))) ⟨he.1, fun q w1 w2 => he.2 q (by omega) w2⟩ hea (by omega) (by omega)
theorem go_all (hT : MT V D nS nR nP) (hl : okL V) (hL : okV nS nR nP L) (hR : ∀ q, q < L.length → RW V q (L.getD q s0)) (hL8 : L.length < 80) (m : Nat) : GOb E am V D nR L m ∧ GOi E am V D nR L m := by
  induction m using Nat.strongRecOn with
  | _ m ih =>
    have hb := go_b (E := E) (am := am) hT hl hL hR hL8 (fun m' w => (ih m' w).1) (fun m' w => (ih m' w).2)
    refine ⟨hb, ?_⟩
    cases m with
    | zero => exact fun d bc bs h h0 a b j g x Q _ _ _ _ _ _ hm => absurd hm (by omega)
    | succ m => exact go_i hT hl hL hR hL8 (ih m (by omega)).1 (ih m (by omega)).2
end
