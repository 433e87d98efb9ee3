/-! THE REFERENCE: its law, power. Printed by m_pow2.py -/
set_option maxRecDepth 100000
section
variable {E : jE} {d : Nat} {h : jH} {am : Nat → Nat} {V : mV} {D : Nat → Nat → Nat} {nS nR nP k : Nat}
/-- the heap while a law is run: the eight facts f, the stack g -/
def bS (h : jH) (am : Nat → Nat) (f g : Nat → Int32) : jH := hs (hs h (nMa am 28) (iA 8 f)) (nMa am 27) (iA 160 g)
theorem bO {f g : Nat → Int32} (hI : InvM am V h) : bS h am f g (nMo am) = some (oO 11 (mF am V)) := by unfold bS; rw [hs_nr (by simp), hs_nr (by simp)]; exact hI.1
theorem bK {f g : Nat → Int32} : bS h am f g (nMa am 28) = some (iA 8 f) := by unfold bS; rw [hs_nr (by simp), hs_same]
theorem bSs {f g : Nat → Int32} : bS h am f g (nMa am 27) = some (iA 160 g) := by unfold bS; rw [hs_same]
theorem bG {f g : Nat → Int32} (hI : InvM am V h) : bS h am f g (nMa am 23) = some (rA 5 160 (fun i => some (nMr am 23 i))) := by unfold bS; rw [hs_nr (by simp), hs_nr (by simp)]; exact mG hI 23 160 rfl (by decide)
theorem bR {f g : Nat → Int32} (hI : InvM am V h) (i : Nat) (hi : i < 160) : bS h am f g (nMr am 23 i) = some (iA 2 (V (1000 * 23 + i))) := by unfold bS; rw [hs_nr (by simp <;> omega), hs_nr (by simp <;> omega)]; exact mR hI 23 2 i rfl hi
theorem b_ist {bc bs pc j : Nat} {M : jM} {ls : List (Option jV)} {st : List jV} {Q : jR → jH → Prop} {f g : Nat → Int32} {i y : Int32} (hd : decode M.2.1 pc = .ok (.iastore, 1)) (hi : i = nI j) (hj : j < 160) (k : G E d bc bs M (pc + 1) ls st (bS h am f (j_up g j y)) Q) : G E d bc bs M pc ls (vI y :: vI i :: vR (nMa am 27) :: st) (bS h am f g) Q :=
  g_iastore hd bSs (by simp) hi hj (by decide) (by unfold bS at k ⊢; rw [hs_hs]; exact k)
theorem getD_app1 {b : List Int32} {x : Int32} {j : Nat} (h : j < b.length) : (b ++ [x]).getD j 0 = b.getD j 0 := by simp [List.getD, List.getElem?_append_left h]
theorem getD_app2 {b : List Int32} {x : Int32} {j : Nat} (h : j = b.length) : (b ++ [x]).getD j 0 = x := by subst h; simp [List.getD]
theorem getD_take {b : List Int32} {j n : Nat} (h : j < n) : (b.take n).getD j 0 = b.getD j 0 := by simp [List.getD, List.getElem?_take, h]
set_option maxHeartbeats 4000000 in
theorem l_byLaw {bc bs L : Nat} {f : Nat → Int32} (hd : 2 ≤ d) (hI : InvM am V h) (hV : V 0 21 = nI L) (hc : okC (fun k => V (1000 * 23 + k)) L) : ∀ (m r q : Nat) (g : Nat → Int32), L - r = m → r ≤ L → (evL (fun k => V (1000 * 23 + k)) f r).length = q → (∀ j, j < q → g j = (evL (fun k => V (1000 * 23 + k)) f r).getD j 0) → (r = 0 → g 0 = f 0 + f 1 - 2 * f 2) → G E d bc bs mX11_byLaw 32 [some (vR (nMo am)), some (vI (nI q)), some (vI (nI r))] [] (bS h am f g) (qR (some (vI (clampI (lawI (fun k => V (1000 * 23 + k)) L f)))) (hs h (nMa am 28) (iA 8 f))) := by
  intro m
  induction m with
  | zero =>
    intro r q g hm hr hq hg hg0
    have e : r = L := by omega
    subst e
    have hL := hc.1
    have hlen := evL_len (fun k => V (1000 * 23 + k)) f r
    refine g_iload_n (pc := 32) dX11_byLaw_32 rfl ?_
    refine g_aload_n (pc := 33) dX11_byLaw_33 rfl ?_
    refine g_getfield (pc := 34) f_X11_200_11 dX11_byLaw_34 (bO hI) mf_21 ?_
    rw [hV]
    refine g_icmp_ge (pc := 37) 141 dX11_byLaw_37 (by decide) (fun c_37 => ?_) (fun c_37 => absurd (nI_le (Nat.le_refl _) (by omega)) c_37)
    refine g_bipush (pc := 141) (v := 99) dX11_byLaw_141 (by decide) ?_
    refine g_iconst (pc := 143) (v := 0) dX11_byLaw_143 (by decide) ?_
    refine g_aload_n (pc := 144) dX11_byLaw_144 rfl ?_
    refine g_getfield (pc := 145) f_X11_64_11 dX11_byLaw_145 (bO hI) mf_27 ?_
    refine g_iconst (pc := 148) (v := 0) dX11_byLaw_148 (by decide) ?_
    refine g_iaload (pc := 149) dX11_byLaw_149 bSs (j := 0) (by decide) (by omega) (by decide) rfl ?_
    refine g_cS (pc := 150) (M' := mX11_more) (as := [_, _]) i_X11_248 eX11_more dX11_byLaw_150 (c_more _ _) (by omega) rfl rfl (Nat.le_of_ble_eq_true rfl) ?_
    refine g_cS (pc := 153) (M' := mX11_less) (as := [_, _]) i_X11_245 eX11_less dX11_byLaw_153 (c_less _ _) (by omega) rfl rfl (Nat.le_of_ble_eq_true rfl) ?_
    refine g_close (x := nMa am 27) (n := 160) (f := g) bSs ?_
    have eh : hs (bS h am f g) (nMa am 27) (oS 160) = hs h (nMa am 28) (iA 8 f) := by
      unfold bS
      rw [hs_hs, hs_self]
      rw [hs_nr (by simp)]
      exact hI.2.2.2.2.1
    rw [eh]
    refine g_ireturn (pc := 156) dX11_byLaw_156 rfl rfl ?_
    refine ⟨?_, rfl⟩
    have e0 : g 0 = lawI (fun k => V (1000 * 23 + k)) r f := by
      unfold lawI
      by_cases w : r = 0
      · rw [if_pos w]; exact hg0 w
      · rw [if_neg w]
        obtain ⟨r', rfl⟩ : ∃ r', r = r' + 1 := ⟨r - 1, by omega⟩
        exact hg 0 (by rw [← hq]; exact evL_pos _ f r')
    rw [e0]
    rfl
  | succ m ih =>
    intro r q g hm hr hq hg hg0
    have hL := hc.1
    have hlen := evL_len (fun k => V (1000 * 23 + k)) f r
    have hcr := hc.2 r (by omega)
    refine g_iload_n (pc := 32) dX11_byLaw_32 rfl ?_
    refine g_aload_n (pc := 33) dX11_byLaw_33 rfl ?_
    refine g_getfield (pc := 34) f_X11_200_11 dX11_byLaw_34 (bO hI) mf_21 ?_
    rw [hV]
    refine g_icmp_ge (pc := 37) 141 dX11_byLaw_37 (by decide) (fun c_37 => absurd c_37 (by intro w; have := (nI_leI (by omega) (by omega)).mp w; omega)) (fun c_37 => ?_)
    refine g_aload_n (pc := 40) dX11_byLaw_40 rfl ?_
    refine g_getfield (pc := 41) f_X11_52_11 dX11_byLaw_41 (bO hI) mf_23 ?_
    refine g_iload_n (pc := 44) dX11_byLaw_44 rfl ?_
    refine g_aaload (pc := 45) (t := 5) rfl rfl dX11_byLaw_45 (bG hI) rfl (by omega) (by decide) rfl ?_
    refine g_iconst (pc := 46) (v := 0) dX11_byLaw_46 (by decide) ?_
    refine g_iaload (pc := 47) dX11_byLaw_47 (bR hI r (by omega)) (j := 0) (by decide) (by omega) (by decide) rfl ?_
    refine g_iconst (pc := 48) (v := 2) dX11_byLaw_48 (by decide) ?_
    refine g_icmp_ge (pc := 49) 99 dX11_byLaw_49 (by decide) (fun c_49 => ?_) (fun c_49 => ?_)
    · have hcr2 : (V (1000 * 23 + r) 0 = 2 ∨ V (1000 * 23 + r) 0 = 3 ∨ V (1000 * 23 + r) 0 = 4 ∨ V (1000 * 23 + r) 0 = 5 ∨ V (1000 * 23 + r) 0 = 6 ∨ V (1000 * 23 + r) 0 = 7 ∨ V (1000 * 23 + r) 0 = 8) ∧ 2 ≤ q := by
        rcases hcr with w | w | w
        · have w : V (1000 * 23 + r) 0 = 0 := w
          rw [w] at c_49
          exact absurd c_49 (by decide)
        · have w : V (1000 * 23 + r) 0 = 1 := w.1
          rw [w] at c_49
          exact absurd c_49 (by decide)
        · exact ⟨w.1, by rw [← hq]; exact w.2 f⟩
      have ev2 : (evL (fun k => V (1000 * 23 + k)) f (r + 1)) = (evL (fun k => V (1000 * 23 + k)) f r).take (q - 2) ++ [byI (V (1000 * 23 + r) 0) ((evL (fun k => V (1000 * 23 + k)) f r).getD (q - 2) 0) ((evL (fun k => V (1000 * 23 + k)) f r).getD (q - 1) 0)] := by
        show (if _ then _ else _) = _
        rw [if_neg (fun w => k2_nle w c_49), hq]
      obtain ⟨b, hb⟩ : ∃ b, q = b + 2 := ⟨q - 2, by omega⟩
      subst hb
      refine g_iinc (pc := 99) (v := nI (b + 1)) (ls' := [_, _, _]) dX11_byLaw_99 rfl (pk_m1 (b + 1)) (by decide) rfl rfl ?_
      
      refine g_aload_n (pc := 102) dX11_byLaw_102 rfl ?_
      refine g_getfield (pc := 103) f_X11_64_11 dX11_byLaw_103 (bO hI) mf_27 ?_
      refine g_iload_n (pc := 106) dX11_byLaw_106 rfl ?_
      refine g_iconst (pc := 107) (v := 1) dX11_byLaw_107 (by decide) ?_
      
      refine g_isub (pc := 108) dX11_byLaw_108 ?_
      refine g_aload_n (pc := 109) dX11_byLaw_109 rfl ?_
      refine g_getfield (pc := 110) f_X11_52_11 dX11_byLaw_110 (bO hI) mf_23 ?_
      refine g_iload_n (pc := 113) dX11_byLaw_113 rfl ?_
      refine g_aaload (pc := 114) (t := 5) rfl rfl dX11_byLaw_114 (bG hI) rfl (by omega) (by decide) rfl ?_
      refine g_iconst (pc := 115) (v := 0) dX11_byLaw_115 (by decide) ?_
      refine g_iaload (pc := 116) dX11_byLaw_116 (bR hI r (by omega)) (j := 0) (by decide) (by omega) (by decide) rfl ?_
      refine g_aload_n (pc := 117) dX11_byLaw_117 rfl ?_
      refine g_getfield (pc := 118) f_X11_64_11 dX11_byLaw_118 (bO hI) mf_27 ?_
      refine g_iload_n (pc := 121) dX11_byLaw_121 rfl ?_
      refine g_iconst (pc := 122) (v := 1) dX11_byLaw_122 (by decide) ?_
      refine g_isub (pc := 123) dX11_byLaw_123 ?_
      refine g_iaload (pc := 124) dX11_byLaw_124 bSs (j := b) (nI_pred b) (by omega) (by decide) rfl ?_
      refine g_aload_n (pc := 125) dX11_byLaw_125 rfl ?_
      refine g_getfield (pc := 126) f_X11_64_11 dX11_byLaw_126 (bO hI) mf_27 ?_
      refine g_iload_n (pc := 129) dX11_byLaw_129 rfl ?_
      refine g_iaload (pc := 130) dX11_byLaw_130 bSs rfl (by omega) (by decide) rfl ?_
      refine g_cS (pc := 131) (M' := mX11_by) (as := [_, _, _]) i_X11_251 eX11_by dX11_byLaw_131 (c_by _ _ _ hcr2.1 (by omega)) (by omega) rfl rfl (Nat.le_of_ble_eq_true rfl) ?_
      refine b_ist (pc := 134) dX11_byLaw_134 (j := b) (nI_pred b) (by omega) ?_
      refine g_iinc (pc := 135) (ls' := [_, _, _]) dX11_byLaw_135 rfl (by first | exact nI_1 _ | exact rfl) (by decide) rfl rfl ?_
      refine g_goto (pc := 138) 32 dX11_byLaw_138 (by decide) ?_
      refine ih (r + 1) (b + 1) _ (by omega) (by omega) (by rw [ev2]; simp only [List.length_append, List.length_take, List.length_cons, List.length_nil, hq]; omega) (fun j hj => ?_) (fun w => absurd w (by omega))
      rw [ev2]
      by_cases w : j = b
      · subst w
        rw [j_up_same, getD_app2 (by simp only [List.length_append, List.length_take, List.length_cons, List.length_nil, hq]; omega), hg j (by omega), hg (j + 1) (by omega)]
        rfl
      · rw [j_up_ne w, getD_app1 (by simp only [List.length_append, List.length_take, List.length_cons, List.length_nil, hq]; omega), getD_take (by omega)]
        exact hg j (by omega)
    · have ev1 : (evL (fun k => V (1000 * 23 + k)) f (r + 1)) = (evL (fun k => V (1000 * 23 + k)) f r) ++ [if V (1000 * 23 + r) 0 = 0 then V (1000 * 23 + r) 1 else f (V (1000 * 23 + r) 1).toNatClampNeg] := by
        show (if _ then _ else _) = _
        rw [if_pos (k2_lt c_49)]
      refine g_aload_n (pc := 52) dX11_byLaw_52 rfl ?_
      refine g_getfield (pc := 53) f_X11_64_11 dX11_byLaw_53 (bO hI) mf_27 ?_
      refine g_iload_n (pc := 56) dX11_byLaw_56 rfl ?_
      refine g_aload_n (pc := 57) dX11_byLaw_57 rfl ?_
      refine g_getfield (pc := 58) f_X11_52_11 dX11_byLaw_58 (bO hI) mf_23 ?_
      refine g_iload_n (pc := 61) dX11_byLaw_61 rfl ?_
      refine g_aaload (pc := 62) (t := 5) rfl rfl dX11_byLaw_62 (bG hI) rfl (by omega) (by decide) rfl ?_
      refine g_iconst (pc := 63) (v := 0) dX11_byLaw_63 (by decide) ?_
      refine g_iaload (pc := 64) dX11_byLaw_64 (bR hI r (by omega)) (j := 0) (by decide) (by omega) (by decide) rfl ?_
      refine g_if_ne (pc := 65) 79 dX11_byLaw_65 (by decide) (fun c_65 => ?_) (fun c_65 => ?_)
      · have hcr2 : ∃ j, j < 8 ∧ V (1000 * 23 + r) 1 = nI j := by
          rcases hcr with w | w | w
          · exact absurd w c_65
          · exact w.2
          · exact absurd (k2_lt c_49) (by rcases w.1 with w | w | w | w | w | w | w <;> (have w : V (1000 * 23 + r) 0 = _ := w; rw [w]; decide))
        obtain ⟨j8, hj8, ej8⟩ := hcr2
        refine g_aload_n (pc := 79) dX11_byLaw_79 rfl ?_
        refine g_getfield (pc := 80) f_X11_67_11 dX11_byLaw_80 (bO hI) mf_28 ?_
        refine g_aload_n (pc := 83) dX11_byLaw_83 rfl ?_
        refine g_getfield (pc := 84) f_X11_52_11 dX11_byLaw_84 (bO hI) mf_23 ?_
        refine g_iload_n (pc := 87) dX11_byLaw_87 rfl ?_
        refine g_aaload (pc := 88) (t := 5) rfl rfl dX11_byLaw_88 (bG hI) rfl (by omega) (by decide) rfl ?_
        refine g_iconst (pc := 89) (v := 1) dX11_byLaw_89 (by decide) ?_
        refine g_iaload (pc := 90) dX11_byLaw_90 (bR hI r (by omega)) (j := 1) (by decide) (by omega) (by decide) rfl ?_
        rw [ej8]
        refine g_iaload (pc := 91) dX11_byLaw_91 bK rfl (by omega) (by decide) rfl ?_
        refine b_ist (pc := 92) dX11_byLaw_92 rfl (by omega) ?_
        refine g_iinc (pc := 93) (ls' := [_, _, _]) dX11_byLaw_93 rfl (by first | exact nI_1 _ | exact rfl) (by decide) rfl rfl ?_
        refine g_goto (pc := 96) 135 dX11_byLaw_96 (by decide) ?_
        refine g_iinc (pc := 135) (ls' := [_, _, _]) dX11_byLaw_135 rfl (by first | exact nI_1 _ | exact rfl) (by decide) rfl rfl ?_
        refine g_goto (pc := 138) 32 dX11_byLaw_138 (by decide) ?_
        refine ih (r + 1) (q + 1) _ (by omega) (by omega) (by rw [ev1, List.length_append, hq]; rfl) (fun j hj => ?_) (fun w => absurd w (by omega))
        rw [ev1]
        by_cases w : j = q
        · subst w
          rw [j_up_same, getD_app2 hq.symm]
          rw [if_neg c_65, ej8, nI_clamp (by omega)]
        · rw [j_up_ne w, getD_app1 (by omega)]
          exact hg j (by omega)
      · refine g_aload_n (pc := 68) dX11_byLaw_68 rfl ?_
        refine g_getfield (pc := 69) f_X11_52_11 dX11_byLaw_69 (bO hI) mf_23 ?_
        refine g_iload_n (pc := 72) dX11_byLaw_72 rfl ?_
        refine g_aaload (pc := 73) (t := 5) rfl rfl dX11_byLaw_73 (bG hI) rfl (by omega) (by decide) rfl ?_
        refine g_iconst (pc := 74) (v := 1) dX11_byLaw_74 (by decide) ?_
        refine g_iaload (pc := 75) dX11_byLaw_75 (bR hI r (by omega)) (j := 1) (by decide) (by omega) (by decide) rfl ?_
        refine g_goto (pc := 76) 92 dX11_byLaw_76 (by decide) ?_
        refine b_ist (pc := 92) dX11_byLaw_92 rfl (by omega) ?_
        refine g_iinc (pc := 93) (ls' := [_, _, _]) dX11_byLaw_93 rfl (by first | exact nI_1 _ | exact rfl) (by decide) rfl rfl ?_
        refine g_goto (pc := 96) 135 dX11_byLaw_96 (by decide) ?_
        refine g_iinc (pc := 135) (ls' := [_, _, _]) dX11_byLaw_135 rfl (by first | exact nI_1 _ | exact rfl) (by decide) rfl rfl ?_
        refine g_goto (pc := 138) 32 dX11_byLaw_138 (by decide) ?_
        refine ih (r + 1) (q + 1) _ (by omega) (by omega) (by rw [ev1, List.length_append, hq]; rfl) (fun j hj => ?_) (fun w => absurd w (by omega))
        rw [ev1]
        by_cases w : j = q
        · subst w
          rw [j_up_same, getD_app2 hq.symm]
          rw [if_pos c_65]
        · rw [j_up_ne w, getD_app1 (by omega)]
          exact hg j (by omega)
set_option maxHeartbeats 2000000 in
theorem c_byLaw {L : Nat} {f : Nat → Int32} (hd : 2 ≤ d) (hI : InvM am V h) (hV : V 0 21 = nI L) (hc : okC (fun k => V (1000 * 23 + k)) L) : Ct E d 0 0 mX11_byLaw [vR (nMo am)] (hs h (nMa am 28) (iA 8 f)) (qR (some (vI (clampI (lawI (fun k => V (1000 * 23 + k)) L f)))) (hs h (nMa am 28) (iA 8 f))) := by
  refine ct_of (by decide) (Nat.le_of_ble_eq_true rfl) rfl ?_
  refine g_open (x := nMa am 27) (n := 160) (by rw [hs_nr (by simp)]; exact hI.2.2.2.2.1) (fun g => ?_)
  change G E d 0 0 mX11_byLaw 0 _ _ (bS h am f g) _
  refine g_iconst (pc := 0) (v := 0) dX11_byLaw_0 (by decide) ?_
  refine g_istore_n (pc := 1) (ls' := [_, _, _]) dX11_byLaw_1 (by decide) rfl rfl ?_
  refine g_aload_n (pc := 2) dX11_byLaw_2 rfl ?_
  refine g_getfield (pc := 3) f_X11_64_11 dX11_byLaw_3 (bO hI) mf_27 ?_
  refine g_iconst (pc := 6) (v := 0) dX11_byLaw_6 (by decide) ?_
  refine g_aload_n (pc := 7) dX11_byLaw_7 rfl ?_
  refine g_getfield (pc := 8) f_X11_67_11 dX11_byLaw_8 (bO hI) mf_28 ?_
  refine g_iconst (pc := 11) (v := 0) dX11_byLaw_11 (by decide) ?_
  refine g_iaload (pc := 12) dX11_byLaw_12 bK (j := 0) (by decide) (by omega) (by decide) rfl ?_
  refine g_aload_n (pc := 13) dX11_byLaw_13 rfl ?_
  refine g_getfield (pc := 14) f_X11_67_11 dX11_byLaw_14 (bO hI) mf_28 ?_
  refine g_iconst (pc := 17) (v := 1) dX11_byLaw_17 (by decide) ?_
  refine g_iaload (pc := 18) dX11_byLaw_18 bK (j := 1) (by decide) (by omega) (by decide) rfl ?_
  refine g_iadd (pc := 19) dX11_byLaw_19 ?_
  refine g_iconst (pc := 20) (v := 2) dX11_byLaw_20 (by decide) ?_
  refine g_aload_n (pc := 21) dX11_byLaw_21 rfl ?_
  refine g_getfield (pc := 22) f_X11_67_11 dX11_byLaw_22 (bO hI) mf_28 ?_
  refine g_iconst (pc := 25) (v := 2) dX11_byLaw_25 (by decide) ?_
  refine g_iaload (pc := 26) dX11_byLaw_26 bK (j := 2) (by decide) (by omega) (by decide) rfl ?_
  refine g_imul (pc := 27) dX11_byLaw_27 ?_
  refine g_isub (pc := 28) dX11_byLaw_28 ?_
  refine b_ist (pc := 29) dX11_byLaw_29 (j := 0) (by decide) (by omega) ?_
  refine g_iconst (pc := 30) (v := 0) dX11_byLaw_30 (by decide) ?_
  refine g_istore_n (pc := 31) (ls' := [_, _, _]) dX11_byLaw_31 (by decide) rfl rfl ?_
  exact l_byLaw hd hI hV hc L 0 0 _ rfl (Nat.zero_le _) rfl (fun j hj => absurd hj (Nat.not_lt_zero j)) (fun _ => j_up_same)
/-- the eight facts -/
def fc8 (a0 a1 a2 a3 a4 a5 a6 a7 : Int32) : Nat → Int32
  | 0 => a0 | 1 => a1 | 2 => a2 | 3 => a3 | 4 => a4 | 5 => a5 | 6 => a6 | _ => a7
theorem evL_f {c : Nat → Nat → Int32} {f f' : Nat → Int32} {L : Nat} (hf : ∀ j, j < 8 → f j = f' j) (hc : okC c L) : ∀ k, k ≤ L → evL c f k = evL c f' k
  | 0, _ => rfl
  | k + 1, h => by
    have e := evL_f hf hc k (by omega)
    unfold evL
    rw [e]
    by_cases q : c k 0 < 2
    · rw [if_pos q, if_pos q]
      by_cases q0 : c k 0 = 0
      · rw [if_pos q0, if_pos q0]
      · rw [if_neg q0, if_neg q0]
        rcases hc.2 k (by omega) with w | w | w
        · exact absurd w q0
        · obtain ⟨-, j, hj, ej⟩ := w
          rw [ej, nI_clamp (by omega), hf j hj]
        · exact absurd q (by rcases w.1 with w | w | w | w | w | w | w <;> (rw [w]; decide))
    · rw [if_neg q, if_neg q]
theorem lawI_f {c : Nat → Nat → Int32} {f f' : Nat → Int32} {L : Nat} (hf : ∀ j, j < 8 → f j = f' j) (hc : okC c L) : lawI c L f = lawI c L f' := by
  unfold lawI
  rw [evL_f hf hc L (Nat.le_refl _), hf 0 (by decide), hf 1 (by decide), hf 2 (by decide)]
/-- while the facts are laid -/
def bF (h : jH) (am : Nat → Nat) (f : Nat → Int32) : jH := hs h (nMa am 28) (iA 8 f)
theorem bFO {f : Nat → Int32} (hI : InvM am V h) : bF h am f (nMo am) = some (oO 11 (mF am V)) := by unfold bF; rw [hs_nr (by simp)]; exact hI.1
theorem bFK {f : Nat → Int32} : bF h am f (nMa am 28) = some (iA 8 f) := by unfold bF; rw [hs_same]
theorem bf_ist {bc bs pc j : Nat} {M : jM} {ls : List (Option jV)} {st : List jV} {Q : jR → jH → Prop} {f : Nat → Int32} {i y : Int32} (hd : decode M.2.1 pc = .ok (.iastore, 1)) (hi : i = nI j) (hj : j < 8) (k : G E d bc bs M (pc + 1) ls st (bF h am (j_up f j y)) Q) : G E d bc bs M pc ls (vI y :: vI i :: vR (nMa am 28) :: st) (bF h am f) Q :=
  g_iastore hd bFK (by simp) hi hj (by decide) (by unfold bF at k ⊢; rw [hs_hs]; exact k)
/-- the law as the reference has it -/
def mlaw (V : mV) : (Nat → Int32) → Int32 := lawI (fun k => V (1000 * 23 + k)) (V 0 21).toNatClampNeg
def okL (V : mV) : Prop := ∃ L, V 0 21 = nI L ∧ okC (fun k => V (1000 * 23 + k)) L
set_option maxHeartbeats 2000000 in
theorem c_mpowerBy (hd : 3 ≤ d) (hI : InvM am V h) (hl : okL V) (a0 a1 a2 a3 a4 a5 a6 a7 : Int32) : Ct E d 0 0 mX11_powerBy [vR (nMo am), vI a0, vI a1, vI a2, vI a3, vI a4, vI a5, vI a6, vI a7] h (qR (some (vI (clampI (mlaw V (fc8 a0 a1 a2 a3 a4 a5 a6 a7))))) h) := by
  refine ct_of (by decide) (Nat.le_of_ble_eq_true rfl) rfl ?_
  obtain ⟨L, hV, hc⟩ := hl
  refine g_open (x := nMa am 28) (n := 8) hI.2.2.2.2.2 (fun f => ?_)
  change G E d 0 0 mX11_powerBy 0 _ _ (bF h am f) _
  refine g_aload_n (pc := 0) dX11_powerBy_0 rfl ?_
  refine g_getfield (pc := 1) f_X11_67_11 dX11_powerBy_1 (bFO hI) mf_28 ?_
  refine g_iconst (pc := 4) (v := 0) dX11_powerBy_4 (by decide) ?_
  refine g_iload_n (pc := 5) dX11_powerBy_5 rfl ?_
  refine bf_ist (pc := 6) dX11_powerBy_6 (j := 0) (by decide) (by omega) ?_
  refine g_aload_n (pc := 7) dX11_powerBy_7 rfl ?_
  refine g_getfield (pc := 8) f_X11_67_11 dX11_powerBy_8 (bFO hI) mf_28 ?_
  refine g_iconst (pc := 11) (v := 1) dX11_powerBy_11 (by decide) ?_
  refine g_iload_n (pc := 12) dX11_powerBy_12 rfl ?_
  refine bf_ist (pc := 13) dX11_powerBy_13 (j := 1) (by decide) (by omega) ?_
  refine g_aload_n (pc := 14) dX11_powerBy_14 rfl ?_
  refine g_getfield (pc := 15) f_X11_67_11 dX11_powerBy_15 (bFO hI) mf_28 ?_
  refine g_iconst (pc := 18) (v := 2) dX11_powerBy_18 (by decide) ?_
  refine g_iload_n (pc := 19) dX11_powerBy_19 rfl ?_
  refine bf_ist (pc := 20) dX11_powerBy_20 (j := 2) (by decide) (by omega) ?_
  refine g_aload_n (pc := 21) dX11_powerBy_21 rfl ?_
  refine g_getfield (pc := 22) f_X11_67_11 dX11_powerBy_22 (bFO hI) mf_28 ?_
  refine g_iconst (pc := 25) (v := 3) dX11_powerBy_25 (by decide) ?_
  refine g_iload (pc := 26) dX11_powerBy_26 rfl ?_
  refine bf_ist (pc := 28) dX11_powerBy_28 (j := 3) (by decide) (by omega) ?_
  refine g_aload_n (pc := 29) dX11_powerBy_29 rfl ?_
  refine g_getfield (pc := 30) f_X11_67_11 dX11_powerBy_30 (bFO hI) mf_28 ?_
  refine g_iconst (pc := 33) (v := 4) dX11_powerBy_33 (by decide) ?_
  refine g_iload (pc := 34) dX11_powerBy_34 rfl ?_
  refine bf_ist (pc := 36) dX11_powerBy_36 (j := 4) (by decide) (by omega) ?_
  refine g_aload_n (pc := 37) dX11_powerBy_37 rfl ?_
  refine g_getfield (pc := 38) f_X11_67_11 dX11_powerBy_38 (bFO hI) mf_28 ?_
  refine g_iconst (pc := 41) (v := 5) dX11_powerBy_41 (by decide) ?_
  refine g_iload (pc := 42) dX11_powerBy_42 rfl ?_
  refine bf_ist (pc := 44) dX11_powerBy_44 (j := 5) (by decide) (by omega) ?_
  refine g_aload_n (pc := 45) dX11_powerBy_45 rfl ?_
  refine g_getfield (pc := 46) f_X11_67_11 dX11_powerBy_46 (bFO hI) mf_28 ?_
  refine g_bipush (pc := 49) (v := 6) dX11_powerBy_49 (by decide) ?_
  refine g_iload (pc := 51) dX11_powerBy_51 rfl ?_
  refine bf_ist (pc := 53) dX11_powerBy_53 (j := 6) (by decide) (by omega) ?_
  refine g_aload_n (pc := 54) dX11_powerBy_54 rfl ?_
  refine g_getfield (pc := 55) f_X11_67_11 dX11_powerBy_55 (bFO hI) mf_28 ?_
  refine g_bipush (pc := 58) (v := 7) dX11_powerBy_58 (by decide) ?_
  refine g_iload (pc := 60) dX11_powerBy_60 rfl ?_
  refine bf_ist (pc := 62) dX11_powerBy_62 (j := 7) (by decide) (by omega) ?_
  refine g_aload_n (pc := 63) dX11_powerBy_63 rfl ?_
  refine g_cV (pc := 64) (ci := 11) (M' := mX11_byLaw) (as := []) rfl i_X11_271_11 eX11_byLaw dX11_powerBy_64 (bFO hI) (c_byLaw (by omega) hI hV hc) (by omega) rfl rfl (Nat.le_of_ble_eq_true rfl) ?_
  refine g_close (x := nMa am 28) (n := 8) bFK ?_
  rw [show hs (bF h am _) (nMa am 28) (oS 8) = h by unfold bF; rw [hs_hs, hs_self hI.2.2.2.2.2]]
  refine g_ireturn (pc := 67) dX11_powerBy_67 rfl rfl ?_
  refine ⟨?_, rfl⟩
  have e : (V 0 21).toNatClampNeg = L := by rw [hV, nI_clamp (by have := hc.1; omega)]
  unfold mlaw
  rw [e]
  congr 4
  exact lawI_f (fun j hj => by
    match j, hj with
    | 0, _ => rfl
    | 1, _ => rfl
    | 2, _ => rfl
    | 3, _ => rfl
    | 4, _ => rfl
    | 5, _ => rfl
    | 6, _ => rfl
    | 7, _ => rfl
    | j + 8, hj => exact absurd hj (by omega)) hc
/-- what a relic can, by the row R, the law lw -/
def othI (D : Nat → Nat → Nat) (nR : Nat) (R : Nat → Int32) (s : Nat) : Int32 := onesF (bitsI (kpS D R s) nR) 10 - 1
def pwOf (lw : (Nat → Int32) → Int32) (D : Nat → Nat → Nat) (nR : Nat) (R : Nat → Int32) (r : Nat) (days lapses day : Int32) : Int32 := clampI (lw (fc8 (nI (D 2 r)) days lapses (nI (D 5 (D 0 r))) (nI (D 1 r)) (othI D nR R (D 0 r)) (nI (D 0 r)) day))
def pwr (lw : (Nat → Int32) → Int32) (D : Nat → Nat → Nat) (nR : Nat) (R : Nat → Int32) (r : Nat) : Int32 := if kpd R r then pwOf lw D nR R r (R (16 + r)) (R (8 + D 0 r)) (R 44) else 0
def ablI (lw : (Nat → Int32) → Int32) (D : Nat → Nat → Nat) (nR : Nat) (R : Nat → Int32) (r p : Nat) : Bool := decide (D 1 r = D 3 p) && !(decide (pwr lw D nR R r < nI (D 4 p)))
def ccI (lw : (Nat → Int32) → Int32) (D : Nat → Nat → Nat) (nR : Nat) (R : Nat → Int32) (r p : Nat) : Bool := decide (R (36 + p) = -1) && (decide (R (26 + r) = 0) && ablI lw D nR R r p)
def clI (D : Nat → Nat → Nat) (nR : Nat) (R : Nat → Int32) (s : Nat) : Bool := decide (R s = 0) && !(decide (bitsI (kpS D R s) nR = 0))
set_option maxHeartbeats 2000000 in
theorem c_powerOf (hd : 4 ≤ d) (hI : InvM am V h) (hT : MT V D nS nR nP) (hl : okL V) (hk : mlen k = 45) (r : Nat) (hr : r < nR) (days lapses day : Int32) : Ct E d 0 0 mX11_powerOf [vR (nMo am), vR (nMa am k), vI (nI r), vI days, vI lapses, vI day] h (qR (some (vI (pwOf (mlaw V) D nR (V k) r days lapses day))) h) := by
  refine ct_of (by decide) (Nat.le_of_ble_eq_true rfl) rfl ?_
  have h8 := hT.2.2.2.1
  have h10 := hT.2.2.2.2.1
  have hrr := hT.2.2.2.2.2.2.1 r hr
  have hts := hT.2.2.2.2.2.2.2.2 (D 0 r) hrr.2.2.2.1
  refine g_aload_n (pc := 0) dX11_powerOf_0 rfl ?_
  refine g_getfield (pc := 1) f_X11_43_11 dX11_powerOf_1 hI.1 mf_18 ?_
  refine g_iload_n (pc := 4) dX11_powerOf_4 rfl ?_
  refine g_aaload (pc := 5) (t := 5) rfl rfl dX11_powerOf_5 (mG hI 18 10 rfl (by decide)) rfl (by omega) (by decide) rfl ?_
  refine g_iconst (pc := 6) (v := 0) dX11_powerOf_6 (by decide) ?_
  refine g_iaload (pc := 7) dX11_powerOf_7 (mR hI 18 3 _ rfl (by show _ < 10; omega)) (j := 0) (by decide) (by omega) (by decide) rfl ?_
  rw [hrr.1]
  refine g_istore (pc := 8) (ls' := [_, _, _, _, _, _, _]) dX11_powerOf_8 (by decide) rfl rfl ?_
  refine g_aload_n (pc := 10) dX11_powerOf_10 rfl ?_
  refine g_aload_n (pc := 11) dX11_powerOf_11 rfl ?_
  refine g_getfield (pc := 12) f_X11_43_11 dX11_powerOf_12 hI.1 mf_18 ?_
  refine g_iload_n (pc := 15) dX11_powerOf_15 rfl ?_
  refine g_aaload (pc := 16) (t := 5) rfl rfl dX11_powerOf_16 (mG hI 18 10 rfl (by decide)) rfl (by omega) (by decide) rfl ?_
  refine g_iconst (pc := 17) (v := 2) dX11_powerOf_17 (by decide) ?_
  refine g_iaload (pc := 18) dX11_powerOf_18 (mR hI 18 3 _ rfl (by show _ < 10; omega)) (j := 2) (by decide) (by omega) (by decide) rfl ?_
  rw [hrr.2.2.1]
  refine g_iload_n (pc := 19) dX11_powerOf_19 rfl ?_
  refine g_iload (pc := 20) dX11_powerOf_20 rfl ?_
  refine g_aload_n (pc := 22) dX11_powerOf_22 rfl ?_
  refine g_getfield (pc := 23) f_X11_29_11 dX11_powerOf_23 hI.1 mf_14 ?_
  refine g_iload (pc := 26) dX11_powerOf_26 rfl ?_
  refine g_iaload (pc := 28) dX11_powerOf_28 (mA hI 14 8 rfl (by decide)) rfl (by omega) (by decide) rfl ?_
  rw [hts.1]
  refine g_aload_n (pc := 29) dX11_powerOf_29 rfl ?_
  refine g_getfield (pc := 30) f_X11_43_11 dX11_powerOf_30 hI.1 mf_18 ?_
  refine g_iload_n (pc := 33) dX11_powerOf_33 rfl ?_
  refine g_aaload (pc := 34) (t := 5) rfl rfl dX11_powerOf_34 (mG hI 18 10 rfl (by decide)) rfl (by omega) (by decide) rfl ?_
  refine g_iconst (pc := 35) (v := 1) dX11_powerOf_35 (by decide) ?_
  refine g_iaload (pc := 36) dX11_powerOf_36 (mR hI 18 3 _ rfl (by show _ < 10; omega)) (j := 1) (by decide) (by omega) (by decide) rfl ?_
  rw [hrr.2.1]
  refine g_aload_n (pc := 37) dX11_powerOf_37 rfl ?_
  refine g_aload_n (pc := 38) dX11_powerOf_38 rfl ?_
  refine g_iload (pc := 39) dX11_powerOf_39 rfl ?_
  refine m_cP (pc := 41) (M' := mX11_keptOf) (as := [_, _]) i_X11_274_11 eX11_keptOf hI dX11_powerOf_41 (c_keptOf (by omega) hI hT hk (D 0 r) (by omega)) (by omega) rfl rfl (Nat.le_of_ble_eq_true rfl) ?_
  refine g_cS (pc := 44) (M' := mX11_ones) (as := [_]) i_X11_278 eX11_ones dX11_powerOf_44 (c_ones _) (by omega) rfl rfl (Nat.le_of_ble_eq_true rfl) ?_
  refine g_iconst (pc := 47) (v := 1) dX11_powerOf_47 (by decide) ?_
  refine g_isub (pc := 48) dX11_powerOf_48 ?_
  refine g_iload (pc := 49) dX11_powerOf_49 rfl ?_
  refine g_iload (pc := 51) dX11_powerOf_51 rfl ?_
  refine m_cP (pc := 53) (M' := mX11_powerBy) (as := [_, _, _, _, _, _, _, _]) i_X11_281_11 eX11_powerBy hI dX11_powerOf_53 (c_mpowerBy (by omega) hI hl _ _ _ _ _ _ _ _) (by omega) rfl rfl (Nat.le_of_ble_eq_true rfl) ?_
  refine g_ireturn (pc := 56) dX11_powerOf_56 rfl (by first | exact rfl | exact j_nb _) ?_
  exact ⟨rfl, rfl⟩
set_option maxHeartbeats 2000000 in
theorem c_power (hd : 5 ≤ d) (hI : InvM am V h) (hT : MT V D nS nR nP) (hl : okL V) (hk : mlen k = 45) (r : Nat) (hr : r < nR) : Ct E d 0 0 mX11_power [vR (nMo am), vR (nMa am k), vI (nI r)] h (qR (some (vI (pwr (mlaw V) D nR (V k) r))) h) := by
  refine ct_of (by decide) (Nat.le_of_ble_eq_true rfl) rfl ?_
  have h8 := hT.2.2.2.1
  have h10 := hT.2.2.2.2.1
  have hrr := hT.2.2.2.2.2.2.1 r hr
  refine g_aload_n (pc := 0) dX11_power_0 rfl ?_
  refine g_iload_n (pc := 1) dX11_power_1 rfl ?_
  refine g_cS (pc := 2) (M' := mX11_isKept) (as := [_, _]) i_X11_267 eX11_isKept dX11_power_2 (c_isKept hI hk r (by omega)) (by omega) rfl rfl (Nat.le_of_ble_eq_true rfl) ?_
  refine g_ifB_eq (pc := 5) 40 dX11_power_5 (by decide) (fun c_5 => ?_) (fun c_5 => ?_)
  · refine g_iconst (pc := 40) (v := 0) dX11_power_40 (by decide) ?_
    refine g_ireturn (pc := 41) dX11_power_41 rfl (by first | exact rfl | exact j_nb _) ?_
    exact ⟨by simp [pwr, c_5], rfl⟩
  · refine g_aload_n (pc := 8) dX11_power_8 rfl ?_
    refine g_aload_n (pc := 9) dX11_power_9 rfl ?_
    refine g_iload_n (pc := 10) dX11_power_10 rfl ?_
    refine g_aload_n (pc := 11) dX11_power_11 rfl ?_
    refine g_bipush (pc := 12) (v := 16) dX11_power_12 (by decide) ?_
    refine g_iload_n (pc := 14) dX11_power_14 rfl ?_
    refine g_iadd (pc := 15) dX11_power_15 ?_
    refine g_iaload (pc := 16) dX11_power_16 (mA hI k 45 hk (by decide)) (j := 16 + r) (nI_add 16 r) (by omega) (by decide) rfl ?_
    refine g_aload_n (pc := 17) dX11_power_17 rfl ?_
    refine g_bipush (pc := 18) (v := 8) dX11_power_18 (by decide) ?_
    refine g_aload_n (pc := 20) dX11_power_20 rfl ?_
    refine g_getfield (pc := 21) f_X11_43_11 dX11_power_21 hI.1 mf_18 ?_
    refine g_iload_n (pc := 24) dX11_power_24 rfl ?_
    refine g_aaload (pc := 25) (t := 5) rfl rfl dX11_power_25 (mG hI 18 10 rfl (by decide)) rfl (by omega) (by decide) rfl ?_
    refine g_iconst (pc := 26) (v := 0) dX11_power_26 (by decide) ?_
    refine g_iaload (pc := 27) dX11_power_27 (mR hI 18 3 _ rfl (by show _ < 10; omega)) (j := 0) (by decide) (by omega) (by decide) rfl ?_
    rw [hrr.1]
    refine g_iadd (pc := 28) dX11_power_28 ?_
    refine g_iaload (pc := 29) dX11_power_29 (mA hI k 45 hk (by decide)) (j := 8 + D 0 r) (nI_add 8 _) (by omega) (by decide) rfl ?_
    refine g_aload_n (pc := 30) dX11_power_30 rfl ?_
    refine g_bipush (pc := 31) (v := 44) dX11_power_31 (by decide) ?_
    refine g_iaload (pc := 33) dX11_power_33 (mA hI k 45 hk (by decide)) (j := 44) (by decide) (by omega) (by decide) rfl ?_
    refine m_cP (pc := 34) (M' := mX11_powerOf) (as := [_, _, _, _, _]) i_X11_285_11 eX11_powerOf hI dX11_power_34 (c_powerOf (by omega) hI hT hl hk r hr _ _ _) (by omega) rfl rfl (Nat.le_of_ble_eq_true rfl) ?_
    refine g_goto (pc := 37) 41 dX11_power_37 (by decide) ?_
    refine g_ireturn (pc := 41) dX11_power_41 rfl (by first | exact rfl | exact j_nb _) ?_
    exact ⟨by simp [pwr, c_5], rfl⟩
theorem c_isAble (hd : 6 ≤ d) (hI : InvM am V h) (hT : MT V D nS nR nP) (hl : okL V) (hk : mlen k = 45) (r p : Nat) (hr : r < nR) (hp : p < nP) : Ct E d 0 0 mX11_isAble [vR (nMo am), vR (nMa am k), vI (nI r), vI (nI p)] h (qR (some (vI (bI (ablI (mlaw V) D nR (V k) r p)))) h) := by
  refine ct_of (by decide) (Nat.le_of_ble_eq_true rfl) rfl ?_
  have h8 := hT.2.2.2.1
  have h10 := hT.2.2.2.2.1
  have hrr := hT.2.2.2.2.2.2.1 r hr
  have hpp := hT.2.2.2.2.2.2.2.1 p hp
  have hP8 := hT.2.2.2.2.2.1
  refine g_aload_n (pc := 0) dX11_isAble_0 rfl ?_
  refine g_getfield (pc := 1) f_X11_43_11 dX11_isAble_1 hI.1 mf_18 ?_
  refine g_iload_n (pc := 4) dX11_isAble_4 rfl ?_
  refine g_aaload (pc := 5) (t := 5) rfl rfl dX11_isAble_5 (mG hI 18 10 rfl (by decide)) rfl (by omega) (by decide) rfl ?_
  refine g_iconst (pc := 6) (v := 1) dX11_isAble_6 (by decide) ?_
  refine g_iaload (pc := 7) dX11_isAble_7 (mR hI 18 3 _ rfl (by show _ < 10; omega)) (j := 1) (by decide) (by omega) (by decide) rfl ?_
  rw [hrr.2.1]
  refine g_aload_n (pc := 8) dX11_isAble_8 rfl ?_
  refine g_getfield (pc := 9) f_X11_49_11 dX11_isAble_9 hI.1 mf_20 ?_
  refine g_iload_n (pc := 12) dX11_isAble_12 rfl ?_
  refine g_aaload (pc := 13) (t := 5) rfl rfl dX11_isAble_13 (mG hI 20 8 rfl (by decide)) rfl (by omega) (by decide) rfl ?_
  refine g_iconst (pc := 14) (v := 0) dX11_isAble_14 (by decide) ?_
  refine g_iaload (pc := 15) dX11_isAble_15 (mR hI 20 2 _ rfl (by show _ < 8; omega)) (j := 0) (by decide) (by omega) (by decide) rfl ?_
  rw [hpp.1]
  refine g_icmp_ne (pc := 16) 40 dX11_isAble_16 (by decide) (fun c_16 => ?_) (fun c_16 => ?_)
  · refine g_iconst (pc := 40) (v := 0) dX11_isAble_40 (by decide) ?_
    refine g_ireturn (pc := 41) dX11_isAble_41 rfl (by first | exact rfl | exact j_nb _) ?_
    exact ⟨by simp [ablI, bI, show ¬ D 1 r = D 3 p from fun w => c_16 (by rw [w])], rfl⟩
  · refine g_aload_n (pc := 19) dX11_isAble_19 rfl ?_
    refine g_aload_n (pc := 20) dX11_isAble_20 rfl ?_
    refine g_iload_n (pc := 21) dX11_isAble_21 rfl ?_
    refine m_cP (pc := 22) (M' := mX11_power) (as := [_, _]) i_X11_289_11 eX11_power hI dX11_isAble_22 (c_power (by omega) hI hT hl hk r hr) (by omega) rfl rfl (Nat.le_of_ble_eq_true rfl) ?_
    refine g_aload_n (pc := 25) dX11_isAble_25 rfl ?_
    refine g_getfield (pc := 26) f_X11_49_11 dX11_isAble_26 hI.1 mf_20 ?_
    refine g_iload_n (pc := 29) dX11_isAble_29 rfl ?_
    refine g_aaload (pc := 30) (t := 5) rfl rfl dX11_isAble_30 (mG hI 20 8 rfl (by decide)) rfl (by omega) (by decide) rfl ?_
    refine g_iconst (pc := 31) (v := 1) dX11_isAble_31 (by decide) ?_
    refine g_iaload (pc := 32) dX11_isAble_32 (mR hI 20 2 _ rfl (by show _ < 8; omega)) (j := 1) (by decide) (by omega) (by decide) rfl ?_
    rw [hpp.2.1]
    refine g_icmp_lt (pc := 33) 40 dX11_isAble_33 (by decide) (fun c_33 => ?_) (fun c_33 => ?_)
    · refine g_iconst (pc := 40) (v := 0) dX11_isAble_40 (by decide) ?_
      refine g_ireturn (pc := 41) dX11_isAble_41 rfl (by first | exact rfl | exact j_nb _) ?_
      exact ⟨by simp [ablI, bI, (nI_eq (by omega) (by omega)).mp c_16, c_33], rfl⟩
    · refine g_iconst (pc := 36) (v := 1) dX11_isAble_36 (by decide) ?_
      refine g_goto (pc := 37) 41 dX11_isAble_37 (by decide) ?_
      refine g_ireturn (pc := 41) dX11_isAble_41 rfl (by first | exact rfl | exact j_nb _) ?_
      exact ⟨by simp [ablI, bI, (nI_eq (by omega) (by omega)).mp c_16, c_33], rfl⟩
theorem c_canCure (hd : 7 ≤ d) (hI : InvM am V h) (hT : MT V D nS nR nP) (hl : okL V) (hk : mlen k = 45) (r p : Nat) (hr : r < nR) (hp : p < nP) : Ct E d 0 0 mX11_canCure [vR (nMo am), vR (nMa am k), vI (nI r), vI (nI p)] h (qR (some (vI (bI (ccI (mlaw V) D nR (V k) r p)))) h) := by
  refine ct_of (by decide) (Nat.le_of_ble_eq_true rfl) rfl ?_
  have h8 := hT.2.2.2.1
  have h10 := hT.2.2.2.2.1
  have hrr := hT.2.2.2.2.2.2.1 r hr
  have hpp := hT.2.2.2.2.2.2.2.1 p hp
  have hP8 := hT.2.2.2.2.2.1
  refine g_aload_n (pc := 0) dX11_canCure_0 rfl ?_
  refine g_bipush (pc := 1) (v := 36) dX11_canCure_1 (by decide) ?_
  refine g_iload_n (pc := 3) dX11_canCure_3 rfl ?_
  refine g_iadd (pc := 4) dX11_canCure_4 ?_
  refine g_iaload (pc := 5) dX11_canCure_5 (mA hI k 45 hk (by decide)) (j := 36 + p) (nI_add 36 p) (by omega) (by decide) rfl ?_
  refine g_iconst (pc := 6) (v := -1) dX11_canCure_6 (by decide) ?_
  refine g_icmp_ne (pc := 7) 33 dX11_canCure_7 (by decide) (fun c_7 => ?_) (fun c_7 => ?_)
  · refine g_iconst (pc := 33) (v := 0) dX11_canCure_33 (by decide) ?_
    refine g_ireturn (pc := 34) dX11_canCure_34 rfl (by first | exact rfl | exact j_nb _) ?_
    exact ⟨by simp [ccI, bI, *], rfl⟩
  · refine g_aload_n (pc := 10) dX11_canCure_10 rfl ?_
    refine g_bipush (pc := 11) (v := 26) dX11_canCure_11 (by decide) ?_
    refine g_iload_n (pc := 13) dX11_canCure_13 rfl ?_
    refine g_iadd (pc := 14) dX11_canCure_14 ?_
    refine g_iaload (pc := 15) dX11_canCure_15 (mA hI k 45 hk (by decide)) (j := 26 + r) (nI_add 26 r) (by omega) (by decide) rfl ?_
    refine g_if_ne (pc := 16) 33 dX11_canCure_16 (by decide) (fun c_16 => ?_) (fun c_16 => ?_)
    · refine g_iconst (pc := 33) (v := 0) dX11_canCure_33 (by decide) ?_
      refine g_ireturn (pc := 34) dX11_canCure_34 rfl (by first | exact rfl | exact j_nb _) ?_
      exact ⟨by simp [ccI, bI, *], rfl⟩
    · refine g_aload_n (pc := 19) dX11_canCure_19 rfl ?_
      refine g_aload_n (pc := 20) dX11_canCure_20 rfl ?_
      refine g_iload_n (pc := 21) dX11_canCure_21 rfl ?_
      refine g_iload_n (pc := 22) dX11_canCure_22 rfl ?_
      refine m_cP (pc := 23) (M' := mX11_isAble) (as := [_, _, _]) i_X11_292_11 eX11_isAble hI dX11_canCure_23 (c_isAble (by omega) hI hT hl hk r p hr hp) (by omega) rfl rfl (Nat.le_of_ble_eq_true rfl) ?_
      refine g_ifB_eq (pc := 26) 33 dX11_canCure_26 (by decide) (fun c_26 => ?_) (fun c_26 => ?_)
      · refine g_iconst (pc := 33) (v := 0) dX11_canCure_33 (by decide) ?_
        refine g_ireturn (pc := 34) dX11_canCure_34 rfl (by first | exact rfl | exact j_nb _) ?_
        exact ⟨by simp [ccI, bI, *], rfl⟩
      · refine g_iconst (pc := 29) (v := 1) dX11_canCure_29 (by decide) ?_
        refine g_goto (pc := 30) 34 dX11_canCure_30 (by decide) ?_
        refine g_ireturn (pc := 34) dX11_canCure_34 rfl (by first | exact rfl | exact j_nb _) ?_
        exact ⟨by simp [ccI, bI, *], rfl⟩
theorem c_canLapse (hd : 2 ≤ d) (hI : InvM am V h) (hT : MT V D nS nR nP) (hk : mlen k = 45) (s : Nat) (hs8 : s < 8) : Ct E d 0 0 mX11_canLapse [vR (nMo am), vR (nMa am k), vI (nI s)] h (qR (some (vI (bI (clI D nR (V k) s)))) h) := by
  refine ct_of (by decide) (Nat.le_of_ble_eq_true rfl) rfl ?_
  refine g_aload_n (pc := 0) dX11_canLapse_0 rfl ?_
  refine g_iconst (pc := 1) (v := 0) dX11_canLapse_1 (by decide) ?_
  refine g_iload_n (pc := 2) dX11_canLapse_2 rfl ?_
  refine g_iadd (pc := 3) dX11_canLapse_3 ?_
  refine g_iaload (pc := 4) dX11_canLapse_4 (mA hI k 45 hk (by decide)) (j := s) (Int32.zero_add _) (by omega) (by decide) rfl ?_
  refine g_if_ne (pc := 5) 21 dX11_canLapse_5 (by decide) (fun c_5 => ?_) (fun c_5 => ?_)
  · refine g_iconst (pc := 21) (v := 0) dX11_canLapse_21 (by decide) ?_
    refine g_ireturn (pc := 22) dX11_canLapse_22 rfl (by first | exact rfl | exact j_nb _) ?_
    exact ⟨by simp [clI, bI, *], rfl⟩
  · refine g_aload_n (pc := 8) dX11_canLapse_8 rfl ?_
    refine g_aload_n (pc := 9) dX11_canLapse_9 rfl ?_
    refine g_iload_n (pc := 10) dX11_canLapse_10 rfl ?_
    refine m_cP (pc := 11) (M' := mX11_keptOf) (as := [_, _]) i_X11_274_11 eX11_keptOf hI dX11_canLapse_11 (c_keptOf (by omega) hI hT hk s hs8) (by omega) rfl rfl (Nat.le_of_ble_eq_true rfl) ?_
    refine g_if_eq (pc := 14) 21 dX11_canLapse_14 (by decide) (fun c_14 => ?_) (fun c_14 => ?_)
    · refine g_iconst (pc := 21) (v := 0) dX11_canLapse_21 (by decide) ?_
      refine g_ireturn (pc := 22) dX11_canLapse_22 rfl (by first | exact rfl | exact j_nb _) ?_
      exact ⟨by simp [clI, bI, *], rfl⟩
    · refine g_iconst (pc := 17) (v := 1) dX11_canLapse_17 (by decide) ?_
      refine g_goto (pc := 18) 22 dX11_canLapse_18 (by decide) ?_
      refine g_ireturn (pc := 22) dX11_canLapse_22 rfl (by first | exact rfl | exact j_nb _) ?_
      exact ⟨by simp [clI, bI, *], rfl⟩
end
