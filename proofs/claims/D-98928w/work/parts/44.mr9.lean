/-! THE REFERENCE: work. Printed by m_r9.py -/
set_option maxRecDepth 100000
def gM (D : Nat → Nat → Nat) (nS nR nP : Nat) : HD := (D, fun _ => -1, nS, nR, nP)
theorem gM_ok {V : mV} {D : Nat → Nat → Nat} {nS nR nP : Nat} (h : MT V D nS nR nP) : tdS V (gM D nS nR nP) := ⟨h.1, h.2.1, h.2.2.1, h.2.2.2.1, h.2.2.2.2.1, h.2.2.2.2.2.1, fun r hr => (h.2.2.2.2.2.2.1 r hr).2.2.2, fun p hp => (h.2.2.2.2.2.2.2.1 p hp).2.2, fun s hs => (h.2.2.2.2.2.2.2.2 s hs).2, fun s => Or.inl rfl⟩
/-- how the work goes -/
def wkG (lw : (Nat → Int32) → Int32) (D : Nat → Nat → Nat) (nR : Nat) (L : List sr) (R : Nat → Int32) : xS := wx lw D nR L (45 * L.length + 1) 2 0 L.length (R, 0, 0, 0)
def woV (V V' : mV) (W : Nat) (g : xS) : Prop := V' 0 0 = 0 ∧ V' 0 1 = 0 ∧ V' 0 3 = -1 ∧ V' 31 = g.1 ∧ V' (1000 * 33 + W) = V 31 ∧ V' 0 36 = nI (W + 1) ∧ V' 0 37 = nI g.2.2.2 ∧ ∀ r j, ¬ rdX r j → ¬ (r = 0 ∧ (j = 0 ∨ j = 1 ∨ j = 3 ∨ j = 36 ∨ j = 37 ∨ j = 40 ∨ j = 41)) → ¬ r = 31 → ¬ r = 1000 * 33 + W → V' r j = V r j
def woQ (am : Nat → Nat) (V : mV) (h : jH) (D : Nat → Nat → Nat) (nR W : Nat) (x : pR (List sr)) : jR → jH → Prop := fun r h' => ∃ V', InvM am V' h' ∧ mFr h h' ∧ match x with
  | .inl e => r = .inl (some (vI (nI e.1 - 10))) ∧ fltV V V' (nI e.2)
  | .inr q => r = .inl (some (vI (nI (wkG (mlaw V) D nR q.2 (V 31)).2.2.1))) ∧ woV V V' W (wkG (mlaw V) D nR q.2 (V 31)) ∧ okX (wkG (mlaw V) D nR q.2 (V 31))
section
variable {E : jE} {d : Nat} {h : jH} {am : Nat → Nat} {V : mV} {t : Nat → Nat} {n a : Nat} {D : Nat → Nat → Nat} {nS nR nP W : Nat}
theorem r_mwork (hd : 2 ≤ d) (hI : InvM am V h) (w : Int32) (hv : (inR w 0 (V 0 1) && decide (w ≤ 150)) = false) : Ct E d 0 0 mX11_work [vR (nMo am), vI w] h (mQ am (refV V 1 1) h (some (vI 0))) := by
  refine ct_of (by decide) (Nat.le_of_ble_eq_true rfl) rfl ?_
  have hF : mFr h h := mFr.rf
  refine g_aload_n (pc := 0) dX11_work_0 rfl ?_
  refine g_iconst (pc := 1) (v := 0) dX11_work_1 (by decide) ?_
  refine m_put (pc := 2) hI w_X11_103_11 rfl (by decide) dX11_work_2 (fun h hI fr => ?_)
  replace hF := mFr.tr hF fr
  change InvM am (thr0 V) h at hI
  refine g_aload_n (pc := 5) dX11_work_5 rfl ?_
  refine g_iload_n (pc := 6) dX11_work_6 rfl ?_
  refine g_iconst (pc := 7) (v := 0) dX11_work_7 (by decide) ?_
  refine g_aload_n (pc := 8) dX11_work_8 rfl ?_
  refine g_getfield (pc := 9) f_X11_106_11 dX11_work_9 hI.1 mf_1 ?_
  rw [show thr0 V 0 1 = V 0 1 from sv_nj (by decide)]
  refine g_cS (pc := 12) (M' := mX11_in) (as := [_, _, _]) i_X11_137 eX11_in dX11_work_12 (c_in _ _ _) (by omega) rfl rfl (Nat.le_of_ble_eq_true rfl) ?_
  refine g_ifB_eq (pc := 15) 25 dX11_work_15 (by decide) (fun c_15 => ?_) (fun c_15 => ?_)
  · refine g_iconst (pc := 25) (v := 1) dX11_work_25 (by decide) ?_
    refine g_goto (pc := 26) 30 dX11_work_26 (by decide) ?_
    refine g_iconst (pc := 30) (v := 1) dX11_work_30 (by decide) ?_
    refine g_iconst (pc := 31) (v := 1) dX11_work_31 (by decide) ?_
    refine m_cV (pc := 32) (M' := mX11_bad) (as := [_, _, _]) i_X11_183_11 eX11_bad hI dX11_work_32 (c_badT hI thr0_0 1 (by decide) 1 (by decide)) (by omega) rfl rfl (Nat.le_of_ble_eq_true rfl) (fun h hI fr => ?_)
    replace hF := mFr.tr hF fr
    refine g_ifB_eq (pc := 35) 40 dX11_work_35 (by decide) (fun c_35 => absurd c_35 (by decide)) (fun c_35 => ?_)
    refine g_iconst (pc := 38) (v := 0) dX11_work_38 (by decide) ?_
    refine g_ireturn (pc := 39) dX11_work_39 rfl (by first | exact rfl | exact j_nb _) ?_
    rw [refV_thr0] at hI
    exact ⟨rfl, hI, hF⟩
  · refine g_iload_n (pc := 18) dX11_work_18 rfl ?_
    refine g_sipush (pc := 19) (v := 150) dX11_work_19 (by decide) ?_
    refine g_icmp_le (pc := 22) 29 dX11_work_22 (by decide) (fun c_22 => ?_) (fun c_22 => ?_)
    · exfalso
      rw [c_15, decide_eq_true c_22] at hv
      cases hv
    · refine g_iconst (pc := 25) (v := 1) dX11_work_25 (by decide) ?_
      refine g_goto (pc := 26) 30 dX11_work_26 (by decide) ?_
      refine g_iconst (pc := 30) (v := 1) dX11_work_30 (by decide) ?_
      refine g_iconst (pc := 31) (v := 1) dX11_work_31 (by decide) ?_
      refine m_cV (pc := 32) (M' := mX11_bad) (as := [_, _, _]) i_X11_183_11 eX11_bad hI dX11_work_32 (c_badT hI thr0_0 1 (by decide) 1 (by decide)) (by omega) rfl rfl (Nat.le_of_ble_eq_true rfl) (fun h hI fr => ?_)
      replace hF := mFr.tr hF fr
      refine g_ifB_eq (pc := 35) 40 dX11_work_35 (by decide) (fun c_35 => absurd c_35 (by decide)) (fun c_35 => ?_)
      refine g_iconst (pc := 38) (v := 0) dX11_work_38 (by decide) ?_
      refine g_ireturn (pc := 39) dX11_work_39 rfl (by first | exact rfl | exact j_nb _) ?_
      rw [refV_thr0] at hI
      exact ⟨rfl, hI, hF⟩
theorem c_copW (hI : InvM am V h) (n : Nat) (hn : n < 16) : Ct E d 0 0 mX11_copies [vR (nMa am 31), vR (nMr am 33 n)] h (mQ am (svR V (1000 * 33 + n) (V 31)) h none) :=
  ct_mono (fun r h' q => ⟨q.1, by rw [q.2]; exact hI.rowR (k := 33) (n := 45) rfl hn, by rw [q.2]; exact mFr.set (by simp; omega)⟩) (c_copies (mA hI 31 45 rfl (by decide)) (mR hI 33 45 n rfl hn) (fun e => by simp at e; omega) (by simp))
set_option maxHeartbeats 2000000 in
theorem l_wend {bc bs : Nat} {h0 : jH} {V' : mV} {L : List sr} {w : Int32} {p : Nat} (hd : 60 ≤ d) (hI : InvM am V' h) (hF : mFr h0 h) (hB : hoB V V') (hM : MT V D nS nR nP) (hl : okL V) (hW : V 0 36 = nI W) (h16 : W < 16) (hG : RG (V 31)) (hL : okV nS nR nP L) (hL8 : L.length < 40) (h30 : V' 0 30 = nI L.length) (hR : ∀ q, q < L.length → RW V' q (L.getD q s0)) : G E d bc bs mX11_work 113 [some (vR (nMo am)), some (vI w)] [] h (woQ am V h0 D nR W (.inr (p, L))) := by
  have e36 : sv V' 0 3 (-1) 0 36 = nI W := by rw [sv_nj (by decide), hB.2.2 0 36 (by unfold rdX; omega) (by omega)]; exact hW
  have e31 : V' 31 = V 31 := funext fun j => hB.2.2 31 j (by unfold rdX; omega) (by omega)
  have en : ∀ r, (r = 12 ∨ r = 14 ∨ (18000 ≤ r ∧ r < 18010) ∨ (20000 ≤ r ∧ r < 20008) ∨ (23000 ≤ r ∧ r < 23160)) → V' r = V r := fun r hr => funext fun j => hB.2.2 r j (by unfold rdX; omega) (by omega)
  have n5 : ∀ r, ¬ r = 0 → ¬ r = 1000 * 33 + W → (sv (svR (sv V' 0 3 (-1)) (1000 * 33 + W) (V' 31)) 0 36 (nI (W + 1))) r = V' r := fun r a b => by rw [sv_ne a, svR_ne b, sv_ne a]
  have z5 : ∀ j, ¬ j = 36 → ¬ j = 3 → (sv (svR (sv V' 0 3 (-1)) (1000 * 33 + W) (V' 31)) 0 36 (nI (W + 1))) 0 j = V' 0 j := fun j a b => by rw [sv_nj a, svR_ne (by omega), sv_nj b]
  have hM5 : MT (sv (svR (sv V' 0 3 (-1)) (1000 * 33 + W) (V' 31)) 0 36 (nI (W + 1))) D nS nR nP := hM.of (fun r hr => (n5 r (by omega) (by omega)).trans (en r (by omega)))
  have hl5 : okL (sv (svR (sv V' 0 3 (-1)) (1000 * 33 + W) (V' 31)) 0 36 (nI (W + 1))) ∧ mlaw (sv (svR (sv V' 0 3 (-1)) (1000 * 33 + W) (V' 31)) 0 36 (nI (W + 1))) = mlaw V := hl.of ((z5 21 (by decide) (by decide)).trans (hB.2.2 0 21 (by unfold rdX; omega) (by omega))) (fun r a b => (n5 r (by omega) (by omega)).trans (en r (by omega)))
  have e5 : (sv (svR (sv V' 0 3 (-1)) (1000 * 33 + W) (V' 31)) 0 36 (nI (W + 1))) 31 = V 31 := (n5 31 (by decide) (by omega)).trans e31
  refine g_aload_n (pc := 113) dX11_work_113 rfl ?_
  refine g_iconst (pc := 114) (v := -1) dX11_work_114 (by decide) ?_
  refine m_put (pc := 115) hI w_X11_9_11 rfl (by decide) dX11_work_115 (fun h hI fr => ?_)
  replace hF := mFr.tr hF fr
  refine g_aload_n (pc := 118) dX11_work_118 rfl ?_
  refine g_getfield (pc := 119) f_X11_73_11 dX11_work_119 hI.1 mf_31 ?_
  refine g_aload_n (pc := 122) dX11_work_122 rfl ?_
  refine g_getfield (pc := 123) f_X11_79_11 dX11_work_123 hI.1 mf_33 ?_
  refine g_aload_n (pc := 126) dX11_work_126 rfl ?_
  refine g_getfield (pc := 127) f_X11_206_11 dX11_work_127 hI.1 mf_36 ?_
  rw [e36]
  refine g_aaload (pc := 130) (t := 5) rfl rfl dX11_work_130 (mG hI 33 16 rfl (by decide)) (j := W) rfl (by omega) (by decide) rfl ?_
  
  refine m_cSv (pc := 131) (M' := mX11_copies) (as := [_, _]) i_X11_325 eX11_copies dX11_work_131 (c_copW hI W h16) (by omega) rfl rfl (Nat.le_of_ble_eq_true rfl) (fun h hI fr => ?_)
  replace hF := mFr.tr hF fr
  refine g_aload_n (pc := 134) dX11_work_134 rfl ?_
  refine g_dup (pc := 135) dX11_work_135 rfl ?_
  refine g_getfield (pc := 136) f_X11_206_11 dX11_work_136 hI.1 mf_36 ?_
  refine g_iconst (pc := 139) (v := 1) dX11_work_139 (by decide) ?_
  refine g_iadd (pc := 140) dX11_work_140 ?_
  rw [svR_ne (by omega), e36, nI_1]
  refine m_put (pc := 141) hI w_X11_206_11 rfl (by decide) dX11_work_141 (fun h hI fr => ?_)
  replace hF := mFr.tr hF fr
  refine g_aload_n (pc := 144) dX11_work_144 rfl ?_
  refine g_iconst (pc := 145) (v := 0) dX11_work_145 (by decide) ?_
  refine m_put (pc := 146) hI w_X11_312_11 rfl (by decide) dX11_work_146 (fun h hI fr => ?_)
  replace hF := mFr.tr hF fr
  refine g_aload_n (pc := 149) dX11_work_149 rfl ?_
  refine g_iconst (pc := 150) (v := 0) dX11_work_150 (by decide) ?_
  refine m_put (pc := 151) hI w_X11_322_11 rfl (by decide) dX11_work_151 (fun h hI fr => ?_)
  replace hF := mFr.tr hF fr
  refine g_aload_n (pc := 154) dX11_work_154 rfl ?_
  refine g_iconst (pc := 155) (v := 0) dX11_work_155 (by decide) ?_
  refine m_put (pc := 156) hI w_X11_209_11 rfl (by decide) dX11_work_156 (fun h hI fr => ?_)
  replace hF := mFr.tr hF fr
  have hx : InvM am (xV (sv (svR (sv V' 0 3 (-1)) (1000 * 33 + W) (V' 31)) 0 36 (nI (W + 1))) (V 31, 0, 0, 0)) h := by
    rw [show xV (sv (svR (sv V' 0 3 (-1)) (1000 * 33 + W) (V' 31)) 0 36 (nI (W + 1))) (V 31, 0, 0, 0) = sv (sv (sv (sv (svR (sv V' 0 3 (-1)) (1000 * 33 + W) (V' 31)) 0 36 (nI (W + 1))) 0 40 0) 0 41 0) 0 37 0 by unfold xV; rw [← e5, svR_self]; rfl]
    rw [sv_ne (show 31 ≠ 0 by decide)] at hI
    exact hI
  clear hI
  have hI := hx
  refine g_aload_n (pc := 159) dX11_work_159 rfl ?_
  refine g_iconst (pc := 160) (v := 0) dX11_work_160 (by decide) ?_
  refine g_aload_n (pc := 161) dX11_work_161 rfl ?_
  refine g_getfield (pc := 162) f_X11_257_11 dX11_work_162 hI.1 mf_30 ?_
  rw [show xV (sv (svR (sv V' 0 3 (-1)) (1000 * 33 + W) (V' 31)) 0 36 (nI (W + 1))) (V 31, 0, 0, 0) 0 30 = nI L.length from (xV_0 (by decide) (by decide) (by decide)).trans ((z5 30 (by decide) (by decide)).trans h30)]
  refine m_cVv (pc := 165) (M' := mX11_goes) (as := [_, _]) i_X11_315_11 eX11_goes hI dX11_work_165 (c_goes_of (m := 45 * L.length + 1) (a := 0) (b := L.length) (go_all hM5 hl5.1 hL (fun q hq => (hR q hq).of (n5 _ (by omega) (by omega))) (by omega) _).1 hI ⟨hG, show 0 ≤ 200 by decide, show 0 + 0 ≤ 0 by decide⟩ ⟨Nat.le_refl _, fun q _ w2 => (hL q w2).2.2.1⟩ (Nat.zero_le _) (by omega) (by omega)) (by omega) rfl rfl (Nat.le_of_ble_eq_true rfl) (fun h hI fr => ?_)
  replace hF := mFr.tr hF fr
  refine g_aload_n (pc := 168) dX11_work_168 rfl ?_
  refine g_getfield (pc := 169) f_X11_322_11 dX11_work_169 hI.1 mf_41 ?_
  rw [xV_41]
  refine g_ireturn (pc := 172) dX11_work_172 rfl (by first | exact rfl | exact j_nb _) ?_
  have ew : wx (mlaw (sv (svR (sv V' 0 3 (-1)) (1000 * 33 + W) (V' 31)) 0 36 (nI (W + 1)))) D nR L (45 * L.length + 1) 2 0 L.length (V 31, 0, 0, 0) = wkG (mlaw V) D nR L (V 31) := by rw [hl5.2]; rfl
  rw [ew] at hI ⊢
  have hok : okX (wkG (mlaw V) D nR L (V 31)) := wx_ok hM.2.2.2.1 hM.2.2.2.2.1 hM.2.2.2.2.2.1 hL _ 2 0 L.length _ ⟨hG, show 0 ≤ 200 by decide, show 0 + 0 ≤ 0 by decide⟩ (fun w => absurd w (by decide)) (fun _ => ⟨Nat.le_refl _, fun q _ w2 => (hL q w2).2.2.1⟩)
  refine ⟨_, hI, hF, rfl, ⟨?_, ?_, ?_, xV_31, ?_, ?_, xV_37, fun r j a b c e => ?_⟩, hok⟩
  · rw [xV_0 (by decide) (by decide) (by decide), z5 0 (by decide) (by decide)]; exact hB.1
  · rw [xV_0 (by decide) (by decide) (by decide), z5 1 (by decide) (by decide)]; exact hB.2.1
  · rw [xV_0 (by decide) (by decide) (by decide), sv_nj (by decide), svR_ne (by omega), sv_same]
  · rw [xV_o (by omega) (by omega), sv_ne (by omega), svR_row, e31]
  · rw [xV_0 (by decide) (by decide) (by decide), sv_same]
  · by_cases r0 : r = 0
    · subst r0
      rw [xV_0 (by omega) (by omega) (by omega), z5 j (by omega) (by omega)]
      exact hB.2.2 0 j a (by omega)
    · rw [xV_o r0 c, n5 r r0 e]
      exact hB.2.2 r j a (by omega)
set_option maxHeartbeats 4000000 in
theorem l_work {bc bs : Nat} {h0 : jH} {w : Int32} (hd : 60 ≤ d) (hn : n ≤ 150) (hM : MT V D nS nR nP) (hl : okL V) (hW : V 0 36 = nI W) (h16 : W < 16) (hG : RG (V 31)) : ∀ (m : Nat) (acc : List sr) (a : Nat) (V' : mV) (h : jH), 2 * (n - a) + 2 ≤ m → bl t n a = a → InvM am V' h → mFr h0 h → wkS V' t n a 0 acc.length (gM D nS nR nP) → hoB V V' → okK (gM D nS nR nP) 0 acc.length acc → (∀ q, q < acc.length → RW V' q (acc.getD q s0)) → G E d bc bs mX11_work 72 [some (vR (nMo am)), some (vI w)] [] h (woQ am V h0 D nR W (wk t n (gM D nS nR nP) m 2 0 0 a acc)) := by
  intro m
  induction m with
  | zero => exact fun acc a V' h hm => absurd hm (by omega)
  | succ m ih =>
    intro acc a V' h hm hb hI hF hs hB hok hR
    have hale := hs.1.2.2.2.2
    have h4a := hs.2.2.2.2.1
    refine g_aload_n (pc := 72) dX11_work_72 rfl ?_
    refine g_getfield (pc := 73) f_X11_119_11 dX11_work_73 hI.1 mf_5 ?_
    refine g_if_ne (pc := 76) 101 dX11_work_76 (by decide) (fun c_76 => absurd hs.2.1 c_76) (fun c_76 => ?_)
    refine g_aload_n (pc := 79) dX11_work_79 rfl ?_
    refine g_getfield (pc := 80) f_X11_112_11 dX11_work_80 hI.1 mf_4 ?_
    refine g_aload_n (pc := 83) dX11_work_83 rfl ?_
    refine g_getfield (pc := 84) f_X11_109_11 dX11_work_84 hI.1 mf_2 ?_
    rw [hs.1.2.2.2.1, hs.1.2.1]
    refine g_icmp_ge (pc := 87) 101 dX11_work_87 (by decide) (fun c_87 => ?_) (fun c_87 => ?_)
    · have hge : ¬ a < n := fun w => absurd c_87 (nI_ge w (by omega))
      rw [show wk t n (gM D nS nR nP) (m + 1) 2 0 0 a acc = .inr (a, acc) by
        show (if _ then _ else _) = _
        rw [if_neg (by decide), if_neg (by decide), if_neg hge]]
      refine g_aload_n (pc := 101) dX11_work_101 rfl ?_
      refine g_getfield (pc := 102) f_X11_119_11 dX11_work_102 hI.1 mf_5 ?_
      refine g_if_eq (pc := 105) 113 dX11_work_105 (by decide) (fun c_105 => ?_) (fun c_105 => absurd hs.2.1 c_105)
      exact l_wend hd hI hF hB hM hl hW h16 hG (okV_of hok) (by omega) hs.2.2.2.1 hR
    · refine g_aload_n (pc := 90) dX11_work_90 rfl ?_
      refine m_cX (pc := 91) (M' := mX11_readsStep) (as := []) i_X11_260_11 eX11_readsStep hI dX11_work_91 ((wk_both E am t n (gM D nS nR nP) m).1 (d - 1) V' h 0 acc.length a hI hs hb (by omega) (by omega)) (by omega) rfl rfl (Nat.le_of_ble_eq_true rfl) (fun r9 h9 q9 => ?_)
      obtain ⟨rfl, V2, hI, fr, rd2, q9⟩ := q9
      refine ⟨none, rfl, ?_⟩
      replace hF := mFr.tr hF fr
      have hlt : a < n := by
        rcases Nat.lt_or_ge a n with w | w
        · exact w
        · exact absurd (nI_le w (by omega)) c_87
      rw [show wk t n (gM D nS nR nP) (m + 1) 2 0 0 a acc = pB (wk t n (gM D nS nR nP) m 0 0 acc.length a []) fun p c => wk t n (gM D nS nR nP) m 2 0 0 (bl t n p) (acc ++ c) by
        show (if _ then _ else _) = _
        rw [if_neg (by decide), if_neg (by decide), if_pos hlt, Nat.zero_add]]
      cases ex : wk t n (gM D nS nR nP) m 0 0 acc.length a [] with
      | inl e =>
        rw [ex] at q9
        obtain ⟨f5, f6, fk, b, hpb⟩ := q9
        have hne : ¬ V2 0 5 = 0 := by rw [f5]; exact nI_ne0 (by omega) (by omega)
        refine g_aload_n (pc := 94) dX11_work_94 rfl ?_
        refine m_cVv (pc := 95) (M' := mX11_blanks) (as := []) i_X11_125_11 eX11_blanks hI dX11_work_95 (cP_blanks (by omega) hI hpb) (by omega) rfl rfl (Nat.le_of_ble_eq_true rfl) (fun h hI fr => ?_)
        replace hF := mFr.tr hF fr
        refine g_goto (pc := 98) 72 dX11_work_98 (by decide) ?_
        refine g_aload_n (pc := 72) dX11_work_72 rfl ?_
        refine g_getfield (pc := 73) f_X11_119_11 dX11_work_73 hI.1 mf_5 ?_
        refine g_if_ne (pc := 76) 101 dX11_work_76 (by decide) (fun c_76 => ?_) (fun c_76 => absurd c_76 (by rw [sv_nj (by decide)]; exact hne))
        refine g_aload_n (pc := 101) dX11_work_101 rfl ?_
        refine g_getfield (pc := 102) f_X11_119_11 dX11_work_102 hI.1 mf_5 ?_
        refine g_if_eq (pc := 105) 113 dX11_work_105 (by decide) (fun c_105 => absurd c_105 (by rw [sv_nj (by decide)]; exact hne)) (fun c_105 => ?_)
        refine g_aload_n (pc := 108) dX11_work_108 rfl ?_
        refine m_cV (pc := 109) (M' := mX11_ends) (as := []) i_X11_193_11 eX11_ends hI dX11_work_109 (c_ends hI) (by omega) rfl rfl (Nat.le_of_ble_eq_true rfl) (fun h hI fr => ?_)
        replace hF := mFr.tr hF fr
        refine g_ireturn (pc := 112) dX11_work_112 rfl (by first | exact rfl | exact j_nb _) ?_
        refine ⟨_, hI, hF, ?_, ?_⟩
        · rw [sv_nj (by decide), f5]
        · rw [sv_nj (by decide), f6]
          exact ((hB.rd rd2).rd rdE.rf.a4).flt
      | inr q =>
        obtain ⟨p, c⟩ := q
        rw [ex] at q9
        obtain ⟨f5, fp, f8, f30, fo, fn⟩ := q9
        have fp : PS V2 t n p := fp
        have f30 : V2 0 30 = nI (acc.length + c.length) := f30
        have fn : ∀ j, j < c.length → RW V2 (acc.length + j) (c.getD j s0) := fn
        obtain ⟨r1, r2, -⟩ := wk_ok (gM_ok hM).2.2.2 m 0 0 acc.length a [] p c (by omega) hale ex
        obtain ⟨r3, r4, r5⟩ := r2 rfl
        have hbp := bl_le (t := t) r1
        refine g_aload_n (pc := 94) dX11_work_94 rfl ?_
        refine m_cVv (pc := 95) (M' := mX11_blanks) (as := []) i_X11_125_11 eX11_blanks hI dX11_work_95 (cP_blanks (by omega) hI fp) (by omega) rfl rfl (Nat.le_of_ble_eq_true rfl) (fun h hI fr => ?_)
        replace hF := mFr.tr hF fr
        refine g_goto (pc := 98) 72 dX11_work_98 (by decide) ?_
        refine ih (acc ++ c) (bl t n p) _ h (by omega) bl_bl hI hF ⟨fp.at hbp.2, by rw [sv_nj (by decide)]; exact f5, by rw [sv_nj (by decide)]; exact f8, by rw [sv_nj (by decide), List.length_append]; exact f30, by rw [List.length_append]; omega, hn, by decide, hs.2.2.2.2.2.2.2.rd rd2.a4⟩ ((hB.rd rd2).rd rdE.rf.a4) ?_ (fun j hj => ?_)
        · rw [List.length_append]
          exact okK_app hok r5
        · rw [List.length_append] at hj
          by_cases w : j < acc.length
          · rw [getD_l w]
            exact (hR j w).of (by rw [sv_ne (by omega), fo j w])
          · rw [getD_r (by omega)]
            have := fn (j - acc.length) (by omega)
            rw [show acc.length + (j - acc.length) = j by omega] at this
            exact this.of (sv_ne (by omega))
set_option maxHeartbeats 2000000 in
theorem c_mwork16 (hd : 6 ≤ d) (hI : InvM am V h) (hT : TX V t) (n T : Nat) (h1 : V 0 1 = nI T) (hT6 : T ≤ 600) (hn : n ≤ T) (hn2 : n ≤ 150) (hW : V 0 36 = nI W) (h16 : W = 16) : Ct E d 0 0 mX11_work [vR (nMo am), vI (nI n)] h (mQ am (sv (sv (thr0 V) 0 1 0) 0 3 (-1)) h (some (vI (-20)))) := by
  refine ct_of (by decide) (Nat.le_of_ble_eq_true rfl) rfl ?_
  have hF : mFr h h := mFr.rf
  have hv : inR (nI n) 0 (V 0 1) = true := by rw [h1]; exact inC_of hn (by omega)
  have hT0 : TX (thr0 V) t := hT.sv (by decide)
  have hb0 := bl_le (t := t) (n := n) (Nat.zero_le n)
  have e36 : thr0 V 0 36 = nI W := by rw [show thr0 V 0 36 = V 0 36 from sv_nj (by decide)]; exact hW
  refine g_aload_n (pc := 0) dX11_work_0 rfl ?_
  refine g_iconst (pc := 1) (v := 0) dX11_work_1 (by decide) ?_
  refine m_put (pc := 2) hI w_X11_103_11 rfl (by decide) dX11_work_2 (fun h hI fr => ?_)
  replace hF := mFr.tr hF fr
  change InvM am (thr0 V) h at hI
  refine g_aload_n (pc := 5) dX11_work_5 rfl ?_
  refine g_iload_n (pc := 6) dX11_work_6 rfl ?_
  refine g_iconst (pc := 7) (v := 0) dX11_work_7 (by decide) ?_
  refine g_aload_n (pc := 8) dX11_work_8 rfl ?_
  refine g_getfield (pc := 9) f_X11_106_11 dX11_work_9 hI.1 mf_1 ?_
  rw [show thr0 V 0 1 = V 0 1 from sv_nj (by decide)]
  refine g_cS (pc := 12) (M' := mX11_in) (as := [_, _, _]) i_X11_137 eX11_in dX11_work_12 (c_in _ _ _) (by omega) rfl rfl (Nat.le_of_ble_eq_true rfl) ?_
  refine g_ifB_eq (pc := 15) 25 dX11_work_15 (by decide) (fun c_15 => absurd (hv.symm.trans c_15) (by decide)) (fun c_15 => ?_)
  refine g_iload_n (pc := 18) dX11_work_18 rfl ?_
  refine g_sipush (pc := 19) (v := 150) dX11_work_19 (by decide) ?_
  refine g_icmp_le (pc := 22) 29 dX11_work_22 (by decide) (fun c_22 => ?_) (fun c_22 => absurd (nI_le (b := 150) hn2 (by decide)) c_22)
  refine g_iconst (pc := 29) (v := 0) dX11_work_29 (by decide) ?_
  refine g_iconst (pc := 30) (v := 1) dX11_work_30 (by decide) ?_
  refine g_iconst (pc := 31) (v := 1) dX11_work_31 (by decide) ?_
  refine m_cV (pc := 32) (M' := mX11_bad) (as := [_, _, _]) i_X11_183_11 eX11_bad hI dX11_work_32 (c_badF hI thr0_0 1 1 (by decide)) (by omega) rfl rfl (Nat.le_of_ble_eq_true rfl) (fun h hI fr => ?_)
  replace hF := mFr.tr hF fr
  refine g_ifB_eq (pc := 35) 40 dX11_work_35 (by decide) (fun c_35 => ?_) (fun c_35 => absurd c_35 (by decide))
  refine g_aload_n (pc := 40) dX11_work_40 rfl ?_
  refine g_getfield (pc := 41) f_X11_206_11 dX11_work_41 hI.1 mf_36 ?_
  rw [e36]
  refine g_bipush (pc := 44) (v := 16) dX11_work_44 (by decide) ?_
  refine g_icmp_ne (pc := 46) 62 dX11_work_46 (by decide) (fun c_46 => absurd (by rw [h16]; rfl) c_46) (fun c_46 => ?_)
  refine g_aload_n (pc := 49) dX11_work_49 rfl ?_
  refine g_iconst (pc := 50) (v := 0) dX11_work_50 (by decide) ?_
  refine m_put (pc := 51) hI w_X11_106_11 rfl (by decide) dX11_work_51 (fun h hI fr => ?_)
  replace hF := mFr.tr hF fr
  refine g_aload_n (pc := 54) dX11_work_54 rfl ?_
  refine g_iconst (pc := 55) (v := -1) dX11_work_55 (by decide) ?_
  refine m_put (pc := 56) hI w_X11_9_11 rfl (by decide) dX11_work_56 (fun h hI fr => ?_)
  replace hF := mFr.tr hF fr
  refine g_bipush (pc := 59) (v := -20) dX11_work_59 (by decide) ?_
  refine g_ireturn (pc := 61) dX11_work_61 rfl (by first | exact rfl | exact j_nb _) ?_
  exact ⟨rfl, hI, hF⟩
set_option maxHeartbeats 2000000 in
theorem c_mwork (hd : 61 ≤ d) (hI : InvM am V h) (hT : TX V t) (n T : Nat) (h1 : V 0 1 = nI T) (hT6 : T ≤ 600) (hn : n ≤ T) (hn2 : n ≤ 150) (hW : V 0 36 = nI W) (hM : MT V D nS nR nP) (hl : okL V) (h16 : W < 16) (hG : RG (V 31)) : Ct E d 0 0 mX11_work [vR (nMo am), vI (nI n)] h (woQ am V h D nR W (wk t n (gM D nS nR nP) 302 2 0 0 (bl t n 0) [])) := by
  refine ct_of (by decide) (Nat.le_of_ble_eq_true rfl) rfl ?_
  have hF : mFr h h := mFr.rf
  have hv : inR (nI n) 0 (V 0 1) = true := by rw [h1]; exact inC_of hn (by omega)
  have hT0 : TX (thr0 V) t := hT.sv (by decide)
  have hb0 := bl_le (t := t) (n := n) (Nat.zero_le n)
  have e36 : thr0 V 0 36 = nI W := by rw [show thr0 V 0 36 = V 0 36 from sv_nj (by decide)]; exact hW
  refine g_aload_n (pc := 0) dX11_work_0 rfl ?_
  refine g_iconst (pc := 1) (v := 0) dX11_work_1 (by decide) ?_
  refine m_put (pc := 2) hI w_X11_103_11 rfl (by decide) dX11_work_2 (fun h hI fr => ?_)
  replace hF := mFr.tr hF fr
  change InvM am (thr0 V) h at hI
  refine g_aload_n (pc := 5) dX11_work_5 rfl ?_
  refine g_iload_n (pc := 6) dX11_work_6 rfl ?_
  refine g_iconst (pc := 7) (v := 0) dX11_work_7 (by decide) ?_
  refine g_aload_n (pc := 8) dX11_work_8 rfl ?_
  refine g_getfield (pc := 9) f_X11_106_11 dX11_work_9 hI.1 mf_1 ?_
  rw [show thr0 V 0 1 = V 0 1 from sv_nj (by decide)]
  refine g_cS (pc := 12) (M' := mX11_in) (as := [_, _, _]) i_X11_137 eX11_in dX11_work_12 (c_in _ _ _) (by omega) rfl rfl (Nat.le_of_ble_eq_true rfl) ?_
  refine g_ifB_eq (pc := 15) 25 dX11_work_15 (by decide) (fun c_15 => absurd (hv.symm.trans c_15) (by decide)) (fun c_15 => ?_)
  refine g_iload_n (pc := 18) dX11_work_18 rfl ?_
  refine g_sipush (pc := 19) (v := 150) dX11_work_19 (by decide) ?_
  refine g_icmp_le (pc := 22) 29 dX11_work_22 (by decide) (fun c_22 => ?_) (fun c_22 => absurd (nI_le (b := 150) hn2 (by decide)) c_22)
  refine g_iconst (pc := 29) (v := 0) dX11_work_29 (by decide) ?_
  refine g_iconst (pc := 30) (v := 1) dX11_work_30 (by decide) ?_
  refine g_iconst (pc := 31) (v := 1) dX11_work_31 (by decide) ?_
  refine m_cV (pc := 32) (M' := mX11_bad) (as := [_, _, _]) i_X11_183_11 eX11_bad hI dX11_work_32 (c_badF hI thr0_0 1 1 (by decide)) (by omega) rfl rfl (Nat.le_of_ble_eq_true rfl) (fun h hI fr => ?_)
  replace hF := mFr.tr hF fr
  refine g_ifB_eq (pc := 35) 40 dX11_work_35 (by decide) (fun c_35 => ?_) (fun c_35 => absurd c_35 (by decide))
  refine g_aload_n (pc := 40) dX11_work_40 rfl ?_
  refine g_getfield (pc := 41) f_X11_206_11 dX11_work_41 hI.1 mf_36 ?_
  rw [e36]
  refine g_bipush (pc := 44) (v := 16) dX11_work_44 (by decide) ?_
  refine g_icmp_ne (pc := 46) 62 dX11_work_46 (by decide) (fun c_46 => ?_) (fun c_46 => absurd ((nI_eq (b := 16) (by omega) (by decide)).mp c_46) (by omega))
  refine g_aload_n (pc := 62) dX11_work_62 rfl ?_
  refine g_iload_n (pc := 63) dX11_work_63 rfl ?_
  refine m_cVv (pc := 64) (M' := mX11_starts) (as := [_]) i_X11_187_11 eX11_starts hI dX11_work_64 (c_starts (by omega) hI hT0 (by omega)) (by omega) rfl rfl (Nat.le_of_ble_eq_true rfl) (fun h hI fr => ?_)
  replace hF := mFr.tr hF fr
  refine g_aload_n (pc := 67) dX11_work_67 rfl ?_
  refine g_iconst (pc := 68) (v := 0) dX11_work_68 (by decide) ?_
  refine m_put (pc := 69) hI w_X11_257_11 rfl (by decide) dX11_work_69 (fun h hI fr => ?_)
  replace hF := mFr.tr hF fr
  have hp0 := (stV_PS (V := thr0 V) (t := t) (n := n) hT0 (by omega)).at hb0.2
  have hB : hoB V (sv (sv (stV (thr0 V) (nI n)) 0 4 (nI (bl t n 0))) 0 30 0) := by
    refine ⟨?_, ?_, fun r j a b => ?_⟩
    · rw [sv_nj (by decide), sv_nj (by decide)]
      unfold stV
      rw [sv_nj (by decide), sv_nj (by decide), sv_nj (by decide), sv_nj (by decide), sv_nj (by decide), sv_nj (by decide), sv_nj (by decide)]
      exact thr0_0
    · rw [sv_nj (by decide), sv_nj (by decide)]
      unfold stV
      rw [sv_nj (by decide), sv_nj (by decide), sv_nj (by decide), sv_nj (by decide), sv_nj (by decide), sv_nj (by decide), sv_same]
    · unfold rdX at a
      unfold stV thr0
      repeat rw [sv_at, if_neg (by omega)]
  refine l_work (by omega) hn2 hM hl hW h16 hG 302 [] (bl t n 0) _ h (by omega) bl_bl hI hF ⟨hp0.out (by decide) (fun _ => by decide), ?_, ?_, sv_same, Nat.zero_le _, hn2, by decide, ?_⟩ hB okK_nil (fun q hq => absurd hq (Nat.not_lt_zero q))
  · rw [sv_nj (by decide), sv_nj (by decide)]
    unfold stV
    rw [sv_nj (by decide), sv_nj (by decide), sv_nj (by decide), sv_same]
  · rw [sv_nj (by decide), sv_nj (by decide)]
    unfold stV
    rw [sv_same]; rfl
  · have h12 : ∀ j, (sv (sv (stV (thr0 V) (nI n)) 0 4 (nI (bl t n 0))) 0 30 0) 12 j = V 12 j := fun j => hB.2.2 12 j (by unfold rdX; omega) (by omega)
    have := gM_ok hM
    exact ⟨(h12 0).trans this.1, (h12 1).trans this.2.1, (h12 2).trans this.2.2.1, this.2.2.2⟩
end
