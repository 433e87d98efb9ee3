/-! THE REFERENCE: seen. Printed by m_r6.py -/
set_option maxRecDepth 100000
def SR (V : mV) (L : List (Nat × Nat)) : Prop := ∀ k, k < L.length → V (1000 * 26 + k) 0 = nI (L.getD k (0, 0)).1 ∧ V (1000 * 26 + k) 1 = nI (L.getD k (0, 0)).2
def seV (V V' : mV) (L : List (Nat × Nat)) : Prop := V' 0 0 = 0 ∧ V' 0 1 = 0 ∧ V' 0 3 = -1 ∧ V' 0 35 = nI L.length ∧ (∀ k, k < L.length → V' (1000 * 25 + k) 0 = nI (L.getD k (0, 0)).1 ∧ V' (1000 * 25 + k) 1 = nI (L.getD k (0, 0)).2) ∧ ∀ r j, ¬ rdX r j → ¬ (r = 0 ∧ (j = 0 ∨ j = 1 ∨ j = 3 ∨ j = 35)) → ¬ (25000 ≤ r ∧ r < 25010) → V' r j = V r j
def seQ (am : Nat → Nat) (V : mV) (h : jH) (nR : Nat) (x : pR (List (Nat × Nat))) : jR → jH → Prop := fun r h' => ∃ V', InvM am V' h' ∧ mFr h h' ∧ match x with
  | .inl e => r = .inl (some (vI (nI e.1 - 10))) ∧ fltV V V' (nI e.2)
  | .inr q => r = .inl (some (vI (nI q.2.length))) ∧ seV V V' q.2 ∧ okS nR q.2
theorem rdX26 {i j : Nat} (h : i < 1000) : rdX (1000 * 26 + i) j := by unfold rdX; omega
section
variable {E : jE} {d : Nat} {h : jH} {am : Nat → Nat} {V : mV} {t : Nat → Nat} {n a : Nat} {D : Nat → Nat → Nat} {nS nR nP : Nat}
theorem r_mseen (hd : 2 ≤ d) (hI : InvM am V h) (w : Int32) (hv : (inR w 0 (V 0 1) && decide (w ≤ 60)) = false) : Ct E d 0 0 mX11_seen [vR (nMo am), vI w] h (mQ am (refV V 1 1) h (some (vI 0))) := by
  refine ct_of (by decide) (Nat.le_of_ble_eq_true rfl) rfl ?_
  have hF : mFr h h := mFr.rf
  refine g_aload_n (pc := 0) dX11_seen_0 rfl ?_
  refine g_iconst (pc := 1) (v := 0) dX11_seen_1 (by decide) ?_
  refine m_put (pc := 2) hI w_X11_103_11 rfl (by decide) dX11_seen_2 (fun h hI fr => ?_)
  replace hF := mFr.tr hF fr
  change InvM am (thr0 V) h at hI
  refine g_aload_n (pc := 5) dX11_seen_5 rfl ?_
  refine g_iload_n (pc := 6) dX11_seen_6 rfl ?_
  refine g_iconst (pc := 7) (v := 0) dX11_seen_7 (by decide) ?_
  refine g_aload_n (pc := 8) dX11_seen_8 rfl ?_
  refine g_getfield (pc := 9) f_X11_106_11 dX11_seen_9 hI.1 mf_1 ?_
  rw [show thr0 V 0 1 = V 0 1 from sv_nj (by decide)]
  refine g_cS (pc := 12) (M' := mX11_in) (as := [_, _, _]) i_X11_137 eX11_in dX11_seen_12 (c_in _ _ _) (by omega) rfl rfl (Nat.le_of_ble_eq_true rfl) ?_
  refine g_ifB_eq (pc := 15) 24 dX11_seen_15 (by decide) (fun c_15 => ?_) (fun c_15 => ?_)
  · refine g_iconst (pc := 24) (v := 1) dX11_seen_24 (by decide) ?_
    refine g_goto (pc := 25) 29 dX11_seen_25 (by decide) ?_
    refine g_iconst (pc := 29) (v := 1) dX11_seen_29 (by decide) ?_
    refine g_iconst (pc := 30) (v := 1) dX11_seen_30 (by decide) ?_
    refine m_cV (pc := 31) (M' := mX11_bad) (as := [_, _, _]) i_X11_183_11 eX11_bad hI dX11_seen_31 (c_badT hI thr0_0 1 (by decide) 1 (by decide)) (by omega) rfl rfl (Nat.le_of_ble_eq_true rfl) (fun h hI fr => ?_)
    replace hF := mFr.tr hF fr
    refine g_ifB_eq (pc := 34) 39 dX11_seen_34 (by decide) (fun c_34 => absurd c_34 (by decide)) (fun c_34 => ?_)
    refine g_iconst (pc := 37) (v := 0) dX11_seen_37 (by decide) ?_
    refine g_ireturn (pc := 38) dX11_seen_38 rfl (by first | exact rfl | exact j_nb _) ?_
    rw [refV_thr0] at hI
    exact ⟨rfl, hI, hF⟩
  · refine g_iload_n (pc := 18) dX11_seen_18 rfl ?_
    refine g_bipush (pc := 19) (v := 60) dX11_seen_19 (by decide) ?_
    refine g_icmp_le (pc := 21) 28 dX11_seen_21 (by decide) (fun c_21 => ?_) (fun c_21 => ?_)
    · exfalso
      rw [c_15, decide_eq_true c_21] at hv
      cases hv
    · refine g_iconst (pc := 24) (v := 1) dX11_seen_24 (by decide) ?_
      refine g_goto (pc := 25) 29 dX11_seen_25 (by decide) ?_
      refine g_iconst (pc := 29) (v := 1) dX11_seen_29 (by decide) ?_
      refine g_iconst (pc := 30) (v := 1) dX11_seen_30 (by decide) ?_
      refine m_cV (pc := 31) (M' := mX11_bad) (as := [_, _, _]) i_X11_183_11 eX11_bad hI dX11_seen_31 (c_badT hI thr0_0 1 (by decide) 1 (by decide)) (by omega) rfl rfl (Nat.le_of_ble_eq_true rfl) (fun h hI fr => ?_)
      replace hF := mFr.tr hF fr
      refine g_ifB_eq (pc := 34) 39 dX11_seen_34 (by decide) (fun c_34 => absurd c_34 (by decide)) (fun c_34 => ?_)
      refine g_iconst (pc := 37) (v := 0) dX11_seen_37 (by decide) ?_
      refine g_ireturn (pc := 38) dX11_seen_38 rfl (by first | exact rfl | exact j_nb _) ?_
      rw [refV_thr0] at hI
      exact ⟨rfl, hI, hF⟩
set_option maxHeartbeats 1000000 in
theorem l_sf110 {bc bs kk pp : Nat} {V1 V2 : mV} {h0 : jH} {w x y : Int32} {z4 z5 : Int32} {u6 : Option jV} (hd : 3 ≤ d) (hI : InvM am V2 h) (hF : mFr h0 h) (hB : hoB V V1) (fs : FS t n V1 V2 kk pp) : G E d bc bs mX11_seen 110 [some (vR (nMo am)), some (vI w), some (vI x), some (vI y), some (vI z4), some (vI z5), u6] [] h (seQ am V h0 nR (.inl (kk, pp))) := by
  obtain ⟨b, hpb⟩ := fs.2.2.2.2
  refine g_aload_n (pc := 110) dX11_seen_110 rfl ?_
  refine g_iconst (pc := 111) (v := 0) dX11_seen_111 (by decide) ?_
  refine g_bipush (pc := 112) (v := 99) dX11_seen_112 (by decide) ?_
  refine m_cP (pc := 114) (M' := mX11_number) (as := [_, _]) i_X11_175_11 eX11_number hI dX11_seen_114 (c_number1 hI fs.ne _ _) (by omega) rfl rfl (Nat.le_of_ble_eq_true rfl) ?_
  refine g_istore (pc := 117) (ls' := [_, _, _, _, _, _, _]) dX11_seen_117 (by decide) rfl rfl ?_
  refine g_aload_n (pc := 119) dX11_seen_119 rfl ?_
  refine g_bipush (pc := 120) (v := 59) dX11_seen_120 (by decide) ?_
  refine m_cVv (pc := 122) (M' := mX11_sign) (as := [_]) i_X11_179_11 eX11_sign hI dX11_seen_122 (c_sign1 hI fs.ne _) (by omega) rfl rfl (Nat.le_of_ble_eq_true rfl) (fun h hI fr => ?_)
  replace hF := mFr.tr hF fr
  refine g_aload_n (pc := 125) dX11_seen_125 rfl ?_
  refine g_getfield (pc := 126) f_X11_119_11 dX11_seen_126 hI.1 mf_5 ?_
  refine g_if_ne (pc := 129) 162 dX11_seen_129 (by decide) (fun c_129 => ?_) (fun c_129 => absurd c_129 fs.ne)
  refine g_aload_n (pc := 162) dX11_seen_162 rfl ?_
  refine m_cVv (pc := 163) (M' := mX11_blanks) (as := []) i_X11_125_11 eX11_blanks hI dX11_seen_163 (cP_blanks (by omega) hI hpb) (by omega) rfl rfl (Nat.le_of_ble_eq_true rfl) (fun h hI fr => ?_)
  replace hF := mFr.tr hF fr
  refine g_goto (pc := 166) 48 dX11_seen_166 (by decide) ?_
  refine g_aload_n (pc := 48) dX11_seen_48 rfl ?_
  refine g_getfield (pc := 49) f_X11_119_11 dX11_seen_49 hI.1 mf_5 ?_
  refine g_if_ne (pc := 52) 169 dX11_seen_52 (by decide) (fun c_52 => ?_) (fun c_52 => absurd c_52 (by rw [sv_nj (by decide)]; exact fs.ne))
  refine g_aload_n (pc := 169) dX11_seen_169 rfl ?_
  refine g_getfield (pc := 170) f_X11_119_11 dX11_seen_170 hI.1 mf_5 ?_
  refine g_if_eq (pc := 173) 181 dX11_seen_173 (by decide) (fun c_173 => absurd c_173 (by rw [sv_nj (by decide)]; exact fs.ne)) (fun c_173 => ?_)
  refine g_aload_n (pc := 176) dX11_seen_176 rfl ?_
  refine m_cV (pc := 177) (M' := mX11_ends) (as := []) i_X11_193_11 eX11_ends hI dX11_seen_177 (c_ends hI) (by omega) rfl rfl (Nat.le_of_ble_eq_true rfl) (fun h hI fr => ?_)
  replace hF := mFr.tr hF fr
  refine g_ireturn (pc := 180) dX11_seen_180 rfl (by first | exact rfl | exact j_nb _) ?_
  refine ⟨_, hI, hF, ?_, ?_⟩
  · rw [sv_nj (by decide), fs.1]
  · rw [sv_nj (by decide), fs.2.1]
    exact ((hB.rd fs.2.2.2.1).rd rdE.rf.a4).flt
set_option maxHeartbeats 1000000 in
theorem l_sf117 {bc bs kk pp : Nat} {V1 V2 : mV} {h0 : jH} {w x y : Int32} {z4 z5 : Int32} {u6 : Option jV} (hd : 3 ≤ d) (hI : InvM am V2 h) (hF : mFr h0 h) (hB : hoB V V1) (fs : FS t n V1 V2 kk pp) : G E d bc bs mX11_seen 117 [some (vR (nMo am)), some (vI w), some (vI x), some (vI y), some (vI z4), some (vI z5), u6] [vI 0] h (seQ am V h0 nR (.inl (kk, pp))) := by
  obtain ⟨b, hpb⟩ := fs.2.2.2.2
  refine g_istore (pc := 117) (ls' := [_, _, _, _, _, _, _]) dX11_seen_117 (by decide) rfl rfl ?_
  refine g_aload_n (pc := 119) dX11_seen_119 rfl ?_
  refine g_bipush (pc := 120) (v := 59) dX11_seen_120 (by decide) ?_
  refine m_cVv (pc := 122) (M' := mX11_sign) (as := [_]) i_X11_179_11 eX11_sign hI dX11_seen_122 (c_sign1 hI fs.ne _) (by omega) rfl rfl (Nat.le_of_ble_eq_true rfl) (fun h hI fr => ?_)
  replace hF := mFr.tr hF fr
  refine g_aload_n (pc := 125) dX11_seen_125 rfl ?_
  refine g_getfield (pc := 126) f_X11_119_11 dX11_seen_126 hI.1 mf_5 ?_
  refine g_if_ne (pc := 129) 162 dX11_seen_129 (by decide) (fun c_129 => ?_) (fun c_129 => absurd c_129 fs.ne)
  refine g_aload_n (pc := 162) dX11_seen_162 rfl ?_
  refine m_cVv (pc := 163) (M' := mX11_blanks) (as := []) i_X11_125_11 eX11_blanks hI dX11_seen_163 (cP_blanks (by omega) hI hpb) (by omega) rfl rfl (Nat.le_of_ble_eq_true rfl) (fun h hI fr => ?_)
  replace hF := mFr.tr hF fr
  refine g_goto (pc := 166) 48 dX11_seen_166 (by decide) ?_
  refine g_aload_n (pc := 48) dX11_seen_48 rfl ?_
  refine g_getfield (pc := 49) f_X11_119_11 dX11_seen_49 hI.1 mf_5 ?_
  refine g_if_ne (pc := 52) 169 dX11_seen_52 (by decide) (fun c_52 => ?_) (fun c_52 => absurd c_52 (by rw [sv_nj (by decide)]; exact fs.ne))
  refine g_aload_n (pc := 169) dX11_seen_169 rfl ?_
  refine g_getfield (pc := 170) f_X11_119_11 dX11_seen_170 hI.1 mf_5 ?_
  refine g_if_eq (pc := 173) 181 dX11_seen_173 (by decide) (fun c_173 => absurd c_173 (by rw [sv_nj (by decide)]; exact fs.ne)) (fun c_173 => ?_)
  refine g_aload_n (pc := 176) dX11_seen_176 rfl ?_
  refine m_cV (pc := 177) (M' := mX11_ends) (as := []) i_X11_193_11 eX11_ends hI dX11_seen_177 (c_ends hI) (by omega) rfl rfl (Nat.le_of_ble_eq_true rfl) (fun h hI fr => ?_)
  replace hF := mFr.tr hF fr
  refine g_ireturn (pc := 180) dX11_seen_180 rfl (by first | exact rfl | exact j_nb _) ?_
  refine ⟨_, hI, hF, ?_, ?_⟩
  · rw [sv_nj (by decide), fs.1]
  · rw [sv_nj (by decide), fs.2.1]
    exact ((hB.rd fs.2.2.2.1).rd rdE.rf.a4).flt
set_option maxHeartbeats 1000000 in
theorem l_sf125 {bc bs kk pp : Nat} {V1 V2 : mV} {h0 : jH} {w x y : Int32} {z4 z5 : Int32} {u6 : Option jV} (hd : 3 ≤ d) (hI : InvM am V2 h) (hF : mFr h0 h) (hB : hoB V V1) (fs : FS t n V1 V2 kk pp) : G E d bc bs mX11_seen 125 [some (vR (nMo am)), some (vI w), some (vI x), some (vI y), some (vI z4), some (vI z5), u6] [] h (seQ am V h0 nR (.inl (kk, pp))) := by
  obtain ⟨b, hpb⟩ := fs.2.2.2.2
  refine g_aload_n (pc := 125) dX11_seen_125 rfl ?_
  refine g_getfield (pc := 126) f_X11_119_11 dX11_seen_126 hI.1 mf_5 ?_
  refine g_if_ne (pc := 129) 162 dX11_seen_129 (by decide) (fun c_129 => ?_) (fun c_129 => absurd c_129 fs.ne)
  refine g_aload_n (pc := 162) dX11_seen_162 rfl ?_
  refine m_cVv (pc := 163) (M' := mX11_blanks) (as := []) i_X11_125_11 eX11_blanks hI dX11_seen_163 (cP_blanks (by omega) hI hpb) (by omega) rfl rfl (Nat.le_of_ble_eq_true rfl) (fun h hI fr => ?_)
  replace hF := mFr.tr hF fr
  refine g_goto (pc := 166) 48 dX11_seen_166 (by decide) ?_
  refine g_aload_n (pc := 48) dX11_seen_48 rfl ?_
  refine g_getfield (pc := 49) f_X11_119_11 dX11_seen_49 hI.1 mf_5 ?_
  refine g_if_ne (pc := 52) 169 dX11_seen_52 (by decide) (fun c_52 => ?_) (fun c_52 => absurd c_52 (by rw [sv_nj (by decide)]; exact fs.ne))
  refine g_aload_n (pc := 169) dX11_seen_169 rfl ?_
  refine g_getfield (pc := 170) f_X11_119_11 dX11_seen_170 hI.1 mf_5 ?_
  refine g_if_eq (pc := 173) 181 dX11_seen_173 (by decide) (fun c_173 => absurd c_173 (by rw [sv_nj (by decide)]; exact fs.ne)) (fun c_173 => ?_)
  refine g_aload_n (pc := 176) dX11_seen_176 rfl ?_
  refine m_cV (pc := 177) (M' := mX11_ends) (as := []) i_X11_193_11 eX11_ends hI dX11_seen_177 (c_ends hI) (by omega) rfl rfl (Nat.le_of_ble_eq_true rfl) (fun h hI fr => ?_)
  replace hF := mFr.tr hF fr
  refine g_ireturn (pc := 180) dX11_seen_180 rfl (by first | exact rfl | exact j_nb _) ?_
  refine ⟨_, hI, hF, ?_, ?_⟩
  · rw [sv_nj (by decide), fs.1]
  · rw [sv_nj (by decide), fs.2.1]
    exact ((hB.rd fs.2.2.2.1).rd rdE.rf.a4).flt
theorem sg_cases' {V0 V : mV} {t : Nat → Nat} {n a : Nat} {c : Int32} (hc : ¬ c = -1) (hp : PS V t n a) (hf : V 0 5 = 0) (rd : rdE V0 V) {P : Prop} (h1 : sgP t n c a = .inl (1, bl t n a) → ¬ sgI t n a = c → FS t n V0 (sv (sv (sv V 0 4 (nI (bl t n a))) 0 5 1) 0 6 (nI (bl t n a))) 1 (bl t n a) → P) (h2 : sgP t n c a = .inr (bl t n a + 1, ()) → sgI t n a = c → PS (sv V 0 4 (nI (bl t n a + 1))) t n (bl t n a + 1) → sv V 0 4 (nI (bl t n a + 1)) 0 5 = 0 → rdE V0 (sv V 0 4 (nI (bl t n a + 1))) → bl t n a < n → P) : P := by
  have hb := bl_le (t := t) hp.2.2.2.2
  by_cases q : sgI t n a = c
  · have := sg_lt hc q
    exact h2 (by unfold sgP; rw [if_pos q]) q (hp.at (by omega)) ((sv_nj (by decide)).trans hf) rd.a4 this
  · exact h1 (by unfold sgP; rw [if_neg q]) q ⟨by rw [sv_nj (by decide), sv_same]; rfl, sv_same, by decide, rd.a4.a5.a6, _, ((hp.at hb.2).out (by decide) (fun _ => by decide)).out (by decide) (fun _ => by decide)⟩
set_option maxHeartbeats 8000000 in
theorem l_seen {bc bs : Nat} {h0 : jH} {w : Int32} (hd : 4 ≤ d) (hn60 : n ≤ 60) (hT : MT V D nS nR nP) : ∀ (m : Nat) (L : List (Nat × Nat)) (a : Nat) (V' : mV) (h : jH) (u4 u5 u6 : Option jV), n - a ≤ m → bl t n a = a → InvM am V' h → mFr h0 h → PS V' t n a → V' 0 5 = 0 → hoB V V' → SR V' L → okS nR L → G E d bc bs mX11_seen 48 [some (vR (nMo am)), some (vI w), some (vI (nI L.length)), some (vI (snB L)), u4, u5, u6] [] h (seQ am V h0 nR (snP t n nR m L a)) := by
  have b10 := hT.2.2.2.2.1
  intro m
  induction m with
  | zero =>
    intro L a V' h u4 u5 u6 hm hb hI hF hp hf hB hS hok
    have han : a = n := by have := hp.2.2.2.2; omega
    have hrl := hok.len
    refine g_aload_n (pc := 48) dX11_seen_48 rfl ?_
    refine g_getfield (pc := 49) f_X11_119_11 dX11_seen_49 hI.1 mf_5 ?_
    refine g_if_ne (pc := 52) 169 dX11_seen_52 (by decide) (fun c_52 => absurd hf c_52) (fun c_52 => ?_)
    refine g_aload_n (pc := 55) dX11_seen_55 rfl ?_
    refine g_getfield (pc := 56) f_X11_112_11 dX11_seen_56 hI.1 mf_4 ?_
    rw [hp.2.2.2.1]
    refine g_aload_n (pc := 59) dX11_seen_59 rfl ?_
    refine g_getfield (pc := 60) f_X11_109_11 dX11_seen_60 hI.1 mf_2 ?_
    rw [hp.2.1]
    refine g_icmp_ge (pc := 63) 169 dX11_seen_63 (by decide) (fun c_63 => ?_) (fun c_63 => absurd (by rw [han]; exact nI_le (Nat.le_refl _) (by omega)) c_63)
    refine g_aload_n (pc := 169) dX11_seen_169 rfl ?_
    refine g_getfield (pc := 170) f_X11_119_11 dX11_seen_170 hI.1 mf_5 ?_
    refine g_if_eq (pc := 173) 181 dX11_seen_173 (by decide) (fun c_173 => ?_) (fun c_173 => absurd hf c_173)
    refine g_aload_n (pc := 181) dX11_seen_181 rfl ?_
    refine g_iconst (pc := 182) (v := -1) dX11_seen_182 (by decide) ?_
    refine m_put (pc := 183) hI w_X11_9_11 rfl (by decide) dX11_seen_183 (fun h hI fr => ?_)
    replace hF := mFr.tr hF fr
    refine g_aload_n (pc := 186) dX11_seen_186 rfl ?_
    refine g_iload_n (pc := 187) dX11_seen_187 rfl ?_
    refine m_put (pc := 188) hI w_X11_203_11 rfl (by decide) dX11_seen_188 (fun h hI fr => ?_)
    replace hF := mFr.tr hF fr
    refine g_aload_n (pc := 191) dX11_seen_191 rfl ?_
    refine g_getfield (pc := 192) f_X11_61_11 dX11_seen_192 hI.1 mf_26 ?_
    refine g_aload_n (pc := 195) dX11_seen_195 rfl ?_
    refine g_getfield (pc := 196) f_X11_58_11 dX11_seen_196 hI.1 mf_25 ?_
    refine g_iload_n (pc := 199) dX11_seen_199 rfl ?_
    refine m_cSv (pc := 200) (M' := mX11_lays) (as := [_, _, _]) i_X11_196 eX11_lays dX11_seen_200 (c_lay25 hI L.length (by omega)) (by omega) rfl rfl (Nat.le_of_ble_eq_true rfl) (fun h hI fr => ?_)
    replace hF := mFr.tr hF fr
    refine g_iload_n (pc := 203) dX11_seen_203 rfl ?_
    refine g_ireturn (pc := 204) dX11_seen_204 rfl (by first | exact rfl | exact j_nb _) ?_
    rw [show snP t n nR 0 L a = .inr (a, L) from rfl]
    refine ⟨_, hI, hF, rfl, ?_, hok⟩
    have n0 : ∀ i, layP (sv (sv V' 0 3 (-1)) 0 35 (nI L.length)) 26 25 2 L.length 0 0 i = sv (sv V' 0 3 (-1)) 0 35 (nI L.length) 0 i := fun i => congrFun (layP_a (by omega)) i
    refine ⟨?_, ?_, ?_, ?_, fun i hi => ?_, fun r j a b e => ?_⟩
    · rw [n0, sv_nj (by decide), sv_nj (by decide)]; exact hB.1
    · rw [n0, sv_nj (by decide), sv_nj (by decide)]; exact hB.2.1
    · rw [n0, sv_nj (by decide), sv_same]
    · rw [n0, sv_same]
    · have hi : i < L.length := hi
      unfold layP
      rw [if_pos (by omega), if_pos (by omega), Nat.add_sub_cancel_left, sv_ne (by omega), sv_ne (by omega)]
      exact hS i hi
    · unfold layP
      rw [if_neg (by omega), sv_at, if_neg (by omega), sv_at, if_neg (by omega)]
      exact hB.2.2 r j a (by omega)
  | succ m ih =>
    intro L a V' h u4 u5 u6 hm hb hI hF hp hf hB hS hok
    have hrl := hok.len
    have hale := hp.2.2.2.2
    have h12 : V' 12 1 = nI nR := by
      rw [hB.2.2 12 1 (by unfold rdX; omega) (by omega)]
      exact hT.2.1
    refine g_aload_n (pc := 48) dX11_seen_48 rfl ?_
    refine g_getfield (pc := 49) f_X11_119_11 dX11_seen_49 hI.1 mf_5 ?_
    refine g_if_ne (pc := 52) 169 dX11_seen_52 (by decide) (fun c_52 => absurd hf c_52) (fun c_52 => ?_)
    refine g_aload_n (pc := 55) dX11_seen_55 rfl ?_
    refine g_getfield (pc := 56) f_X11_112_11 dX11_seen_56 hI.1 mf_4 ?_
    rw [hp.2.2.2.1]
    refine g_aload_n (pc := 59) dX11_seen_59 rfl ?_
    refine g_getfield (pc := 60) f_X11_109_11 dX11_seen_60 hI.1 mf_2 ?_
    rw [hp.2.1]
    refine g_icmp_ge (pc := 63) 169 dX11_seen_63 (by decide) (fun c_63 => ?_) (fun c_63 => ?_)
    · have hge : ¬ a < n := fun w => absurd c_63 (nI_ge w (by omega))
      refine g_aload_n (pc := 169) dX11_seen_169 rfl ?_
      refine g_getfield (pc := 170) f_X11_119_11 dX11_seen_170 hI.1 mf_5 ?_
      refine g_if_eq (pc := 173) 181 dX11_seen_173 (by decide) (fun c_173 => ?_) (fun c_173 => absurd hf c_173)
      refine g_aload_n (pc := 181) dX11_seen_181 rfl ?_
      refine g_iconst (pc := 182) (v := -1) dX11_seen_182 (by decide) ?_
      refine m_put (pc := 183) hI w_X11_9_11 rfl (by decide) dX11_seen_183 (fun h hI fr => ?_)
      replace hF := mFr.tr hF fr
      refine g_aload_n (pc := 186) dX11_seen_186 rfl ?_
      refine g_iload_n (pc := 187) dX11_seen_187 rfl ?_
      refine m_put (pc := 188) hI w_X11_203_11 rfl (by decide) dX11_seen_188 (fun h hI fr => ?_)
      replace hF := mFr.tr hF fr
      refine g_aload_n (pc := 191) dX11_seen_191 rfl ?_
      refine g_getfield (pc := 192) f_X11_61_11 dX11_seen_192 hI.1 mf_26 ?_
      refine g_aload_n (pc := 195) dX11_seen_195 rfl ?_
      refine g_getfield (pc := 196) f_X11_58_11 dX11_seen_196 hI.1 mf_25 ?_
      refine g_iload_n (pc := 199) dX11_seen_199 rfl ?_
      refine m_cSv (pc := 200) (M' := mX11_lays) (as := [_, _, _]) i_X11_196 eX11_lays dX11_seen_200 (c_lay25 hI L.length (by omega)) (by omega) rfl rfl (Nat.le_of_ble_eq_true rfl) (fun h hI fr => ?_)
      replace hF := mFr.tr hF fr
      refine g_iload_n (pc := 203) dX11_seen_203 rfl ?_
      refine g_ireturn (pc := 204) dX11_seen_204 rfl (by first | exact rfl | exact j_nb _) ?_
      rw [show snP t n nR (m + 1) L a = .inr (a, L) from if_neg hge]
      refine ⟨_, hI, hF, rfl, ?_, hok⟩
      have n0 : ∀ i, layP (sv (sv V' 0 3 (-1)) 0 35 (nI L.length)) 26 25 2 L.length 0 0 i = sv (sv V' 0 3 (-1)) 0 35 (nI L.length) 0 i := fun i => congrFun (layP_a (by omega)) i
      refine ⟨?_, ?_, ?_, ?_, fun i hi => ?_, fun r j a b e => ?_⟩
      · rw [n0, sv_nj (by decide), sv_nj (by decide)]; exact hB.1
      · rw [n0, sv_nj (by decide), sv_nj (by decide)]; exact hB.2.1
      · rw [n0, sv_nj (by decide), sv_same]
      · rw [n0, sv_same]
      · have hi : i < L.length := hi
        unfold layP
        rw [if_pos (by omega), if_pos (by omega), Nat.add_sub_cancel_left, sv_ne (by omega), sv_ne (by omega)]
        exact hS i hi
      · unfold layP
        rw [if_neg (by omega), sv_at, if_neg (by omega), sv_at, if_neg (by omega)]
        exact hB.2.2 r j a (by omega)
    · refine g_aload_n (pc := 66) dX11_seen_66 rfl ?_
      refine g_getfield (pc := 67) f_X11_112_11 dX11_seen_67 hI.1 mf_4 ?_
      rw [hp.2.2.2.1]
      refine g_istore (pc := 70) (ls' := [_, _, _, _, _, _, _]) dX11_seen_70 (by decide) rfl rfl ?_
      refine g_aload_n (pc := 72) dX11_seen_72 rfl ?_
      refine g_iconst (pc := 73) (v := 0) dX11_seen_73 (by decide) ?_
      refine g_aload_n (pc := 74) dX11_seen_74 rfl ?_
      refine g_getfield (pc := 75) f_X11_23_11 dX11_seen_75 hI.1 mf_12 ?_
      refine g_iconst (pc := 78) (v := 1) dX11_seen_78 (by decide) ?_
      refine g_iaload (pc := 79) dX11_seen_79 (mA hI 12 3 rfl (by decide)) (j := 1) (by decide) (by omega) (by decide) rfl ?_
      rw [h12]
      refine g_iconst (pc := 80) (v := 1) dX11_seen_80 (by decide) ?_
      refine g_isub (pc := 81) dX11_seen_81 ?_
      refine m_cV (pc := 82) (M' := mX11_number) (as := [_, _]) i_X11_175_11 eX11_number hI dX11_seen_82 (c_number (by omega) hI hp hf _ _) (by omega) rfl rfl (Nat.le_of_ble_eq_true rfl) (fun h hI fr => ?_)
      replace hF := mFr.tr hF fr
      have hlt : a < n := by
        rcases Nat.lt_or_ge a n with q | q
        · exact q
        · exact absurd (nI_le (a := n) (b := a) q (by omega)) c_63
      rw [show snP t n nR (m + 1) L a = pB (nuP t n 0 (nI nR - 1) a) fun p r => if r ∈ L.map Prod.fst then .inl (2, a) else pB (nuP t n 0 99 p) fun p v => pB (sgP t n 59 p) fun p _ => snP t n nR m (L ++ [(r, v)]) (bl t n p) from if_pos hlt]
      have hB0 : hoB V V' := hB
      refine num_cases (lo := 0) (hi := nI nR - 1) hale hp hf (rdE.rf (V := V')) (fun kk pp ex1 fs ez => ?_) (fun p1 r1 ex1 ev ez hv1 hin1 hpn1 hp3 rd3 hf3 => ?_)
      · rw [ez, ex1]
        refine g_istore (pc := 85) (ls' := [_, _, _, _, _, _, _]) dX11_seen_85 (by decide) rfl rfl ?_
        refine g_aload_n (pc := 87) dX11_seen_87 rfl ?_
        refine g_getfield (pc := 88) f_X11_119_11 dX11_seen_88 hI.1 mf_5 ?_
        refine g_if_ne (pc := 91) 110 dX11_seen_91 (by decide) (fun c_91 => ?_) (fun c_91 => absurd c_91 fs.ne)
        exact l_sf110 (by omega) hI hF hB0 fs
      · rw [ez, ex1]
        rw [ev] at hI
        change G _ _ _ _ _ _ _ _ _ (seQ am V h0 nR (if r1 ∈ L.map Prod.fst then .inl (2, a) else pB (nuP t n 0 99 p1) fun p v => pB (sgP t n 59 p) fun p _ => snP t n nR m (L ++ [(r1, v)]) (bl t n p)))
        have hr1 := inR_m hv1 (by omega) hin1
        have hhas := snB_has (L := L) (r := r1) (fun y hy => by have := (hok.2 y hy).1; omega) (by omega)
        refine g_istore (pc := 85) (ls' := [_, _, _, _, _, _, _]) dX11_seen_85 (by decide) rfl rfl ?_
        refine g_aload_n (pc := 87) dX11_seen_87 rfl ?_
        refine g_getfield (pc := 88) f_X11_119_11 dX11_seen_88 hI.1 mf_5 ?_
        refine g_if_ne (pc := 91) 110 dX11_seen_91 (by decide) (fun c_91 => absurd hf3 c_91) (fun c_91 => ?_)
        refine g_iload_n (pc := 94) dX11_seen_94 rfl ?_
        refine g_iload (pc := 95) dX11_seen_95 rfl ?_
        refine g_cS (pc := 97) (M' := mX11_has) (as := [_, _]) i_X11_263 eX11_has dX11_seen_97 (c_has _ _) (by omega) rfl rfl (Nat.le_of_ble_eq_true rfl) ?_
        rw [hhas]
        refine g_ifB_eq (pc := 100) 110 dX11_seen_100 (by decide) (fun c_100 => ?_) (fun c_100 => ?_)
        · have hnd : ¬ r1 ∈ L.map Prod.fst := of_decide_eq_false c_100
          rw [if_neg hnd]
          refine g_aload_n (pc := 110) dX11_seen_110 rfl ?_
          refine g_iconst (pc := 111) (v := 0) dX11_seen_111 (by decide) ?_
          refine g_bipush (pc := 112) (v := 99) dX11_seen_112 (by decide) ?_
          refine m_cV (pc := 114) (M' := mX11_number) (as := [_, _]) i_X11_175_11 eX11_number hI dX11_seen_114 (c_number (by omega) hI hp3 hf3 _ _) (by omega) rfl rfl (Nat.le_of_ble_eq_true rfl) (fun h hI fr => ?_)
          replace hF := mFr.tr hF fr
          refine num_cases (lo := 0) (hi := 99) hp3.2.2.2.2 hp3 hf3 rd3 (fun kk pp ex2 fs ez => ?_) (fun p2 v1 ex2 ev ez hv2 hin2 hpn2 hp4 rd4 hf4 => ?_)
          · rw [ez, ex2]
            exact l_sf117 (by omega) hI hF hB0 fs
          · rw [ez, ex2]
            rw [ev] at hI
            have hv99 := inR_n hv2 (by decide) (show (99 : Int32) = nI 99 from rfl) hin2
            change G _ _ _ _ _ _ _ _ _ (seQ am V h0 nR (pB (sgP t n 59 p2) fun p _ => snP t n nR m (L ++ [(r1, v1)]) (bl t n p)))
            have hl1 := nuP_lt hale ex1
            have hl2 := nuP_lt hl1.2 ex2
            refine g_istore (pc := 117) (ls' := [_, _, _, _, _, _, _]) dX11_seen_117 (by decide) rfl rfl ?_
            refine g_aload_n (pc := 119) dX11_seen_119 rfl ?_
            refine g_bipush (pc := 120) (v := 59) dX11_seen_120 (by decide) ?_
            refine m_cVv (pc := 122) (M' := mX11_sign) (as := [_]) i_X11_179_11 eX11_sign hI dX11_seen_122 (c_sign (by omega) hI hp4 hf4 59) (by omega) rfl rfl (Nat.le_of_ble_eq_true rfl) (fun h hI fr => ?_)
            replace hF := mFr.tr hF fr
            refine sg_cases' (c := 59) (by decide) hp4 hf4 rd4 (fun e3 ny fs => ?_) (fun e3 y hp5 hf5 rd5 hlt5 => ?_)
            · rw [if_neg ny] at hI
              rw [e3]
              exact l_sf125 (by omega) hI hF hB0 fs
            · rw [if_pos y] at hI
              rw [e3]
              change G _ _ _ _ _ _ _ _ _ (seQ am V h0 nR (snP t n nR m (L ++ [(r1, v1)]) (bl t n (bl t n p2 + 1))))
              have hb5 := bl_le (t := t) hp5.2.2.2.2
              have hrl2 := (hok.add hnd hr1 hv99).len
              rw [List.length_append, List.length_singleton] at hrl2
              refine g_aload_n (pc := 125) dX11_seen_125 rfl ?_
              refine g_getfield (pc := 126) f_X11_119_11 dX11_seen_126 hI.1 mf_5 ?_
              refine g_if_ne (pc := 129) 162 dX11_seen_129 (by decide) (fun c_129 => absurd hf5 c_129) (fun c_129 => ?_)
              refine g_iload_n (pc := 132) dX11_seen_132 rfl ?_
              refine g_iconst (pc := 133) (v := 1) dX11_seen_133 (by decide) ?_
              refine g_iload (pc := 134) dX11_seen_134 rfl ?_
              refine g_ishl (pc := 136) dX11_seen_136 ?_
              
              refine g_ior (pc := 137) dX11_seen_137 ?_
              refine g_istore_n (pc := 138) (ls' := [_, _, _, _, _, _, _]) dX11_seen_138 (by decide) rfl rfl ?_
              refine g_aload_n (pc := 139) dX11_seen_139 rfl ?_
              refine g_getfield (pc := 140) f_X11_61_11 dX11_seen_140 hI.1 mf_26 ?_
              refine g_iload_n (pc := 143) dX11_seen_143 rfl ?_
              refine g_aaload (pc := 144) (t := 5) rfl rfl dX11_seen_144 (mG hI 26 10 rfl (by decide)) (j := L.length) rfl (by omega) (by decide) rfl ?_
              refine g_iconst (pc := 145) (v := 0) dX11_seen_145 (by decide) ?_
              refine g_iload (pc := 146) dX11_seen_146 rfl ?_
              
              refine m_rast (pc := 148) (k := 26) (n := 2) hI rfl (by show _ < 10; omega) dX11_seen_148 (j := 0) (by decide) (by omega) (by decide) (fun h hI fr => ?_)
              replace hF := mFr.tr hF fr
              refine g_aload_n (pc := 149) dX11_seen_149 rfl ?_
              refine g_getfield (pc := 150) f_X11_61_11 dX11_seen_150 hI.1 mf_26 ?_
              refine g_iload_n (pc := 153) dX11_seen_153 rfl ?_
              refine g_aaload (pc := 154) (t := 5) rfl rfl dX11_seen_154 (mG hI 26 10 rfl (by decide)) (j := L.length) rfl (by omega) (by decide) rfl ?_
              refine g_iconst (pc := 155) (v := 1) dX11_seen_155 (by decide) ?_
              refine g_iload (pc := 156) dX11_seen_156 rfl ?_
              refine m_rast (pc := 158) (k := 26) (n := 2) hI rfl (by show _ < 10; omega) dX11_seen_158 (j := 1) (by decide) (by omega) (by decide) (fun h hI fr => ?_)
              replace hF := mFr.tr hF fr
              refine g_iinc (pc := 159) (ls' := [_, _, _, _, _, _, _]) dX11_seen_159 rfl (by first | exact nI_1 _ | exact rfl) (by decide) rfl rfl ?_
              have hp6 := (hp5.out (r := 1000 * 26 + L.length) (j := 0) (y := nI r1) (by omega) (fun e => by omega)).out (r := 1000 * 26 + L.length) (j := 1) (y := nI v1) (by omega) (fun e => by omega)
              refine g_aload_n (pc := 162) dX11_seen_162 rfl ?_
              refine m_cVv (pc := 163) (M' := mX11_blanks) (as := []) i_X11_125_11 eX11_blanks hI dX11_seen_163 (cP_blanks (by omega) hI hp6) (by omega) rfl rfl (Nat.le_of_ble_eq_true rfl) (fun h hI fr => ?_)
              replace hF := mFr.tr hF fr
              refine g_goto (pc := 166) 48 dX11_seen_166 (by decide) ?_
              have eL : (L ++ [(r1, v1)]).length = L.length + 1 := by simp
              have eB : snB (L ++ [(r1, v1)]) = snB L ||| bitI r1 := snB_s (fun y hy => by have := (hok.2 y hy).1; omega) (show r1 < 32 by omega)
              have q := ih (L ++ [(r1, v1)]) (bl t n (bl t n p2 + 1)) _ h (some (vI (nI a))) (some (vI (nI r1))) (some (vI (nI v1))) (by have := bl_ge (t := t) (n := n) (a := bl t n p2 + 1); have := bl_ge (t := t) (n := n) (a := p2); omega) bl_bl hI hF (hp6.at hb5.2) ?_ ?_ ?_ (hok.add hnd hr1 hv99)
              · rw [eL, eB] at q
                exact q
              · rw [sv_nj (by decide), sv_ne (by omega), sv_ne (by omega)]
                exact hf5
              · exact hB0.rd (((rd5.svv (rdX26 (by omega))).svv (rdX26 (by omega))).a4)
              · intro k hk
                rw [sv_ne (by omega)]
                by_cases w : k = L.length
                · subst w
                  rw [sv_nj (by decide), sv_same, sv_same]
                  simp [List.getD]
                · have hk2 : k < L.length := by omega
                  have e2 : (L ++ [(r1, v1)]).getD k (0, 0) = L.getD k (0, 0) := by simp [List.getD, List.getElem?_append_left hk2]
                  rw [e2, sv_ne (by omega), sv_ne (by omega)]
                  rw [sv_ne (by omega), sv_ne (by omega), sv_ne (by omega)]
                  exact hS k hk2
        · refine g_aload_n (pc := 103) dX11_seen_103 rfl ?_
          refine g_iconst (pc := 104) (v := 2) dX11_seen_104 (by decide) ?_
          refine g_iload (pc := 105) dX11_seen_105 rfl ?_
          refine m_cVv (pc := 107) (M' := mX11_wrong) (as := [_, _]) i_X11_132_11 eX11_wrong hI dX11_seen_107 (c_wrong hI _ _) (by omega) rfl rfl (Nat.le_of_ble_eq_true rfl) (fun h hI fr => ?_)
          replace hF := mFr.tr hF fr
          rw [mWrong_0 hf3] at hI
          rw [if_pos (of_decide_eq_true c_100)]
          exact l_sf110 (by omega) hI hF hB0 ⟨by rw [sv_nj (by decide), sv_same]; rfl, sv_same, by decide, rd3.a5.a6, _, (hp3.out (by decide) (fun _ => by decide)).out (by decide) (fun _ => by decide)⟩
set_option maxHeartbeats 2000000 in
theorem c_mseen (hd : 6 ≤ d) (hI : InvM am V h) (hT : TX V t) (hM : MT V D nS nR nP) (n T : Nat) (h1 : V 0 1 = nI T) (hT6 : T ≤ 600) (hn : n ≤ T) (hn2 : n ≤ 60) : Ct E d 0 0 mX11_seen [vR (nMo am), vI (nI n)] h (seQ am V h nR (snP t n nR n [] (bl t n 0))) := by
  refine ct_of (by decide) (Nat.le_of_ble_eq_true rfl) rfl ?_
  have hF : mFr h h := mFr.rf
  have hv : inR (nI n) 0 (V 0 1) = true := by rw [h1]; exact inC_of hn (by omega)
  have hT0 : TX (thr0 V) t := hT.sv (by decide)
  have hb0 := bl_le (t := t) (n := n) (Nat.zero_le n)
  refine g_aload_n (pc := 0) dX11_seen_0 rfl ?_
  refine g_iconst (pc := 1) (v := 0) dX11_seen_1 (by decide) ?_
  refine m_put (pc := 2) hI w_X11_103_11 rfl (by decide) dX11_seen_2 (fun h hI fr => ?_)
  replace hF := mFr.tr hF fr
  change InvM am (thr0 V) h at hI
  refine g_aload_n (pc := 5) dX11_seen_5 rfl ?_
  refine g_iload_n (pc := 6) dX11_seen_6 rfl ?_
  refine g_iconst (pc := 7) (v := 0) dX11_seen_7 (by decide) ?_
  refine g_aload_n (pc := 8) dX11_seen_8 rfl ?_
  refine g_getfield (pc := 9) f_X11_106_11 dX11_seen_9 hI.1 mf_1 ?_
  rw [show thr0 V 0 1 = V 0 1 from sv_nj (by decide)]
  refine g_cS (pc := 12) (M' := mX11_in) (as := [_, _, _]) i_X11_137 eX11_in dX11_seen_12 (c_in _ _ _) (by omega) rfl rfl (Nat.le_of_ble_eq_true rfl) ?_
  refine g_ifB_eq (pc := 15) 24 dX11_seen_15 (by decide) (fun c_15 => absurd (hv.symm.trans c_15) (by decide)) (fun c_15 => ?_)
  refine g_iload_n (pc := 18) dX11_seen_18 rfl ?_
  refine g_bipush (pc := 19) (v := 60) dX11_seen_19 (by decide) ?_
  refine g_icmp_le (pc := 21) 28 dX11_seen_21 (by decide) (fun c_21 => ?_) (fun c_21 => absurd (nI_le (b := 60) hn2 (by decide)) c_21)
  refine g_iconst (pc := 28) (v := 0) dX11_seen_28 (by decide) ?_
  refine g_iconst (pc := 29) (v := 1) dX11_seen_29 (by decide) ?_
  refine g_iconst (pc := 30) (v := 1) dX11_seen_30 (by decide) ?_
  refine m_cV (pc := 31) (M' := mX11_bad) (as := [_, _, _]) i_X11_183_11 eX11_bad hI dX11_seen_31 (c_badF hI thr0_0 1 1 (by decide)) (by omega) rfl rfl (Nat.le_of_ble_eq_true rfl) (fun h hI fr => ?_)
  replace hF := mFr.tr hF fr
  refine g_ifB_eq (pc := 34) 39 dX11_seen_34 (by decide) (fun c_34 => ?_) (fun c_34 => absurd c_34 (by decide))
  refine g_aload_n (pc := 39) dX11_seen_39 rfl ?_
  refine g_iload_n (pc := 40) dX11_seen_40 rfl ?_
  refine m_cVv (pc := 41) (M' := mX11_starts) (as := [_]) i_X11_187_11 eX11_starts hI dX11_seen_41 (c_starts (by omega) hI hT0 (by omega)) (by omega) rfl rfl (Nat.le_of_ble_eq_true rfl) (fun h hI fr => ?_)
  replace hF := mFr.tr hF fr
  refine g_iconst (pc := 44) (v := 0) dX11_seen_44 (by decide) ?_
  refine g_istore_n (pc := 45) (ls' := [_, _, _, _, _, _, _]) dX11_seen_45 (by decide) rfl rfl ?_
  refine g_iconst (pc := 46) (v := 0) dX11_seen_46 (by decide) ?_
  refine g_istore_n (pc := 47) (ls' := [_, _, _, _, _, _, _]) dX11_seen_47 (by decide) rfl rfl ?_
  have hp0 := (stV_PS (V := thr0 V) (t := t) (n := n) hT0 (by omega)).at hb0.2
  refine l_seen (by omega) hn2 hM n [] (bl t n 0) _ h _ _ _ (by omega) bl_bl hI hF hp0 ?_ ?_ (fun k hk => absurd hk (Nat.not_lt_zero k)) ⟨List.nodup_nil, fun x hx => by cases hx⟩
  · rw [sv_nj (by decide)]
    unfold stV
    rw [sv_nj (by decide), sv_nj (by decide), sv_nj (by decide), sv_same]
  · refine ⟨?_, ?_, fun r j a b => ?_⟩
    · rw [sv_nj (by decide)]
      unfold stV
      rw [sv_nj (by decide), sv_nj (by decide), sv_nj (by decide), sv_nj (by decide), sv_nj (by decide), sv_nj (by decide), sv_nj (by decide)]
      exact thr0_0
    · rw [sv_nj (by decide)]
      unfold stV
      rw [sv_nj (by decide), sv_nj (by decide), sv_nj (by decide), sv_nj (by decide), sv_nj (by decide), sv_nj (by decide), sv_same]
    · unfold rdX at a
      unfold stV thr0
      repeat rw [sv_at, if_neg (by omega)]
end
