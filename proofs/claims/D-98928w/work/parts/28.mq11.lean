/-! THE REFERENCE: images, undo, feed. Printed by m_q11.py -/
set_option maxRecDepth 100000
/-- an image: the works, the row that is, the rows before -/
def imgR (V : mV) (j : Nat) : Int32 := if j = 0 then V 0 36 else if j < 46 then V 31 (j - 1) else V (1000 * 33 + (j - 46) / 45) ((j - 46) % 45)
/-- image i written up to s -/
def imF (V : mV) (i s : Nat) : mV := fun r q => if r = 1000 * 34 + i ∧ q < s then imgR V q else V r q
/-- given back out of K up to s -/
def rsF (V : mV) (K : Nat → Int32) (s : Nat) : mV := fun r q => if r = 31 ∧ q < 45 ∧ 1 + q < s then K (1 + q) else if 33000 ≤ r ∧ r < 33016 ∧ q < 45 ∧ 46 + 45 * (r - 33000) + q < s then K (46 + 45 * (r - 33000) + q) else V r q
theorem sv_at {V : mV} {r j q x : Nat} {y : Int32} : sv V r j y q x = if q = r ∧ x = j then y else V q x := by
  unfold sv j_up
  by_cases e : q = r
  · subst e
    rw [if_pos rfl]
    by_cases f : x = j
    · rw [if_pos f, if_pos ⟨rfl, f⟩]
    · rw [if_neg f, if_neg (fun w => f w.2)]
  · rw [if_neg e, if_neg (fun w => e w.1)]
theorem imF_s {V : mV} {i s : Nat} : sv (imF V i s) (1000 * 34 + i) s (imgR V s) = imF V i (s + 1) := by
  funext r q
  rw [sv_at]
  unfold imF
  by_cases e : r = 1000 * 34 + i ∧ q = s
  · obtain ⟨e1, e2⟩ := e
    subst e1; subst e2
    rw [if_pos ⟨rfl, rfl⟩, if_pos ⟨rfl, by omega⟩]
  · rw [if_neg e]
    by_cases f : r = 1000 * 34 + i ∧ q < s
    · rw [if_pos f, if_pos ⟨f.1, by omega⟩]
    · rw [if_neg f, if_neg (fun w => by omega)]
theorem imF_0 {V : mV} {i : Nat} : imF V i 0 = V := by
  funext r q
  unfold imF
  rw [if_neg (fun w => by omega)]
theorem imF_ne {V : mV} {i s r : Nat} (h : r ≠ 1000 * 34 + i) : imF V i s r = V r := by
  funext q
  unfold imF
  rw [if_neg (fun w => h w.1)]
theorem rsF_0 {V : mV} {K : Nat → Int32} : rsF V K 1 = V := by
  funext r q
  unfold rsF
  rw [if_neg (fun w => by omega), if_neg (fun w => by omega)]
theorem rsF_n {V : mV} {K : Nat → Int32} {k : Nat} (hk : k < 45) : sv (rsF V K (1 + k)) 31 k (K (1 + k)) = rsF V K (1 + (k + 1)) := by
  funext r q
  rw [sv_at]
  unfold rsF
  repeat' split
  all_goals first | (exfalso; omega) | exact congrArg K (by omega) | rfl
theorem rsF_b {V : mV} {K : Nat → Int32} {w k : Nat} (hw : w < 16) (hk : k < 45) : sv (rsF V K (46 + 45 * w + k)) (1000 * 33 + w) k (K (46 + 45 * w + k)) = rsF V K (46 + 45 * w + (k + 1)) := by
  funext r q
  rw [sv_at]
  unfold rsF
  repeat' split
  all_goals first | (exfalso; omega) | exact congrArg K (by omega) | rfl
theorem rsF_f0 {V : mV} {K : Nat → Int32} {s j : Nat} {y : Int32} : sv (rsF V K s) 0 j y = rsF (sv V 0 j y) K s := by
  funext r q
  rw [sv_at]
  unfold rsF
  rw [sv_at]
  by_cases e : r = 0 ∧ q = j
  · rw [if_pos e, if_neg (fun w => by omega), if_neg (fun w => by omega), if_pos e]
  · rw [if_neg e, if_neg e]
theorem rsF_34 {V : mV} {K : Nat → Int32} {s i : Nat} : rsF V K s (1000 * 34 + i) = V (1000 * 34 + i) := by
  funext q
  unfold rsF
  rw [if_neg (fun w => by omega), if_neg (fun w => by omega)]
theorem img_n {V : mV} {k : Nat} (hk : k < 45) : imgR V (1 + k) = V 31 k := by
  unfold imgR
  rw [if_neg (by omega), if_pos (by omega), Nat.add_sub_cancel_left]
theorem img_b {V : mV} {w k : Nat} (hk : k < 45) : imgR V (46 + 45 * w + k) = V (1000 * 33 + w) k := by
  unfold imgR
  rw [if_neg (by omega), if_neg (by omega)]
  congr 1
  · omega
  · omega
def spV (V : mV) (s : Nat) : mV := sv V 0 39 (nI s)
theorem spV_at {V : mV} {s : Nat} : spV V s 0 39 = nI s := sv_same
theorem spV_ne {V : mV} {s r : Nat} (h : r ≠ 0) : spV V s r = V r := sv_ne h
theorem spV_sp {V : mV} {s s' : Nat} : sv (spV V s) 0 39 (nI s') = spV V s' := sv_sv
theorem spV_sv {V : mV} {s r j : Nat} {y : Int32} (h : r ≠ 0) : sv (spV V s) r j y = spV (sv V r j y) s := sv_cm (Or.inl (fun e => h e.symm))
section
variable {E : jE} {d : Nat} {h : jH} {am : Nat → Nat} {V : mV} {D : Nat → Nat → Nat} {nS nR nP nL k : Nat}
set_option maxHeartbeats 1000000 in
theorem c_puts0 (i s : Nat) (hI : InvM am (spV V s) h) (hi : i < 3) (hs : s < 766) (v : Int32) : Ct E d 0 0 mX11_puts [vR (nMo am), vR (nMr am 34 i), vI v, vI (bI false)] h (mQ am (spV (sv V (1000 * 34 + i) s v) (s + 1)) h (some (vI v))) := by
  refine ct_of (by decide) (Nat.le_of_ble_eq_true rfl) rfl ?_
  have hF : mFr h h := mFr.rf
  refine g_iload_n (pc := 0) dX11_puts_0 rfl ?_
  refine g_ifB_ne (pc := 1) 11 dX11_puts_1 (by decide) (fun c_1 => absurd c_1 (by decide)) (fun c_1 => ?_)
  refine g_aload_n (pc := 4) dX11_puts_4 rfl ?_
  refine g_aload_n (pc := 5) dX11_puts_5 rfl ?_
  refine g_getfield (pc := 6) f_X11_404_11 dX11_puts_6 hI.1 mf_39 ?_
  rw [spV_at]
  refine g_iload_n (pc := 9) dX11_puts_9 rfl ?_
  refine m_rast (pc := 10) (k := 34) (n := 766) hI rfl (by show _ < 3; omega) dX11_puts_10 (j := s) rfl (by omega) (by decide) (fun h hI fr => ?_)
  replace hF := mFr.tr hF fr
  refine g_aload_n (pc := 11) dX11_puts_11 rfl ?_
  refine g_dup (pc := 12) dX11_puts_12 rfl ?_
  refine g_getfield (pc := 13) f_X11_404_11 dX11_puts_13 hI.1 mf_39 ?_
  rw [sv_ne (show 0 ≠ 1000 * 34 + i by omega), spV_at]
  refine g_iconst (pc := 16) (v := 1) dX11_puts_16 (by decide) ?_
  refine g_iadd (pc := 17) dX11_puts_17 ?_
  rw [nI_1]
  refine m_put (pc := 18) hI w_X11_404_11 rfl (by decide) dX11_puts_18 (fun h hI fr => ?_)
  replace hF := mFr.tr hF fr
  refine g_aload_n (pc := 21) dX11_puts_21 rfl ?_
  refine g_aload_n (pc := 22) dX11_puts_22 rfl ?_
  refine g_getfield (pc := 23) f_X11_404_11 dX11_puts_23 hI.1 mf_39 ?_
  rw [sv_same]
  refine g_iconst (pc := 26) (v := 1) dX11_puts_26 (by decide) ?_
  refine g_isub (pc := 27) dX11_puts_27 ?_
  rw [nI_pred]
  refine g_iaload (pc := 28) dX11_puts_28 (mR hI 34 766 _ rfl (by show _ < 3; omega)) (j := s) rfl (by omega) (by decide) rfl ?_
  refine g_ireturn (pc := 29) dX11_puts_29 rfl (by first | exact rfl | exact j_nb _) ?_
  refine ⟨?_, ?_, hF⟩
  · rw [sv_ne (show 1000 * 34 + i ≠ 0 by omega), sv_same]
  · rw [spV_sv (by omega), spV_sp] at hI
    exact hI
set_option maxHeartbeats 1000000 in
theorem c_puts1 (i s : Nat) (hI : InvM am (spV V s) h) (hi : i < 3) (hs : s < 766) (v : Int32) : Ct E d 0 0 mX11_puts [vR (nMo am), vR (nMr am 34 i), vI v, vI (bI true)] h (mQ am (spV V (s + 1)) h (some (vI (V (1000 * 34 + i) s)))) := by
  refine ct_of (by decide) (Nat.le_of_ble_eq_true rfl) rfl ?_
  have hF : mFr h h := mFr.rf
  refine g_iload_n (pc := 0) dX11_puts_0 rfl ?_
  refine g_ifB_ne (pc := 1) 11 dX11_puts_1 (by decide) (fun c_1 => ?_) (fun c_1 => absurd c_1 (by decide))
  refine g_aload_n (pc := 11) dX11_puts_11 rfl ?_
  refine g_dup (pc := 12) dX11_puts_12 rfl ?_
  refine g_getfield (pc := 13) f_X11_404_11 dX11_puts_13 hI.1 mf_39 ?_
  rw [spV_at]
  refine g_iconst (pc := 16) (v := 1) dX11_puts_16 (by decide) ?_
  refine g_iadd (pc := 17) dX11_puts_17 ?_
  rw [nI_1]
  refine m_put (pc := 18) hI w_X11_404_11 rfl (by decide) dX11_puts_18 (fun h hI fr => ?_)
  replace hF := mFr.tr hF fr
  refine g_aload_n (pc := 21) dX11_puts_21 rfl ?_
  refine g_aload_n (pc := 22) dX11_puts_22 rfl ?_
  refine g_getfield (pc := 23) f_X11_404_11 dX11_puts_23 hI.1 mf_39 ?_
  rw [sv_same]
  refine g_iconst (pc := 26) (v := 1) dX11_puts_26 (by decide) ?_
  refine g_isub (pc := 27) dX11_puts_27 ?_
  rw [nI_pred]
  refine g_iaload (pc := 28) dX11_puts_28 (mR hI 34 766 _ rfl (by show _ < 3; omega)) (j := s) rfl (by omega) (by decide) rfl ?_
  refine g_ireturn (pc := 29) dX11_puts_29 rfl (by first | exact rfl | exact j_nb _) ?_
  refine ⟨?_, ?_, hF⟩
  · rw [spV_sp, spV_ne (by omega)]
  · rw [spV_sp] at hI
    exact hI
set_option maxHeartbeats 2000000 in
theorem l_i1 {bc bs : Nat} {h0 : jH} {Q : jR → jH → Prop} (hd : 2 ≤ d) (i : Nat) (hi : i < 3) (kk : ∀ h, InvM am (spV (imF V i 46) 46) h → mFr h0 h → G E d bc bs mX11_putsAll 51 [some (vR (nMo am)), some (vR (nMr am 34 i)), some (vI (bI false)), some (vI (nI 45)), none] [] h Q) : ∀ (m k : Nat) (h : jH), 45 - k = m → k ≤ 45 → InvM am (spV (imF V i (1 + k)) (1 + k)) h → mFr h0 h → G E d bc bs mX11_putsAll 21 [some (vR (nMo am)), some (vR (nMr am 34 i)), some (vI (bI false)), some (vI (nI k)), none] [] h Q := by
  intro m
  induction m with
  | zero =>
    intro k h hm hk hI hF
    have e : k = 45 := by omega
    subst e
    refine g_iload_n (pc := 21) dX11_putsAll_21 rfl ?_
    refine g_bipush (pc := 22) (v := 45) dX11_putsAll_22 (by decide) ?_
    refine g_icmp_ge (pc := 24) 51 dX11_putsAll_24 (by decide) (fun c_24 => ?_) (fun c_24 => absurd (by decide) c_24)
    exact kk h hI hF
  | succ m ih =>
    intro k h hm hk hI hF
    refine g_iload_n (pc := 21) dX11_putsAll_21 rfl ?_
    refine g_bipush (pc := 22) (v := 45) dX11_putsAll_22 (by decide) ?_
    refine g_icmp_ge (pc := 24) 51 dX11_putsAll_24 (by decide) (fun c_24 => absurd c_24 (by intro w; have := (nI_leI (a := 45) (by decide) (by omega)).mp w; omega)) (fun c_24 => ?_)
    refine g_aload_n (pc := 27) dX11_putsAll_27 rfl ?_
    refine g_getfield (pc := 28) f_X11_73_11 dX11_putsAll_28 hI.1 mf_31 ?_
    refine g_iload_n (pc := 31) dX11_putsAll_31 rfl ?_
    refine g_aload_n (pc := 32) dX11_putsAll_32 rfl ?_
    refine g_aload_n (pc := 33) dX11_putsAll_33 rfl ?_
    refine g_aload_n (pc := 34) dX11_putsAll_34 rfl ?_
    refine g_getfield (pc := 35) f_X11_73_11 dX11_putsAll_35 hI.1 mf_31 ?_
    refine g_iload_n (pc := 38) dX11_putsAll_38 rfl ?_
    refine g_iaload (pc := 39) dX11_putsAll_39 (mA hI 31 45 rfl (by decide)) rfl (by omega) (by decide) rfl ?_
    refine g_iload_n (pc := 40) dX11_putsAll_40 rfl ?_
    refine m_cV (pc := 41) (M' := mX11_puts) (as := [_, _, _]) i_X11_407_11 eX11_puts hI dX11_putsAll_41 (c_puts0 i (1 + k) hI hi (by omega) _) (by omega) rfl rfl (Nat.le_of_ble_eq_true rfl) (fun h hI fr => ?_)
    replace hF := mFr.tr hF fr
    refine m_iast (pc := 44) (k := 31) (n := 45) hI rfl (by decide) dX11_putsAll_44 rfl (by omega) (by decide) (fun h hI fr => ?_)
    replace hF := mFr.tr hF fr
    refine g_iinc (pc := 45) (ls' := [_, _, _, _, _]) dX11_putsAll_45 rfl (by first | exact nI_1 _ | exact rfl) (by decide) rfl rfl ?_
    refine g_goto (pc := 48) 21 dX11_putsAll_48 (by decide) ?_
    refine ih (k + 1) h (by omega) (by omega) ?_ hF
    have e1 : spV (imF V i (1 + k)) (1 + k) 31 k = imgR V (1 + k) := by rw [spV_ne (by decide), imF_ne (by omega), img_n (by omega)]
    rw [e1, imF_s, spV_sv (by decide)] at hI
    have e2 : sv (imF V i (1 + k + 1)) 31 k (imgR V (1 + k)) = imF V i (1 + k + 1) := by
      have : imgR V (1 + k) = imF V i (1 + k + 1) 31 k := by rw [imF_ne (by omega), img_n (by omega)]
      rw [this, sv_self]
    rw [e2] at hI
    exact hI
set_option maxHeartbeats 2000000 in
theorem l_i2 {bc bs : Nat} {h0 : jH} {Q : jR → jH → Prop} (hd : 2 ≤ d) (i : Nat) (hi : i < 3) (w : Nat) (hw : w < 16) (kk : ∀ h, InvM am (spV (imF V i (46 + 45 * w + 45)) (46 + 45 * w + 45)) h → mFr h0 h → G E d bc bs mX11_putsAll 99 [some (vR (nMo am)), some (vR (nMr am 34 i)), some (vI (bI false)), some (vI (nI w)), some (vI (nI 45))] [] h Q) : ∀ (m k : Nat) (h : jH), 45 - k = m → k ≤ 45 → InvM am (spV (imF V i (46 + 45 * w + k)) (46 + 45 * w + k)) h → mFr h0 h → G E d bc bs mX11_putsAll 62 [some (vR (nMo am)), some (vR (nMr am 34 i)), some (vI (bI false)), some (vI (nI w)), some (vI (nI k))] [] h Q := by
  intro m
  induction m with
  | zero =>
    intro k h hm hk hI hF
    have e : k = 45 := by omega
    subst e
    refine g_iload (pc := 62) dX11_putsAll_62 rfl ?_
    refine g_bipush (pc := 64) (v := 45) dX11_putsAll_64 (by decide) ?_
    refine g_icmp_ge (pc := 66) 99 dX11_putsAll_66 (by decide) (fun c_66 => ?_) (fun c_66 => absurd (by decide) c_66)
    exact kk h hI hF
  | succ m ih =>
    intro k h hm hk hI hF
    refine g_iload (pc := 62) dX11_putsAll_62 rfl ?_
    refine g_bipush (pc := 64) (v := 45) dX11_putsAll_64 (by decide) ?_
    refine g_icmp_ge (pc := 66) 99 dX11_putsAll_66 (by decide) (fun c_66 => absurd c_66 (by intro w; have := (nI_leI (a := 45) (by decide) (by omega)).mp w; omega)) (fun c_66 => ?_)
    refine g_aload_n (pc := 69) dX11_putsAll_69 rfl ?_
    refine g_getfield (pc := 70) f_X11_79_11 dX11_putsAll_70 hI.1 mf_33 ?_
    refine g_iload_n (pc := 73) dX11_putsAll_73 rfl ?_
    refine g_aaload (pc := 74) (t := 5) rfl rfl dX11_putsAll_74 (mG hI 33 16 rfl (by decide)) rfl (by omega) (by decide) rfl ?_
    refine g_iload (pc := 75) dX11_putsAll_75 rfl ?_
    refine g_aload_n (pc := 77) dX11_putsAll_77 rfl ?_
    refine g_aload_n (pc := 78) dX11_putsAll_78 rfl ?_
    refine g_aload_n (pc := 79) dX11_putsAll_79 rfl ?_
    refine g_getfield (pc := 80) f_X11_79_11 dX11_putsAll_80 hI.1 mf_33 ?_
    refine g_iload_n (pc := 83) dX11_putsAll_83 rfl ?_
    refine g_aaload (pc := 84) (t := 5) rfl rfl dX11_putsAll_84 (mG hI 33 16 rfl (by decide)) rfl (by omega) (by decide) rfl ?_
    refine g_iload (pc := 85) dX11_putsAll_85 rfl ?_
    refine g_iaload (pc := 87) dX11_putsAll_87 (mR hI 33 45 _ rfl (by show _ < 16; omega)) rfl (by omega) (by decide) rfl ?_
    refine g_iload_n (pc := 88) dX11_putsAll_88 rfl ?_
    refine m_cV (pc := 89) (M' := mX11_puts) (as := [_, _, _]) i_X11_407_11 eX11_puts hI dX11_putsAll_89 (c_puts0 i (46 + 45 * w + k) hI hi (by omega) _) (by omega) rfl rfl (Nat.le_of_ble_eq_true rfl) (fun h hI fr => ?_)
    replace hF := mFr.tr hF fr
    refine m_rast (pc := 92) (k := 33) (n := 45) hI rfl (by show _ < 16; omega) dX11_putsAll_92 rfl (by omega) (by decide) (fun h hI fr => ?_)
    replace hF := mFr.tr hF fr
    refine g_iinc (pc := 93) (ls' := [_, _, _, _, _]) dX11_putsAll_93 rfl (by first | exact nI_1 _ | exact rfl) (by decide) rfl rfl ?_
    refine g_goto (pc := 96) 62 dX11_putsAll_96 (by decide) ?_
    refine ih (k + 1) h (by omega) (by omega) ?_ hF
    have e1 : spV (imF V i (46 + 45 * w + k)) (46 + 45 * w + k) (1000 * 33 + w) k = imgR V (46 + 45 * w + k) := by rw [spV_ne (by omega), imF_ne (by omega), img_b (by omega)]
    rw [e1, imF_s, spV_sv (by omega)] at hI
    have e2 : sv (imF V i ((46 + 45 * w + k) + 1)) (1000 * 33 + w) k (imgR V (46 + 45 * w + k)) = imF V i ((46 + 45 * w + k) + 1) := by
      have : imgR V (46 + 45 * w + k) = imF V i ((46 + 45 * w + k) + 1) (1000 * 33 + w) k := by rw [imF_ne (by omega), img_b (by omega)]
      rw [this, sv_self]
    rw [e2] at hI
    exact hI
set_option maxHeartbeats 2000000 in
theorem l_i3 {bc bs : Nat} {h0 : jH} {Q : jR → jH → Prop} (hd : 2 ≤ d) (i : Nat) (hi : i < 3) (kk : ∀ u h, InvM am (spV (imF V i 766) 766) h → mFr h0 h → G E d bc bs mX11_putsAll 105 [some (vR (nMo am)), some (vR (nMr am 34 i)), some (vI (bI false)), some (vI (nI 16)), u] [] h Q) : ∀ (m w : Nat) (u : Option jV) (h : jH), 16 - w = m → w ≤ 16 → InvM am (spV (imF V i (46 + 45 * w)) (46 + 45 * w)) h → mFr h0 h → G E d bc bs mX11_putsAll 53 [some (vR (nMo am)), some (vR (nMr am 34 i)), some (vI (bI false)), some (vI (nI w)), u] [] h Q := by
  intro m
  induction m with
  | zero =>
    intro w u h hm hk hI hF
    have e : w = 16 := by omega
    subst e
    refine g_iload_n (pc := 53) dX11_putsAll_53 rfl ?_
    refine g_bipush (pc := 54) (v := 16) dX11_putsAll_54 (by decide) ?_
    refine g_icmp_ge (pc := 56) 105 dX11_putsAll_56 (by decide) (fun c_56 => ?_) (fun c_56 => absurd (by decide) c_56)
    exact kk u h hI hF
  | succ m ih =>
    intro w u h hm hk hI hF
    refine g_iload_n (pc := 53) dX11_putsAll_53 rfl ?_
    refine g_bipush (pc := 54) (v := 16) dX11_putsAll_54 (by decide) ?_
    refine g_icmp_ge (pc := 56) 105 dX11_putsAll_56 (by decide) (fun c_56 => absurd c_56 (by intro w; have := (nI_leI (a := 16) (by decide) (by omega)).mp w; omega)) (fun c_56 => ?_)
    refine g_iconst (pc := 59) (v := 0) dX11_putsAll_59 (by decide) ?_
    refine g_istore (pc := 60) (ls' := [_, _, _, _, _]) dX11_putsAll_60 (by decide) rfl rfl ?_
    refine l_i2 hd i hi w (by omega) (fun h hI hF => ?_) 45 0 h rfl (Nat.zero_le _) hI hF
    refine g_iinc (pc := 99) (ls' := [_, _, _, _, _]) dX11_putsAll_99 rfl (by first | exact nI_1 _ | exact rfl) (by decide) rfl rfl ?_
    refine g_goto (pc := 102) 53 dX11_putsAll_102 (by decide) ?_
    refine ih (w + 1) _ h (by omega) (by omega) ?_ hF
    rw [show 46 + 45 * (w + 1) = 46 + 45 * w + 45 by omega]
    exact hI
set_option maxHeartbeats 1000000 in
theorem c_putsAll0 (hd : 3 ≤ d) (hI : InvM am V h) (i : Nat) (hi : i < 3) : Ct E d 0 0 mX11_putsAll [vR (nMo am), vR (nMr am 34 i), vI 0] h (mQ am (spV (imF V i 766) 766) h none) := by
  refine ct_of (by decide) (Nat.le_of_ble_eq_true rfl) rfl ?_
  have hF : mFr h h := mFr.rf
  rw [show (0 : Int32) = bI false from rfl]
  refine g_aload_n (pc := 0) dX11_putsAll_0 rfl ?_
  refine g_iconst (pc := 1) (v := 0) dX11_putsAll_1 (by decide) ?_
  refine m_put (pc := 2) hI w_X11_404_11 rfl (by decide) dX11_putsAll_2 (fun h hI fr => ?_)
  replace hF := mFr.tr hF fr
  change InvM am (spV V 0) h at hI
  refine g_aload_n (pc := 5) dX11_putsAll_5 rfl ?_
  refine g_aload_n (pc := 6) dX11_putsAll_6 rfl ?_
  refine g_aload_n (pc := 7) dX11_putsAll_7 rfl ?_
  refine g_aload_n (pc := 8) dX11_putsAll_8 rfl ?_
  refine g_getfield (pc := 9) f_X11_206_11 dX11_putsAll_9 hI.1 mf_36 ?_
  refine g_iload_n (pc := 12) dX11_putsAll_12 rfl ?_
  refine m_cV (pc := 13) (M' := mX11_puts) (as := [_, _, _]) i_X11_407_11 eX11_puts hI dX11_putsAll_13 (c_puts0 i 0 hI hi (by decide) _) (by omega) rfl rfl (Nat.le_of_ble_eq_true rfl) (fun h hI fr => ?_)
  replace hF := mFr.tr hF fr
  refine m_put (pc := 16) hI w_X11_206_11 rfl (by decide) dX11_putsAll_16 (fun h hI fr => ?_)
  replace hF := mFr.tr hF fr
  refine g_iconst (pc := 19) (v := 0) dX11_putsAll_19 (by decide) ?_
  refine g_istore_n (pc := 20) (ls' := [_, _, _, _, _]) dX11_putsAll_20 (by decide) rfl rfl ?_
  have hI : InvM am (spV (imF V i (1 + 0)) (1 + 0)) h := by
    rw [show spV V 0 0 36 = V 0 36 from sv_nj (by decide)] at hI
    have e1 : sv V (1000 * 34 + i) 0 (V 0 36) = imF V i 1 := by
      have := imF_s (V := V) (i := i) (s := 0)
      rw [imF_0] at this
      exact this
    rw [e1] at hI
    have e2 : sv (spV (imF V i 1) 1) 0 36 (V 0 36) = spV (imF V i 1) 1 := by
      have : V 0 36 = spV (imF V i 1) 1 0 36 := by unfold spV; rw [sv_nj (by decide), imF_ne (by omega)]
      rw [this, sv_self]
    rw [e2] at hI
    exact hI
  refine l_i1 (by omega) i hi (fun h hI hF => ?_) 45 0 h rfl (Nat.zero_le _) hI hF
  refine g_iconst (pc := 51) (v := 0) dX11_putsAll_51 (by decide) ?_
  refine g_istore_n (pc := 52) (ls' := [_, _, _, _, _]) dX11_putsAll_52 (by decide) rfl rfl ?_
  refine l_i3 (by omega) i hi (fun u h hI hF => ?_) 16 0 _ h rfl (Nat.zero_le _) hI hF
  refine g_return (pc := 105) dX11_putsAll_105 rfl ?_
  exact ⟨rfl, hI, hF⟩
set_option maxHeartbeats 2000000 in
theorem l_r1 {bc bs : Nat} {h0 : jH} {Q : jR → jH → Prop} {K : Nat → Int32} (hd : 2 ≤ d) (i : Nat) (hi : i < 3) (hK : V (1000 * 34 + i) = K) (kk : ∀ h, InvM am (spV (rsF V K 46) 46) h → mFr h0 h → G E d bc bs mX11_putsAll 51 [some (vR (nMo am)), some (vR (nMr am 34 i)), some (vI (bI true)), some (vI (nI 45)), none] [] h Q) : ∀ (m k : Nat) (h : jH), 45 - k = m → k ≤ 45 → InvM am (spV (rsF V K (1 + k)) (1 + k)) h → mFr h0 h → G E d bc bs mX11_putsAll 21 [some (vR (nMo am)), some (vR (nMr am 34 i)), some (vI (bI true)), some (vI (nI k)), none] [] h Q := by
  intro m
  induction m with
  | zero =>
    intro k h hm hk hI hF
    have e : k = 45 := by omega
    subst e
    refine g_iload_n (pc := 21) dX11_putsAll_21 rfl ?_
    refine g_bipush (pc := 22) (v := 45) dX11_putsAll_22 (by decide) ?_
    refine g_icmp_ge (pc := 24) 51 dX11_putsAll_24 (by decide) (fun c_24 => ?_) (fun c_24 => absurd (by decide) c_24)
    exact kk h hI hF
  | succ m ih =>
    intro k h hm hk hI hF
    refine g_iload_n (pc := 21) dX11_putsAll_21 rfl ?_
    refine g_bipush (pc := 22) (v := 45) dX11_putsAll_22 (by decide) ?_
    refine g_icmp_ge (pc := 24) 51 dX11_putsAll_24 (by decide) (fun c_24 => absurd c_24 (by intro w; have := (nI_leI (a := 45) (by decide) (by omega)).mp w; omega)) (fun c_24 => ?_)
    refine g_aload_n (pc := 27) dX11_putsAll_27 rfl ?_
    refine g_getfield (pc := 28) f_X11_73_11 dX11_putsAll_28 hI.1 mf_31 ?_
    refine g_iload_n (pc := 31) dX11_putsAll_31 rfl ?_
    refine g_aload_n (pc := 32) dX11_putsAll_32 rfl ?_
    refine g_aload_n (pc := 33) dX11_putsAll_33 rfl ?_
    refine g_aload_n (pc := 34) dX11_putsAll_34 rfl ?_
    refine g_getfield (pc := 35) f_X11_73_11 dX11_putsAll_35 hI.1 mf_31 ?_
    refine g_iload_n (pc := 38) dX11_putsAll_38 rfl ?_
    refine g_iaload (pc := 39) dX11_putsAll_39 (mA hI 31 45 rfl (by decide)) rfl (by omega) (by decide) rfl ?_
    refine g_iload_n (pc := 40) dX11_putsAll_40 rfl ?_
    refine m_cV (pc := 41) (M' := mX11_puts) (as := [_, _, _]) i_X11_407_11 eX11_puts hI dX11_putsAll_41 (c_puts1 i (1 + k) hI hi (by omega) _) (by omega) rfl rfl (Nat.le_of_ble_eq_true rfl) (fun h hI fr => ?_)
    replace hF := mFr.tr hF fr
    refine m_iast (pc := 44) (k := 31) (n := 45) hI rfl (by decide) dX11_putsAll_44 rfl (by omega) (by decide) (fun h hI fr => ?_)
    replace hF := mFr.tr hF fr
    refine g_iinc (pc := 45) (ls' := [_, _, _, _, _]) dX11_putsAll_45 rfl (by first | exact nI_1 _ | exact rfl) (by decide) rfl rfl ?_
    refine g_goto (pc := 48) 21 dX11_putsAll_48 (by decide) ?_
    refine ih (k + 1) h (by omega) (by omega) ?_ hF
    rw [spV_sv (by decide), rsF_34, hK, rsF_n (by omega)] at hI
    exact hI
set_option maxHeartbeats 2000000 in
theorem l_r2 {bc bs : Nat} {h0 : jH} {Q : jR → jH → Prop} {K : Nat → Int32} (hd : 2 ≤ d) (i : Nat) (hi : i < 3) (hK : V (1000 * 34 + i) = K) (w : Nat) (hw : w < 16) (kk : ∀ h, InvM am (spV (rsF V K (46 + 45 * w + 45)) (46 + 45 * w + 45)) h → mFr h0 h → G E d bc bs mX11_putsAll 99 [some (vR (nMo am)), some (vR (nMr am 34 i)), some (vI (bI true)), some (vI (nI w)), some (vI (nI 45))] [] h Q) : ∀ (m k : Nat) (h : jH), 45 - k = m → k ≤ 45 → InvM am (spV (rsF V K (46 + 45 * w + k)) (46 + 45 * w + k)) h → mFr h0 h → G E d bc bs mX11_putsAll 62 [some (vR (nMo am)), some (vR (nMr am 34 i)), some (vI (bI true)), some (vI (nI w)), some (vI (nI k))] [] h Q := by
  intro m
  induction m with
  | zero =>
    intro k h hm hk hI hF
    have e : k = 45 := by omega
    subst e
    refine g_iload (pc := 62) dX11_putsAll_62 rfl ?_
    refine g_bipush (pc := 64) (v := 45) dX11_putsAll_64 (by decide) ?_
    refine g_icmp_ge (pc := 66) 99 dX11_putsAll_66 (by decide) (fun c_66 => ?_) (fun c_66 => absurd (by decide) c_66)
    exact kk h hI hF
  | succ m ih =>
    intro k h hm hk hI hF
    refine g_iload (pc := 62) dX11_putsAll_62 rfl ?_
    refine g_bipush (pc := 64) (v := 45) dX11_putsAll_64 (by decide) ?_
    refine g_icmp_ge (pc := 66) 99 dX11_putsAll_66 (by decide) (fun c_66 => absurd c_66 (by intro w; have := (nI_leI (a := 45) (by decide) (by omega)).mp w; omega)) (fun c_66 => ?_)
    refine g_aload_n (pc := 69) dX11_putsAll_69 rfl ?_
    refine g_getfield (pc := 70) f_X11_79_11 dX11_putsAll_70 hI.1 mf_33 ?_
    refine g_iload_n (pc := 73) dX11_putsAll_73 rfl ?_
    refine g_aaload (pc := 74) (t := 5) rfl rfl dX11_putsAll_74 (mG hI 33 16 rfl (by decide)) rfl (by omega) (by decide) rfl ?_
    refine g_iload (pc := 75) dX11_putsAll_75 rfl ?_
    refine g_aload_n (pc := 77) dX11_putsAll_77 rfl ?_
    refine g_aload_n (pc := 78) dX11_putsAll_78 rfl ?_
    refine g_aload_n (pc := 79) dX11_putsAll_79 rfl ?_
    refine g_getfield (pc := 80) f_X11_79_11 dX11_putsAll_80 hI.1 mf_33 ?_
    refine g_iload_n (pc := 83) dX11_putsAll_83 rfl ?_
    refine g_aaload (pc := 84) (t := 5) rfl rfl dX11_putsAll_84 (mG hI 33 16 rfl (by decide)) rfl (by omega) (by decide) rfl ?_
    refine g_iload (pc := 85) dX11_putsAll_85 rfl ?_
    refine g_iaload (pc := 87) dX11_putsAll_87 (mR hI 33 45 _ rfl (by show _ < 16; omega)) rfl (by omega) (by decide) rfl ?_
    refine g_iload_n (pc := 88) dX11_putsAll_88 rfl ?_
    refine m_cV (pc := 89) (M' := mX11_puts) (as := [_, _, _]) i_X11_407_11 eX11_puts hI dX11_putsAll_89 (c_puts1 i (46 + 45 * w + k) hI hi (by omega) _) (by omega) rfl rfl (Nat.le_of_ble_eq_true rfl) (fun h hI fr => ?_)
    replace hF := mFr.tr hF fr
    refine m_rast (pc := 92) (k := 33) (n := 45) hI rfl (by show _ < 16; omega) dX11_putsAll_92 rfl (by omega) (by decide) (fun h hI fr => ?_)
    replace hF := mFr.tr hF fr
    refine g_iinc (pc := 93) (ls' := [_, _, _, _, _]) dX11_putsAll_93 rfl (by first | exact nI_1 _ | exact rfl) (by decide) rfl rfl ?_
    refine g_goto (pc := 96) 62 dX11_putsAll_96 (by decide) ?_
    refine ih (k + 1) h (by omega) (by omega) ?_ hF
    rw [spV_sv (by omega), rsF_34, hK, rsF_b hw (by omega)] at hI
    exact hI
set_option maxHeartbeats 2000000 in
theorem l_r3 {bc bs : Nat} {h0 : jH} {Q : jR → jH → Prop} {K : Nat → Int32} (hd : 2 ≤ d) (i : Nat) (hi : i < 3) (hK : V (1000 * 34 + i) = K) (kk : ∀ u h, InvM am (spV (rsF V K 766) 766) h → mFr h0 h → G E d bc bs mX11_putsAll 105 [some (vR (nMo am)), some (vR (nMr am 34 i)), some (vI (bI true)), some (vI (nI 16)), u] [] h Q) : ∀ (m w : Nat) (u : Option jV) (h : jH), 16 - w = m → w ≤ 16 → InvM am (spV (rsF V K (46 + 45 * w)) (46 + 45 * w)) h → mFr h0 h → G E d bc bs mX11_putsAll 53 [some (vR (nMo am)), some (vR (nMr am 34 i)), some (vI (bI true)), some (vI (nI w)), u] [] h Q := by
  intro m
  induction m with
  | zero =>
    intro w u h hm hk hI hF
    have e : w = 16 := by omega
    subst e
    refine g_iload_n (pc := 53) dX11_putsAll_53 rfl ?_
    refine g_bipush (pc := 54) (v := 16) dX11_putsAll_54 (by decide) ?_
    refine g_icmp_ge (pc := 56) 105 dX11_putsAll_56 (by decide) (fun c_56 => ?_) (fun c_56 => absurd (by decide) c_56)
    exact kk u h hI hF
  | succ m ih =>
    intro w u h hm hk hI hF
    refine g_iload_n (pc := 53) dX11_putsAll_53 rfl ?_
    refine g_bipush (pc := 54) (v := 16) dX11_putsAll_54 (by decide) ?_
    refine g_icmp_ge (pc := 56) 105 dX11_putsAll_56 (by decide) (fun c_56 => absurd c_56 (by intro w; have := (nI_leI (a := 16) (by decide) (by omega)).mp w; omega)) (fun c_56 => ?_)
    refine g_iconst (pc := 59) (v := 0) dX11_putsAll_59 (by decide) ?_
    refine g_istore (pc := 60) (ls' := [_, _, _, _, _]) dX11_putsAll_60 (by decide) rfl rfl ?_
    refine l_r2 hd i hi hK w (by omega) (fun h hI hF => ?_) 45 0 h rfl (Nat.zero_le _) hI hF
    refine g_iinc (pc := 99) (ls' := [_, _, _, _, _]) dX11_putsAll_99 rfl (by first | exact nI_1 _ | exact rfl) (by decide) rfl rfl ?_
    refine g_goto (pc := 102) 53 dX11_putsAll_102 (by decide) ?_
    refine ih (w + 1) _ h (by omega) (by omega) ?_ hF
    rw [show 46 + 45 * (w + 1) = 46 + 45 * w + 45 by omega]
    exact hI
set_option maxHeartbeats 1000000 in
theorem c_putsAll1 (hd : 3 ≤ d) (hI : InvM am V h) (i : Nat) (hi : i < 3) : Ct E d 0 0 mX11_putsAll [vR (nMo am), vR (nMr am 34 i), vI 1] h (mQ am (spV (rsF (sv V 0 36 (V (1000 * 34 + i) 0)) (V (1000 * 34 + i)) 766) 766) h none) := by
  refine ct_of (by decide) (Nat.le_of_ble_eq_true rfl) rfl ?_
  have hF : mFr h h := mFr.rf
  rw [show (1 : Int32) = bI true from rfl]
  refine g_aload_n (pc := 0) dX11_putsAll_0 rfl ?_
  refine g_iconst (pc := 1) (v := 0) dX11_putsAll_1 (by decide) ?_
  refine m_put (pc := 2) hI w_X11_404_11 rfl (by decide) dX11_putsAll_2 (fun h hI fr => ?_)
  replace hF := mFr.tr hF fr
  change InvM am (spV V 0) h at hI
  refine g_aload_n (pc := 5) dX11_putsAll_5 rfl ?_
  refine g_aload_n (pc := 6) dX11_putsAll_6 rfl ?_
  refine g_aload_n (pc := 7) dX11_putsAll_7 rfl ?_
  refine g_aload_n (pc := 8) dX11_putsAll_8 rfl ?_
  refine g_getfield (pc := 9) f_X11_206_11 dX11_putsAll_9 hI.1 mf_36 ?_
  refine g_iload_n (pc := 12) dX11_putsAll_12 rfl ?_
  refine m_cV (pc := 13) (M' := mX11_puts) (as := [_, _, _]) i_X11_407_11 eX11_puts hI dX11_putsAll_13 (c_puts1 i 0 hI hi (by decide) _) (by omega) rfl rfl (Nat.le_of_ble_eq_true rfl) (fun h hI fr => ?_)
  replace hF := mFr.tr hF fr
  refine m_put (pc := 16) hI w_X11_206_11 rfl (by decide) dX11_putsAll_16 (fun h hI fr => ?_)
  replace hF := mFr.tr hF fr
  refine g_iconst (pc := 19) (v := 0) dX11_putsAll_19 (by decide) ?_
  refine g_istore_n (pc := 20) (ls' := [_, _, _, _, _]) dX11_putsAll_20 (by decide) rfl rfl ?_
  have hI : InvM am (spV (rsF (sv V 0 36 (V (1000 * 34 + i) 0)) (V (1000 * 34 + i)) (1 + 0)) (1 + 0)) h := by
    rw [rsF_0]
    unfold spV at hI ⊢
    rw [sv_cm (Or.inr (by decide))] at hI
    exact hI
  have hK : sv V 0 36 (V (1000 * 34 + i) 0) (1000 * 34 + i) = V (1000 * 34 + i) := sv_ne (by omega)
  refine l_r1 (by omega) i hi hK (fun h hI hF => ?_) 45 0 h rfl (Nat.zero_le _) hI hF
  refine g_iconst (pc := 51) (v := 0) dX11_putsAll_51 (by decide) ?_
  refine g_istore_n (pc := 52) (ls' := [_, _, _, _, _]) dX11_putsAll_52 (by decide) rfl rfl ?_
  refine l_r3 (by omega) i hi hK (fun u h hI hF => ?_) 16 0 _ h rfl (Nat.zero_le _) hI hF
  refine g_return (pc := 105) dX11_putsAll_105 rfl ?_
  exact ⟨rfl, hI, hF⟩
theorem c_mimage0 (hI : InvM am V h) (hn : V 0 38 = 3) : Ct E d 0 0 mX11_image [vR (nMo am)] h (mQ am (thr0 V) h (some (vI (-1)))) := by
  refine ct_of (by decide) (Nat.le_of_ble_eq_true rfl) rfl ?_
  have hF : mFr h h := mFr.rf
  have e38 : thr0 V 0 38 = 3 := (sv_nj (by decide)).trans hn
  refine g_aload_n (pc := 0) dX11_image_0 rfl ?_
  refine g_iconst (pc := 1) (v := 0) dX11_image_1 (by decide) ?_
  refine m_put (pc := 2) hI w_X11_103_11 rfl (by decide) dX11_image_2 (fun h hI fr => ?_)
  replace hF := mFr.tr hF fr
  change InvM am (thr0 V) h at hI
  refine g_aload_n (pc := 5) dX11_image_5 rfl ?_
  refine g_getfield (pc := 6) f_X11_212_11 dX11_image_6 hI.1 mf_38 ?_
  rw [e38]
  refine g_iconst (pc := 9) (v := 3) dX11_image_9 (by decide) ?_
  refine g_icmp_ne (pc := 10) 15 dX11_image_10 (by decide) (fun c_10 => absurd rfl c_10) (fun c_10 => ?_)
  refine g_iconst (pc := 13) (v := -1) dX11_image_13 (by decide) ?_
  refine g_ireturn (pc := 14) dX11_image_14 rfl (by first | exact rfl | exact j_nb _) ?_
  exact ⟨rfl, hI, hF⟩
def imgV (V : mV) (n : Nat) : mV := sv (spV (imF (thr0 V) n 766) 766) 0 38 (nI (n + 1))
theorem c_mimage1 (hd : 4 ≤ d) (hI : InvM am V h) (n : Nat) (hn : V 0 38 = nI n) (h3 : n < 3) : Ct E d 0 0 mX11_image [vR (nMo am)] h (mQ am (imgV V n) h (some (vI (nI (n + 1))))) := by
  refine ct_of (by decide) (Nat.le_of_ble_eq_true rfl) rfl ?_
  have hF : mFr h h := mFr.rf
  have e38 : thr0 V 0 38 = nI n := (sv_nj (by decide)).trans hn
  refine g_aload_n (pc := 0) dX11_image_0 rfl ?_
  refine g_iconst (pc := 1) (v := 0) dX11_image_1 (by decide) ?_
  refine m_put (pc := 2) hI w_X11_103_11 rfl (by decide) dX11_image_2 (fun h hI fr => ?_)
  replace hF := mFr.tr hF fr
  change InvM am (thr0 V) h at hI
  refine g_aload_n (pc := 5) dX11_image_5 rfl ?_
  refine g_getfield (pc := 6) f_X11_212_11 dX11_image_6 hI.1 mf_38 ?_
  rw [e38]
  refine g_iconst (pc := 9) (v := 3) dX11_image_9 (by decide) ?_
  refine g_icmp_ne (pc := 10) 15 dX11_image_10 (by decide) (fun c_10 => ?_) (fun c_10 => absurd c_10 (fun e => by have := (nI_eq (b := 3) (by omega) (by decide)).mp e; omega))
  refine g_aload_n (pc := 15) dX11_image_15 rfl ?_
  refine g_aload_n (pc := 16) dX11_image_16 rfl ?_
  refine g_getfield (pc := 17) f_X11_82_11 dX11_image_17 hI.1 mf_34 ?_
  refine g_aload_n (pc := 20) dX11_image_20 rfl ?_
  refine g_getfield (pc := 21) f_X11_212_11 dX11_image_21 hI.1 mf_38 ?_
  rw [e38]
  refine g_aaload (pc := 24) (t := 5) rfl rfl dX11_image_24 (mG hI 34 3 rfl (by decide)) rfl (by omega) (by decide) rfl ?_
  refine g_iconst (pc := 25) (v := 0) dX11_image_25 (by decide) ?_
  refine m_cVv (pc := 26) (M' := mX11_putsAll) (as := [_, _]) i_X11_411_11 eX11_putsAll hI dX11_image_26 (c_putsAll0 (by omega) hI n h3) (by omega) rfl rfl (Nat.le_of_ble_eq_true rfl) (fun h hI fr => ?_)
  replace hF := mFr.tr hF fr
  refine g_aload_n (pc := 29) dX11_image_29 rfl ?_
  refine g_dup (pc := 30) dX11_image_30 rfl ?_
  refine g_getfield (pc := 31) f_X11_212_11 dX11_image_31 hI.1 mf_38 ?_
  rw [show spV (imF (thr0 V) n 766) 766 0 38 = nI n by unfold spV; rw [sv_nj (by decide), imF_ne (by omega)]; exact e38]
  refine g_iconst (pc := 34) (v := 1) dX11_image_34 (by decide) ?_
  refine g_iadd (pc := 35) dX11_image_35 ?_
  rw [nI_1]
  refine m_put (pc := 36) hI w_X11_212_11 rfl (by decide) dX11_image_36 (fun h hI fr => ?_)
  replace hF := mFr.tr hF fr
  refine g_aload_n (pc := 39) dX11_image_39 rfl ?_
  refine g_getfield (pc := 40) f_X11_212_11 dX11_image_40 hI.1 mf_38 ?_
  refine g_ireturn (pc := 43) dX11_image_43 rfl (by first | exact rfl | exact j_nb _) ?_
  exact ⟨by rw [sv_same], hI, hF⟩
theorem c_mrestore0 (hI : InvM am V h) (hn : V 0 38 = 0) : Ct E d 0 0 mX11_restore [vR (nMo am)] h (mQ am (thr0 V) h (some (vI (-1)))) := by
  refine ct_of (by decide) (Nat.le_of_ble_eq_true rfl) rfl ?_
  have hF : mFr h h := mFr.rf
  have e38 : thr0 V 0 38 = 0 := (sv_nj (by decide)).trans hn
  refine g_aload_n (pc := 0) dX11_restore_0 rfl ?_
  refine g_iconst (pc := 1) (v := 0) dX11_restore_1 (by decide) ?_
  refine m_put (pc := 2) hI w_X11_103_11 rfl (by decide) dX11_restore_2 (fun h hI fr => ?_)
  replace hF := mFr.tr hF fr
  change InvM am (thr0 V) h at hI
  refine g_aload_n (pc := 5) dX11_restore_5 rfl ?_
  refine g_getfield (pc := 6) f_X11_212_11 dX11_restore_6 hI.1 mf_38 ?_
  rw [e38]
  refine g_if_ne (pc := 9) 14 dX11_restore_9 (by decide) (fun c_9 => absurd rfl c_9) (fun c_9 => ?_)
  refine g_iconst (pc := 12) (v := -1) dX11_restore_12 (by decide) ?_
  refine g_ireturn (pc := 13) dX11_restore_13 rfl (by first | exact rfl | exact j_nb _) ?_
  exact ⟨rfl, hI, hF⟩
def resV (V : mV) (n : Nat) : mV := sv (spV (rsF (sv (sv (thr0 V) 0 38 (nI n)) 0 36 (V (1000 * 34 + n) 0)) (V (1000 * 34 + n)) 766) 766) 0 37 0
theorem c_mrestore1 (hd : 4 ≤ d) (hI : InvM am V h) (n : Nat) (hn : V 0 38 = nI (n + 1)) (h3 : n < 3) : Ct E d 0 0 mX11_restore [vR (nMo am)] h (mQ am (resV V n) h (some (vI (nI n)))) := by
  refine ct_of (by decide) (Nat.le_of_ble_eq_true rfl) rfl ?_
  have hF : mFr h h := mFr.rf
  have e38 : thr0 V 0 38 = nI (n + 1) := (sv_nj (by decide)).trans hn
  have e34 : sv (thr0 V) 0 38 (nI n) (1000 * 34 + n) = V (1000 * 34 + n) := (sv_ne (by omega)).trans (sv_ne (by omega))
  refine g_aload_n (pc := 0) dX11_restore_0 rfl ?_
  refine g_iconst (pc := 1) (v := 0) dX11_restore_1 (by decide) ?_
  refine m_put (pc := 2) hI w_X11_103_11 rfl (by decide) dX11_restore_2 (fun h hI fr => ?_)
  replace hF := mFr.tr hF fr
  change InvM am (thr0 V) h at hI
  refine g_aload_n (pc := 5) dX11_restore_5 rfl ?_
  refine g_getfield (pc := 6) f_X11_212_11 dX11_restore_6 hI.1 mf_38 ?_
  rw [e38]
  refine g_if_ne (pc := 9) 14 dX11_restore_9 (by decide) (fun c_9 => ?_) (fun c_9 => absurd c_9 (nI_ne0 (by omega) (by omega)))
  refine g_aload_n (pc := 14) dX11_restore_14 rfl ?_
  refine g_dup (pc := 15) dX11_restore_15 rfl ?_
  refine g_getfield (pc := 16) f_X11_212_11 dX11_restore_16 hI.1 mf_38 ?_
  rw [e38]
  refine g_iconst (pc := 19) (v := 1) dX11_restore_19 (by decide) ?_
  refine g_isub (pc := 20) dX11_restore_20 ?_
  rw [nI_pred]
  refine m_put (pc := 21) hI w_X11_212_11 rfl (by decide) dX11_restore_21 (fun h hI fr => ?_)
  replace hF := mFr.tr hF fr
  refine g_aload_n (pc := 24) dX11_restore_24 rfl ?_
  refine g_aload_n (pc := 25) dX11_restore_25 rfl ?_
  refine g_getfield (pc := 26) f_X11_82_11 dX11_restore_26 hI.1 mf_34 ?_
  refine g_aload_n (pc := 29) dX11_restore_29 rfl ?_
  refine g_getfield (pc := 30) f_X11_212_11 dX11_restore_30 hI.1 mf_38 ?_
  rw [sv_same]
  refine g_aaload (pc := 33) (t := 5) rfl rfl dX11_restore_33 (mG hI 34 3 rfl (by decide)) rfl (by omega) (by decide) rfl ?_
  refine g_iconst (pc := 34) (v := 1) dX11_restore_34 (by decide) ?_
  refine m_cVv (pc := 35) (M' := mX11_putsAll) (as := [_, _]) i_X11_411_11 eX11_putsAll hI dX11_restore_35 (c_putsAll1 (by omega) hI n h3) (by omega) rfl rfl (Nat.le_of_ble_eq_true rfl) (fun h hI fr => ?_)
  replace hF := mFr.tr hF fr
  rw [e34] at hI
  refine g_aload_n (pc := 38) dX11_restore_38 rfl ?_
  refine g_iconst (pc := 39) (v := 0) dX11_restore_39 (by decide) ?_
  refine m_put (pc := 40) hI w_X11_209_11 rfl (by decide) dX11_restore_40 (fun h hI fr => ?_)
  replace hF := mFr.tr hF fr
  refine g_aload_n (pc := 43) dX11_restore_43 rfl ?_
  refine g_getfield (pc := 44) f_X11_212_11 dX11_restore_44 hI.1 mf_38 ?_
  refine g_ireturn (pc := 47) dX11_restore_47 rfl (by first | exact rfl | exact j_nb _) ?_
  refine ⟨?_, hI, hF⟩
  rw [sv_nj (by decide), show spV (rsF (sv (sv (thr0 V) 0 38 (nI n)) 0 36 (V (1000 * 34 + n) 0)) (V (1000 * 34 + n)) 766) 766 0 38 = nI n by unfold spV; rw [rsF_f0]; unfold rsF; rw [if_neg (fun w => by omega), if_neg (fun w => by omega), sv_nj (by decide), sv_nj (by decide), sv_same]]
theorem c_mundo0 (hI : InvM am V h) (hn : V 0 36 = 0) : Ct E d 0 0 mX11_undo [vR (nMo am)] h (mQ am (thr0 V) h (some (vI (-1)))) := by
  refine ct_of (by decide) (Nat.le_of_ble_eq_true rfl) rfl ?_
  have hF : mFr h h := mFr.rf
  have e36 : thr0 V 0 36 = 0 := (sv_nj (by decide)).trans hn
  refine g_aload_n (pc := 0) dX11_undo_0 rfl ?_
  refine g_iconst (pc := 1) (v := 0) dX11_undo_1 (by decide) ?_
  refine m_put (pc := 2) hI w_X11_103_11 rfl (by decide) dX11_undo_2 (fun h hI fr => ?_)
  replace hF := mFr.tr hF fr
  change InvM am (thr0 V) h at hI
  refine g_aload_n (pc := 5) dX11_undo_5 rfl ?_
  refine g_getfield (pc := 6) f_X11_206_11 dX11_undo_6 hI.1 mf_36 ?_
  rw [e36]
  refine g_if_ne (pc := 9) 14 dX11_undo_9 (by decide) (fun c_9 => absurd rfl c_9) (fun c_9 => ?_)
  refine g_iconst (pc := 12) (v := -1) dX11_undo_12 (by decide) ?_
  refine g_ireturn (pc := 13) dX11_undo_13 rfl (by first | exact rfl | exact j_nb _) ?_
  exact ⟨rfl, hI, hF⟩
def undV (V : mV) (n : Nat) : mV := sv (svR (sv (thr0 V) 0 36 (nI n)) 31 (V (1000 * 33 + n))) 0 37 0
theorem c_copB (hI : InvM am V h) (n : Nat) (hn : n < 16) : Ct E d 0 0 mX11_copies [vR (nMr am 33 n), vR (nMa am 31)] h (mQ am (svR V 31 (V (1000 * 33 + n))) h none) :=
  ct_mono (fun r h' q => ⟨q.1, by rw [q.2]; exact hI.arrR (k := 31) (n := 45) rfl (by decide), by rw [q.2]; exact mFr.set (by simp)⟩) (c_copies (mR hI 33 45 n rfl hn) (mA hI 31 45 rfl (by decide)) (fun e => by simp at e; omega) (by simp))
theorem c_mundo1 (hd : 2 ≤ d) (hI : InvM am V h) (n : Nat) (hn : V 0 36 = nI (n + 1)) (h16 : n < 16) : Ct E d 0 0 mX11_undo [vR (nMo am)] h (mQ am (undV V n) h (some (vI (nI n)))) := by
  refine ct_of (by decide) (Nat.le_of_ble_eq_true rfl) rfl ?_
  have hF : mFr h h := mFr.rf
  have e36 : thr0 V 0 36 = nI (n + 1) := (sv_nj (by decide)).trans hn
  have e33 : sv (thr0 V) 0 36 (nI n) (1000 * 33 + n) = V (1000 * 33 + n) := (sv_ne (by omega)).trans (sv_ne (by omega))
  refine g_aload_n (pc := 0) dX11_undo_0 rfl ?_
  refine g_iconst (pc := 1) (v := 0) dX11_undo_1 (by decide) ?_
  refine m_put (pc := 2) hI w_X11_103_11 rfl (by decide) dX11_undo_2 (fun h hI fr => ?_)
  replace hF := mFr.tr hF fr
  change InvM am (thr0 V) h at hI
  refine g_aload_n (pc := 5) dX11_undo_5 rfl ?_
  refine g_getfield (pc := 6) f_X11_206_11 dX11_undo_6 hI.1 mf_36 ?_
  rw [e36]
  refine g_if_ne (pc := 9) 14 dX11_undo_9 (by decide) (fun c_9 => ?_) (fun c_9 => absurd c_9 (nI_ne0 (by omega) (by omega)))
  refine g_aload_n (pc := 14) dX11_undo_14 rfl ?_
  refine g_dup (pc := 15) dX11_undo_15 rfl ?_
  refine g_getfield (pc := 16) f_X11_206_11 dX11_undo_16 hI.1 mf_36 ?_
  rw [e36]
  refine g_iconst (pc := 19) (v := 1) dX11_undo_19 (by decide) ?_
  refine g_isub (pc := 20) dX11_undo_20 ?_
  rw [nI_pred]
  refine m_put (pc := 21) hI w_X11_206_11 rfl (by decide) dX11_undo_21 (fun h hI fr => ?_)
  replace hF := mFr.tr hF fr
  refine g_aload_n (pc := 24) dX11_undo_24 rfl ?_
  refine g_getfield (pc := 25) f_X11_79_11 dX11_undo_25 hI.1 mf_33 ?_
  refine g_aload_n (pc := 28) dX11_undo_28 rfl ?_
  refine g_getfield (pc := 29) f_X11_206_11 dX11_undo_29 hI.1 mf_36 ?_
  rw [sv_same]
  refine g_aaload (pc := 32) (t := 5) rfl rfl dX11_undo_32 (mG hI 33 16 rfl (by decide)) rfl (by omega) (by decide) rfl ?_
  refine g_aload_n (pc := 33) dX11_undo_33 rfl ?_
  refine g_getfield (pc := 34) f_X11_73_11 dX11_undo_34 hI.1 mf_31 ?_
  refine m_cSv (pc := 37) (M' := mX11_copies) (as := [_, _]) i_X11_325 eX11_copies dX11_undo_37 (c_copB hI n h16) (by omega) rfl rfl (Nat.le_of_ble_eq_true rfl) (fun h hI fr => ?_)
  replace hF := mFr.tr hF fr
  rw [e33] at hI
  refine g_aload_n (pc := 40) dX11_undo_40 rfl ?_
  refine g_iconst (pc := 41) (v := 0) dX11_undo_41 (by decide) ?_
  refine m_put (pc := 42) hI w_X11_209_11 rfl (by decide) dX11_undo_42 (fun h hI fr => ?_)
  replace hF := mFr.tr hF fr
  refine g_aload_n (pc := 45) dX11_undo_45 rfl ?_
  refine g_getfield (pc := 46) f_X11_206_11 dX11_undo_46 hI.1 mf_36 ?_
  refine g_ireturn (pc := 49) dX11_undo_49 rfl (by first | exact rfl | exact j_nb _) ?_
  exact ⟨by rw [sv_nj (by decide), svR_ne (by decide), sv_same], hI, hF⟩
def feeW (a b c e f : Int32) (k : Nat) : Int32 := if k < 4 then a else if k < 8 then b else if k < 12 then c else if k < 16 then e else f
def feeB (a b c e f : Int32) (k : Nat) : Int32 := (feeW a b c e f k >>> ((24 - 8 * nI (k % 4)) &&& 31)) &&& 255
def feeF (a b c e f : Int32) (V : mV) (T k : Nat) : mV := sv (svR V 9 (fun q => if T ≤ q ∧ q < T + k then feeB a b c e f (q - T) else V 9 q)) 0 1 (nI (T + k))
theorem feeF_0 {a b c e f : Int32} {V : mV} {T : Nat} (h : V 0 1 = nI T) : feeF a b c e f V T 0 = V := by
  unfold feeF
  rw [show (fun q => if T ≤ q ∧ q < T + 0 then feeB a b c e f (q - T) else V 9 q) = V 9 from funext fun q => if_neg (by omega), svR_self, Nat.add_zero, ← h, sv_self]
theorem feeF_s {a b c e f : Int32} {V : mV} {T k : Nat} : sv (sv (feeF a b c e f V T k) 9 (T + k) (feeB a b c e f k)) 0 1 (nI (T + k + 1)) = feeF a b c e f V T (k + 1) := by
  unfold feeF
  rw [sv_cm (r := 0) (r' := 9) (Or.inl (by decide)), sv_sv, sv_svR]
  congr 2
  funext q
  unfold j_up
  by_cases e1 : q = T + k
  · rw [if_pos e1, if_pos (by omega), show q - T = k by omega]
  · rw [if_neg e1]
    show (if T ≤ q ∧ q < T + k then feeB a b c e f (q - T) else V 9 q) = _
    by_cases e2 : T ≤ q ∧ q < T + k
    · rw [if_pos e2, if_pos (by omega)]
    · rw [if_neg e2, if_neg (by omega)]
theorem feeF_1 {a b c e f : Int32} {V : mV} {T k : Nat} : feeF a b c e f V T k 0 1 = nI (T + k) := sv_same
set_option maxHeartbeats 4000000 in
theorem l_feed {bc bs : Nat} {h0 : jH} (a b c e f : Int32) (T : Nat) (hT : T + 20 ≤ 600) : ∀ (m k : Nat) (u : Option jV) (h : jH), 20 - k = m → k ≤ 20 → InvM am (feeF a b c e f V T k) h → mFr h0 h → G E d bc bs mX11_feed 23 [some (vR (nMo am)), some (vI a), some (vI b), some (vI c), some (vI e), some (vI f), some (vI (nI k)), u] [] h (mQ am (feeF a b c e f V T 20) h0 (some (vI (nI (T + 20))))) := by
  intro m
  induction m with
  | zero =>
    intro k u h hm hk hI hF
    have e9 : k = 20 := by omega
    subst e9
    refine g_iload (pc := 23) dX11_feed_23 rfl ?_
    refine g_bipush (pc := 25) (v := 20) dX11_feed_25 (by decide) ?_
    refine g_icmp_ge (pc := 27) 120 dX11_feed_27 (by decide) (fun c_27 => ?_) (fun c_27 => absurd (by decide) c_27)
    refine g_aload_n (pc := 120) dX11_feed_120 rfl ?_
    refine g_getfield (pc := 121) f_X11_106_11 dX11_feed_121 hI.1 mf_1 ?_
    refine g_ireturn (pc := 124) dX11_feed_124 rfl (by first | exact rfl | exact j_nb _) ?_
    exact ⟨by rw [feeF_1], hI, hF⟩
  | succ m ih =>
    intro k u h hm hk hI hF
    have key : ∀ w, w = feeW a b c e f k → G E d bc bs mX11_feed 76 [some (vR (nMo am)), some (vI a), some (vI b), some (vI c), some (vI e), some (vI f), some (vI (nI k)), u] [vI w] h (mQ am (feeF a b c e f V T 20) h0 (some (vI (nI (T + 20))))) := by
      intro w hw
      refine g_istore (pc := 76) (ls' := [_, _, _, _, _, _, _, _]) dX11_feed_76 (by decide) rfl rfl ?_
      refine g_aload_n (pc := 78) dX11_feed_78 rfl ?_
      refine g_getfield (pc := 79) f_X11_13_11 dX11_feed_79 hI.1 mf_9 ?_
      refine g_aload_n (pc := 82) dX11_feed_82 rfl ?_
      refine g_getfield (pc := 83) f_X11_106_11 dX11_feed_83 hI.1 mf_1 ?_
      rw [feeF_1]
      refine g_iload (pc := 86) dX11_feed_86 rfl ?_
      refine g_bipush (pc := 88) (v := 24) dX11_feed_88 (by decide) ?_
      refine g_bipush (pc := 90) (v := 8) dX11_feed_90 (by decide) ?_
      refine g_iload (pc := 92) dX11_feed_92 rfl ?_
      refine g_iconst (pc := 94) (v := 4) dX11_feed_94 (by decide) ?_
      refine g_irem (pc := 95) dX11_feed_95 (by decide) ?_
      rw [show (4 : Int32) = nI 4 from rfl, pk_rem (by omega) (by decide) (by decide)]
      refine g_imul (pc := 96) dX11_feed_96 ?_
      refine g_isub (pc := 97) dX11_feed_97 ?_
      refine g_ishr (pc := 98) dX11_feed_98 ?_
      refine g_sipush (pc := 99) (v := 255) dX11_feed_99 (by decide) ?_
      refine g_iand (pc := 102) dX11_feed_102 ?_
      refine m_iast (pc := 103) (k := 9) (n := 600) hI rfl (by decide) dX11_feed_103 (j := T + k) rfl (by omega) (by decide) (fun h hI fr => ?_)
      replace hF := mFr.tr hF fr
      refine g_aload_n (pc := 104) dX11_feed_104 rfl ?_
      refine g_dup (pc := 105) dX11_feed_105 rfl ?_
      refine g_getfield (pc := 106) f_X11_106_11 dX11_feed_106 hI.1 mf_1 ?_
      rw [sv_ne (by decide), feeF_1]
      refine g_iconst (pc := 109) (v := 1) dX11_feed_109 (by decide) ?_
      refine g_iadd (pc := 110) dX11_feed_110 ?_
      rw [nI_1]
      refine m_put (pc := 111) hI w_X11_106_11 rfl (by decide) dX11_feed_111 (fun h hI fr => ?_)
      replace hF := mFr.tr hF fr
      refine g_iinc (pc := 114) (ls' := [_, _, _, _, _, _, _, _]) dX11_feed_114 rfl (by first | exact nI_1 _ | exact rfl) (by decide) rfl rfl ?_
      refine g_goto (pc := 117) 23 dX11_feed_117 (by decide) ?_
      refine ih (k + 1) _ h (by omega) (by omega) ?_ hF
      rw [hw, show (feeW a b c e f k >>> ((24 - 8 * nI (k % 4)) &&& 31)) &&& 255 = feeB a b c e f k from rfl, feeF_s] at hI
      exact hI
    refine g_iload (pc := 23) dX11_feed_23 rfl ?_
    refine g_bipush (pc := 25) (v := 20) dX11_feed_25 (by decide) ?_
    refine g_icmp_ge (pc := 27) 120 dX11_feed_27 (by decide) (fun c_27 => absurd c_27 (by intro w; have := (nI_leI (a := 20) (by decide) (by omega)).mp w; omega)) (fun c_27 => ?_)
    refine g_iload (pc := 30) dX11_feed_30 rfl ?_
    refine g_iconst (pc := 32) (v := 4) dX11_feed_32 (by decide) ?_
    refine g_icmp_ge (pc := 33) 40 dX11_feed_33 (by decide) (fun c_33 => ?_) (fun c_33 => ?_)
    · refine g_iload (pc := 40) dX11_feed_40 rfl ?_
      refine g_bipush (pc := 42) (v := 8) dX11_feed_42 (by decide) ?_
      refine g_icmp_ge (pc := 44) 51 dX11_feed_44 (by decide) (fun c_44 => ?_) (fun c_44 => ?_)
      · refine g_iload (pc := 51) dX11_feed_51 rfl ?_
        refine g_bipush (pc := 53) (v := 12) dX11_feed_53 (by decide) ?_
        refine g_icmp_ge (pc := 55) 62 dX11_feed_55 (by decide) (fun c_55 => ?_) (fun c_55 => ?_)
        · refine g_iload (pc := 62) dX11_feed_62 rfl ?_
          refine g_bipush (pc := 64) (v := 16) dX11_feed_64 (by decide) ?_
          refine g_icmp_ge (pc := 66) 74 dX11_feed_66 (by decide) (fun c_66 => ?_) (fun c_66 => ?_)
          · refine g_iload (pc := 74) dX11_feed_74 rfl ?_
            refine key _ ?_
            unfold feeW
            have q33 : ¬ k < 4 := fun w => absurd c_33 (nI_ge (a := k) (b := 4) w (by decide))
            rw [if_neg q33]
            have q44 : ¬ k < 8 := fun w => absurd c_44 (nI_ge (a := k) (b := 8) w (by decide))
            rw [if_neg q44]
            have q55 : ¬ k < 12 := fun w => absurd c_55 (nI_ge (a := k) (b := 12) w (by decide))
            rw [if_neg q55]
            have q66 : ¬ k < 16 := fun w => absurd c_66 (nI_ge (a := k) (b := 16) w (by decide))
            rw [if_neg q66]
          · refine g_iload (pc := 69) dX11_feed_69 rfl ?_
            refine g_goto (pc := 71) 76 dX11_feed_71 (by decide) ?_
            refine key _ ?_
            unfold feeW
            have q33 : ¬ k < 4 := fun w => absurd c_33 (nI_ge (a := k) (b := 4) w (by decide))
            rw [if_neg q33]
            have q44 : ¬ k < 8 := fun w => absurd c_44 (nI_ge (a := k) (b := 8) w (by decide))
            rw [if_neg q44]
            have q55 : ¬ k < 12 := fun w => absurd c_55 (nI_ge (a := k) (b := 12) w (by decide))
            rw [if_neg q55]
            rw [if_pos (by rcases Nat.lt_or_ge k 16 with w | w; exact w; exact absurd (nI_le (a := 16) w (by omega)) c_66)]
        · refine g_iload_n (pc := 58) dX11_feed_58 rfl ?_
          refine g_goto (pc := 59) 76 dX11_feed_59 (by decide) ?_
          refine key _ ?_
          unfold feeW
          have q33 : ¬ k < 4 := fun w => absurd c_33 (nI_ge (a := k) (b := 4) w (by decide))
          rw [if_neg q33]
          have q44 : ¬ k < 8 := fun w => absurd c_44 (nI_ge (a := k) (b := 8) w (by decide))
          rw [if_neg q44]
          rw [if_pos (by rcases Nat.lt_or_ge k 12 with w | w; exact w; exact absurd (nI_le (a := 12) w (by omega)) c_55)]
      · refine g_iload_n (pc := 47) dX11_feed_47 rfl ?_
        refine g_goto (pc := 48) 76 dX11_feed_48 (by decide) ?_
        refine key _ ?_
        unfold feeW
        have q33 : ¬ k < 4 := fun w => absurd c_33 (nI_ge (a := k) (b := 4) w (by decide))
        rw [if_neg q33]
        rw [if_pos (by rcases Nat.lt_or_ge k 8 with w | w; exact w; exact absurd (nI_le (a := 8) w (by omega)) c_44)]
    · refine g_iload_n (pc := 36) dX11_feed_36 rfl ?_
      refine g_goto (pc := 37) 76 dX11_feed_37 (by decide) ?_
      refine key _ ?_
      unfold feeW
      rw [if_pos (by rcases Nat.lt_or_ge k 4 with w | w; exact w; exact absurd (nI_le (a := 4) w (by omega)) c_33)]
theorem c_mfeed0 (hI : InvM am V h) (a b c e f : Int32) (T : Nat) (hT : V 0 1 = nI T) (h6 : T ≤ 600) (h5 : 600 < T + 20) : Ct E d 0 0 mX11_feed [vR (nMo am), vI a, vI b, vI c, vI e, vI f] h (mQ am (thr0 V) h (some (vI (-1)))) := by
  refine ct_of (by decide) (Nat.le_of_ble_eq_true rfl) rfl ?_
  have hF : mFr h h := mFr.rf
  have e1 : thr0 V 0 1 = nI T := (sv_nj (by decide)).trans hT
  refine g_aload_n (pc := 0) dX11_feed_0 rfl ?_
  refine g_iconst (pc := 1) (v := 0) dX11_feed_1 (by decide) ?_
  refine m_put (pc := 2) hI w_X11_103_11 rfl (by decide) dX11_feed_2 (fun h hI fr => ?_)
  replace hF := mFr.tr hF fr
  change InvM am (thr0 V) h at hI
  refine g_aload_n (pc := 5) dX11_feed_5 rfl ?_
  refine g_getfield (pc := 6) f_X11_106_11 dX11_feed_6 hI.1 mf_1 ?_
  rw [e1]
  refine g_bipush (pc := 9) (v := 20) dX11_feed_9 (by decide) ?_
  refine g_iadd (pc := 11) dX11_feed_11 ?_
  rw [show (20 : Int32) = nI 20 from rfl, nI_add]
  refine g_sipush (pc := 12) (v := 600) dX11_feed_12 (by decide) ?_
  refine g_icmp_le (pc := 15) 20 dX11_feed_15 (by decide) (fun c_15 => absurd c_15 (nI_ge (a := 600) h5 (by omega))) (fun c_15 => ?_)
  refine g_iconst (pc := 18) (v := -1) dX11_feed_18 (by decide) ?_
  refine g_ireturn (pc := 19) dX11_feed_19 rfl (by first | exact rfl | exact j_nb _) ?_
  exact ⟨rfl, hI, hF⟩
theorem c_mfeed1 (hI : InvM am V h) (a b c e f : Int32) (T : Nat) (hT : V 0 1 = nI T) (h6 : T + 20 ≤ 600) : Ct E d 0 0 mX11_feed [vR (nMo am), vI a, vI b, vI c, vI e, vI f] h (mQ am (feeF a b c e f (thr0 V) T 20) h (some (vI (nI (T + 20))))) := by
  refine ct_of (by decide) (Nat.le_of_ble_eq_true rfl) rfl ?_
  have hF : mFr h h := mFr.rf
  have e1 : thr0 V 0 1 = nI T := (sv_nj (by decide)).trans hT
  refine g_aload_n (pc := 0) dX11_feed_0 rfl ?_
  refine g_iconst (pc := 1) (v := 0) dX11_feed_1 (by decide) ?_
  refine m_put (pc := 2) hI w_X11_103_11 rfl (by decide) dX11_feed_2 (fun h hI fr => ?_)
  replace hF := mFr.tr hF fr
  change InvM am (thr0 V) h at hI
  refine g_aload_n (pc := 5) dX11_feed_5 rfl ?_
  refine g_getfield (pc := 6) f_X11_106_11 dX11_feed_6 hI.1 mf_1 ?_
  rw [e1]
  refine g_bipush (pc := 9) (v := 20) dX11_feed_9 (by decide) ?_
  refine g_iadd (pc := 11) dX11_feed_11 ?_
  rw [show (20 : Int32) = nI 20 from rfl, nI_add]
  refine g_sipush (pc := 12) (v := 600) dX11_feed_12 (by decide) ?_
  refine g_icmp_le (pc := 15) 20 dX11_feed_15 (by decide) (fun c_15 => ?_) (fun c_15 => absurd (nI_le (b := 600) h6 (by decide)) c_15)
  refine g_iconst (pc := 20) (v := 0) dX11_feed_20 (by decide) ?_
  refine g_istore (pc := 21) (ls' := [_, _, _, _, _, _, _, _]) dX11_feed_21 (by decide) rfl rfl ?_
  exact l_feed a b c e f T h6 20 0 _ h rfl (Nat.zero_le _) (by rw [feeF_0 e1]; exact hI) hF
end
