/-! THE REFERENCE: years. Printed by m_q10.py -/
set_option maxRecDepth 100000
theorem drw_ex : ∃ f : Int32 → Int32, ∀ x, f x = x * 1103515245 + 12345 := ⟨_, fun _ => rfl⟩
/-- the next lot (not to be unfolded: the kernel would count) -/
noncomputable def drwS : Int32 → Int32 := Classical.choose drw_ex
theorem drwS_e (x : Int32) : drwS x = x * 1103515245 + 12345 := Classical.choose_spec drw_ex x
theorem drw_ex2 : ∃ f : Int32 → Nat → Nat, ∀ x c, f x c = ((drwS x >>> ((16 : Int32) &&& 31)) &&& 32767).toNatClampNeg % c := ⟨_, fun _ _ => rfl⟩
noncomputable def drwI : Int32 → Nat → Nat := Classical.choose drw_ex2
theorem drwI_d (x : Int32) (c : Nat) : drwI x c = ((drwS x >>> ((16 : Int32) &&& 31)) &&& 32767).toNatClampNeg % c := Classical.choose_spec drw_ex2 x c
theorem drwI_e (x : Int32) {c : Nat} (hc : 0 < c) (hc2 : c ≤ 100) : ((drwS x >>> ((16 : Int32) &&& 31)) &&& 32767) - ((drwS x >>> ((16 : Int32) &&& 31)) &&& 32767) / nI c * nI c = nI (drwI x c) ∧ drwI x c < c := by
  obtain ⟨j, hj, e⟩ := pk_andE (drwS x >>> ((16 : Int32) &&& 31)) (m := 32767) 15 (by decide)
  rw [drwI_d]
  rw [e, nI_clamp (by omega), pk_rem (by omega) hc (by omega)]
  exact ⟨rfl, Nat.mod_lt _ hc⟩
/-- a trial: its row, the lots, how many lapses -/
abbrev yS : Type := (Nat → Int32) × Int32 × Int32
/-- the sisters under s, one after another -/
noncomputable def yrL (D : Nat → Nat → Nat) (nR : Nat) (g : yS) : Nat → yS
  | 0 => g
  | s + 1 => if clI D nR (yrL D nR g s).1 s = true then (if nI (D 5 s) ≤ nI (drwI (yrL D nR g s).2.1 16) then ((yrL D nR g s).1, drwS (yrL D nR g s).2.1, (yrL D nR g s).2.2) else (lapR D nR (yrL D nR g s).1 s, drwS (yrL D nR g s).2.1, (yrL D nR g s).2.2 + 1)) else yrL D nR g s
noncomputable def yrC (lw : (Nat → Int32) → Int32) (D : Nat → Nat → Nat) (nR nP : Nat) (g : yS) : yS :=
  if 0 < nR ∧ 0 < nP then ((if ccI lw D nR g.1 (drwI g.2.1 nR) (drwI (drwS g.2.1) nP) = true then curR g.1 (drwI g.2.1 nR) (drwI (drwS g.2.1) nP) else g.1), drwS (drwS g.2.1), g.2.2) else g
noncomputable def yrD (lw : (Nat → Int32) → Int32) (D : Nat → Nat → Nat) (nS nR nP : Nat) (g : yS) : yS := (dayR nR (yrC lw D nR nP (yrL D nR g nS)).1, (yrC lw D nR nP (yrL D nR g nS)).2)
noncomputable def yrN (lw : (Nat → Int32) → Int32) (D : Nat → Nat → Nat) (nS nR nP : Nat) (g : yS) : Nat → yS
  | 0 => g
  | n + 1 => yrD lw D nS nR nP (yrN lw D nS nR nP g n)
theorem RV.mono {R : Nat → Int32} {b c : Nat} (h : RV R b) (hc : b ≤ c) : RV R c := fun r hr => (h r hr).imp id (fun ⟨x, h1, h2⟩ => ⟨x, by omega, h2⟩)
theorem half_n {x : Nat} (hx : x < 2 ^ 30) : nI x / 2 = nI (x / 2) := by rw [show (2 : Int32) = nI 2 from rfl, pk_div (by omega) (by omega) (by omega)]
theorem RV.lap {D : Nat → Nat → Nat} {nR s b : Nat} {R : Nat → Int32} (h : RV R b) (hb : b ≤ 2 ^ 30) (hs : s < 8) : RV (lapR D nR R s) b := by
  intro r hr
  unfold lapR
  rw [j_up_ne (show 16 + r ≠ 8 + s by omega)]
  unfold lapF
  by_cases q : 16 ≤ 16 + r ∧ 16 + r < 16 + nR ∧ kpS D R s (16 + r - 16) = true
  · rw [if_pos q]
    rcases h r hr with e | ⟨x, h1, h2⟩
    · exfalso
      have h3 := q.2.2
      unfold kpS kpd at h3
      rw [Nat.add_sub_cancel_left, e] at h3
      simp at h3
    · refine Or.inr ⟨x / 2, by omega, ?_⟩
      rw [h2, half_n (by omega)]
  · rw [if_neg q]
    exact h r hr
theorem RV.day {nR b : Nat} {R : Nat → Int32} (h : RV R b) : RV (dayR nR R) (b + 1) := by
  intro r hr
  unfold dayR
  rw [j_up_ne (show 16 + r ≠ 44 by omega)]
  unfold dayF
  by_cases q : 16 ≤ 16 + r ∧ 16 + r < 16 + nR ∧ ¬ R (16 + r) = -1
  · rw [if_pos q]
    obtain ⟨x, h1, h2⟩ := (h r hr).resolve_left q.2.2
    exact Or.inr ⟨x + 1, by omega, by rw [h2, nI_1]⟩
  · rw [if_neg q, if_neg (by omega)]
    exact (h.mono (Nat.le_succ b)) r hr
theorem RV.cur {b r p : Nat} {R : Nat → Int32} (h : RV R b) : RV (curR R r p) b := by
  intro a ha
  unfold curR
  rw [j_up_ne (by omega), j_up_ne (by omega)]
  exact h a ha
theorem yrL_RV {D : Nat → Nat → Nat} {nR b : Nat} {g : yS} (h : RV g.1 b) (hb : b ≤ 2 ^ 30) : ∀ s, s ≤ 8 → RV (yrL D nR g s).1 b
  | 0, _ => h
  | s + 1, hs => by
    have ih := yrL_RV (D := D) (nR := nR) h hb s (by omega)
    unfold yrL
    split
    · split
      · exact ih
      · exact ih.lap hb (by omega)
    · exact ih
theorem yrC_RV {lw : (Nat → Int32) → Int32} {D : Nat → Nat → Nat} {nR nP b : Nat} {g : yS} (h : RV g.1 b) : RV (yrC lw D nR nP g).1 b := by
  unfold yrC
  split
  · dsimp only
    split
    · exact h.cur
    · exact h
  · exact h
theorem yrN_RV {lw : (Nat → Int32) → Int32} {D : Nat → Nat → Nat} {nS nR nP b : Nat} {g : yS} (h : RV g.1 b) (hS : nS ≤ 8) : ∀ n, b + n ≤ 2 ^ 30 → RV (yrN lw D nS nR nP g n).1 (b + n)
  | 0, _ => h
  | n + 1, hb => (yrC_RV (yrL_RV (yrN_RV h hS n (by omega)) (by omega) nS hS)).day
/-- the world with a trial -/
def yV (V : mV) (g : yS) : mV := sv (sv (svR V 32 g.1) 0 47 g.2.1) 0 48 g.2.2
theorem svR_f0 {V : mV} {k j : Nat} {R : Nat → Int32} {y : Int32} (hk : k ≠ 0) : sv (svR V k R) 0 j y = svR (sv V 0 j y) k R := by
  funext q
  unfold sv svR
  by_cases e : q = 0
  · subst e
    have hk' : ¬ 0 = k := fun w => hk w.symm
    simp [hk']
  · by_cases f : q = k <;> simp [e, f]
    intro w
    exact absurd w hk
theorem yV_e {V : mV} {g : yS} : yV V g = svR (sv (sv V 0 47 g.2.1) 0 48 g.2.2) 32 g.1 := by unfold yV; rw [svR_f0 (by decide), svR_f0 (by decide)]
theorem yV_MT {V : mV} {D : Nat → Nat → Nat} {nS nR nP : Nat} {g : yS} (h : MT V D nS nR nP) : MT (yV V g) D nS nR nP := (h.row (k := 32) rfl).f0.f0
theorem yV_okL {V : mV} {g : yS} (h : okL V) : okL (yV V g) := ((h.row (k := 32) rfl).f0 (by decide)).f0 (by decide)
theorem yV_law {V : mV} {g : yS} : mlaw (yV V g) = mlaw V := by unfold yV; rw [mlaw_f0 (by decide), mlaw_f0 (by decide), mlaw_row (k := 32) rfl]
theorem yV_32 {V : mV} {g : yS} : yV V g 32 = g.1 := by rw [yV_e, svR_row]
theorem yV_31 {V : mV} {g : yS} : yV V g 31 = V 31 := by rw [yV_e, svR_ne (by decide), sv_ne (by decide), sv_ne (by decide)]
theorem yV_47 {V : mV} {g : yS} : yV V g 0 47 = g.2.1 := by unfold yV; rw [sv_nj (by decide), sv_same]
theorem yV_48 {V : mV} {g : yS} : yV V g 0 48 = g.2.2 := by unfold yV; rw [sv_same]
theorem yV_row {V : mV} {g : yS} {R : Nat → Int32} : svR (yV V g) 32 R = yV V (R, g.2) := by rw [yV_e, svR_svR, yV_e]
theorem yV_lot {V : mV} {g : yS} {x : Int32} : sv (yV V g) 0 47 x = yV V (g.1, x, g.2.2) := by unfold yV; rw [sv_cm (Or.inr (by decide)), sv_sv]
theorem yV_lap {V : mV} {g : yS} {x : Int32} : sv (yV V g) 0 48 x = yV V (g.1, g.2.1, x) := by unfold yV; rw [sv_sv]
def cmoI (nP : Nat) (R R' : Nat → Int32) : Int32 := onesF (bitsI (crd R') nP) 10 - onesF (bitsI (crd R) nP) 10
section
variable {E : jE} {d : Nat} {h : jH} {am : Nat → Nat} {V : mV} {D : Nat → Nat → Nat} {nS nR nP nL k : Nat}
theorem c_draw (hI : InvM am V h) (c : Nat) (hc : 0 < c) (hc2 : c ≤ 100) : Ct E d 0 0 mX11_draw [vR (nMo am), vI (nI c)] h (mQ am (sv V 0 47 (drwS (V 0 47))) h (some (vI (nI (drwI (V 0 47) c))))) := by
  refine ct_of (by decide) (Nat.le_of_ble_eq_true rfl) rfl ?_
  have hF : mFr h h := mFr.rf
  refine g_aload_n (pc := 0) dX11_draw_0 rfl ?_
  refine g_aload_n (pc := 1) dX11_draw_1 rfl ?_
  refine g_getfield (pc := 2) f_X11_388_11 dX11_draw_2 hI.1 mf_47 ?_
  refine g_ldcw (pc := 5) (v := 1103515245) dX11_draw_5 q2543 ?_
  refine g_imul (pc := 8) dX11_draw_8 ?_
  refine g_sipush (pc := 9) (v := 12345) dX11_draw_9 (by decide) ?_
  refine g_iadd (pc := 12) dX11_draw_12 ?_
  refine m_put (pc := 13) hI w_X11_388_11 rfl (by decide) dX11_draw_13 (fun h hI fr => ?_)
  replace hF := mFr.tr hF fr
  rw [← drwS_e] at hI
  refine g_aload_n (pc := 16) dX11_draw_16 rfl ?_
  refine g_getfield (pc := 17) f_X11_388_11 dX11_draw_17 hI.1 mf_47 ?_
  rw [sv_same]
  refine g_bipush (pc := 20) (v := 16) dX11_draw_20 (by decide) ?_
  refine g_ishr (pc := 22) dX11_draw_22 ?_
  refine g_sipush (pc := 23) (v := 32767) dX11_draw_23 (by decide) ?_
  refine g_iand (pc := 26) dX11_draw_26 ?_
  refine g_iload_n (pc := 27) dX11_draw_27 rfl ?_
  refine g_irem (pc := 28) dX11_draw_28 (nI_ne0 hc (by omega)) ?_
  rw [(drwI_e _ hc hc2).1]
  refine g_ireturn (pc := 29) dX11_draw_29 rfl (by first | exact rfl | exact j_nb _) ?_
  exact ⟨rfl, hI, hF⟩
set_option maxHeartbeats 4000000 in
theorem l_yr1 {bc bs : Nat} {h0 : jH} {Q : jR → jH → Prop} (hd : 5 ≤ d) (hT0 : MT V D nS nR nP) (x : Int32) (n k : Nat) (g : yS) (hg : RV g.1 (2 ^ 30)) (kk : ∀ h, InvM am (yV V (yrL D nR g nS)) h → mFr h0 h → G E d bc bs mX11_yearBy 104 [some (vR (nMo am)), some (vI x), some (vI (nI n)), some (vI (nI k)), some (vI (nI nS))] [] h Q) : ∀ (m s : Nat) (h : jH), nS - s = m → s ≤ nS → InvM am (yV V (yrL D nR g s)) h → mFr h0 h → G E d bc bs mX11_yearBy 31 [some (vR (nMo am)), some (vI x), some (vI (nI n)), some (vI (nI k)), some (vI (nI s))] [] h Q := by
  intro m
  have b8 := hT0.2.2.2.1
  induction m with
  | zero =>
    intro s h hm hs hI hF
    have e : s = nS := by omega
    subst e
    have hT := yV_MT (g := yrL D nR g s) hT0
    refine g_iload (pc := 31) dX11_yearBy_31 rfl ?_
    refine g_aload_n (pc := 33) dX11_yearBy_33 rfl ?_
    refine g_getfield (pc := 34) f_X11_23_11 dX11_yearBy_34 hI.1 mf_12 ?_
    refine g_iconst (pc := 37) (v := 0) dX11_yearBy_37 (by decide) ?_
    refine g_iaload (pc := 38) dX11_yearBy_38 (mA hI 12 3 rfl (by decide)) (j := 0) (by decide) (by omega) (by decide) rfl ?_
    rw [hT.1]
    refine g_icmp_ge (pc := 39) 104 dX11_yearBy_39 (by decide) (fun c_39 => ?_) (fun c_39 => absurd (nI_le (Nat.le_refl _) (by omega)) c_39)
    exact kk h hI hF
  | succ m ih =>
    intro s h hm hs hI hF
    have hT := yV_MT (g := yrL D nR g s) hT0
    have hts := hT.2.2.2.2.2.2.2.2 s (by omega)
    have hrv := yrL_RV (D := D) (nR := nR) hg (Nat.le_refl _) s (by omega)
    refine g_iload (pc := 31) dX11_yearBy_31 rfl ?_
    refine g_aload_n (pc := 33) dX11_yearBy_33 rfl ?_
    refine g_getfield (pc := 34) f_X11_23_11 dX11_yearBy_34 hI.1 mf_12 ?_
    refine g_iconst (pc := 37) (v := 0) dX11_yearBy_37 (by decide) ?_
    refine g_iaload (pc := 38) dX11_yearBy_38 (mA hI 12 3 rfl (by decide)) (j := 0) (by decide) (by omega) (by decide) rfl ?_
    rw [hT.1]
    refine g_icmp_ge (pc := 39) 104 dX11_yearBy_39 (by decide) (fun c_39 => absurd c_39 (by intro w; have := (nI_leI (by omega) (by omega)).mp w; omega)) (fun c_39 => ?_)
    refine g_aload_n (pc := 42) dX11_yearBy_42 rfl ?_
    refine g_aload_n (pc := 43) dX11_yearBy_43 rfl ?_
    refine g_getfield (pc := 44) f_X11_76_11 dX11_yearBy_44 hI.1 mf_32 ?_
    refine g_iload (pc := 47) dX11_yearBy_47 rfl ?_
    refine m_cP (pc := 49) (M' := mX11_canLapse) (as := [_, _]) i_X11_296_11 eX11_canLapse hI dX11_yearBy_49 (c_canLapse (by omega) hI hT (k := 32) rfl s (by omega)) (by omega) rfl rfl (Nat.le_of_ble_eq_true rfl) ?_
    rw [yV_32]
    refine g_ifB_eq (pc := 52) 98 dX11_yearBy_52 (by decide) (fun c_52 => ?_) (fun c_52 => ?_)
    · refine g_iinc (pc := 98) (ls' := [_, _, _, _, _]) dX11_yearBy_98 rfl (by first | exact nI_1 _ | exact rfl) (by decide) rfl rfl ?_
      refine g_goto (pc := 101) 31 dX11_yearBy_101 (by decide) ?_
      refine ih (s + 1) h (by omega) (by omega) ?_ hF
      have e : yrL D nR g (s + 1) = _ := show (if _ then _ else _) = _ from if_neg (by rw [c_52]; decide)
      rw [e]
      exact hI
    · refine g_aload_n (pc := 55) dX11_yearBy_55 rfl ?_
      refine g_bipush (pc := 56) (v := 16) dX11_yearBy_56 (by decide) ?_
      refine m_cV (pc := 58) (M' := mX11_draw) (as := [_]) i_X11_395_11 eX11_draw hI dX11_yearBy_58 (c_draw hI 16 (by decide) (by decide)) (by omega) rfl rfl (Nat.le_of_ble_eq_true rfl) (fun h hI fr => ?_)
      replace hF := mFr.tr hF fr
      rw [yV_47] at hI
      rw [yV_lot] at hI
      rw [yV_47]
      refine g_aload_n (pc := 61) dX11_yearBy_61 rfl ?_
      refine g_getfield (pc := 62) f_X11_29_11 dX11_yearBy_62 hI.1 mf_14 ?_
      refine g_iload (pc := 65) dX11_yearBy_65 rfl ?_
      refine g_iaload (pc := 67) dX11_yearBy_67 (mA hI 14 8 rfl (by decide)) rfl (by omega) (by decide) rfl ?_
      rw [show yV V ((yrL D nR g s).1, drwS (yrL D nR g s).2.1, (yrL D nR g s).2.2) 14 = yV V (yrL D nR g s) 14 by rw [yV_e, yV_e, svR_ne (by decide), svR_ne (by decide), sv_ne (by decide), sv_ne (by decide), sv_ne (by decide), sv_ne (by decide)], hts.1]
      refine g_icmp_ge (pc := 68) 98 dX11_yearBy_68 (by decide) (fun c_68 => ?_) (fun c_68 => ?_)
      · refine g_iinc (pc := 98) (ls' := [_, _, _, _, _]) dX11_yearBy_98 rfl (by first | exact nI_1 _ | exact rfl) (by decide) rfl rfl ?_
        refine g_goto (pc := 101) 31 dX11_yearBy_101 (by decide) ?_
        refine ih (s + 1) h (by omega) (by omega) ?_ hF
        have e : yrL D nR g (s + 1) = _ := show (if _ then _ else _) = _ from (if_pos c_52).trans (if_pos c_68)
        rw [e]
        exact hI
      · refine g_aload_n (pc := 71) dX11_yearBy_71 rfl ?_
        refine g_dup (pc := 72) dX11_yearBy_72 rfl ?_
        refine g_getfield (pc := 73) f_X11_392_11 dX11_yearBy_73 hI.1 mf_48 ?_
        rw [yV_48]
        refine g_aload_n (pc := 76) dX11_yearBy_76 rfl ?_
        refine g_aload_n (pc := 77) dX11_yearBy_77 rfl ?_
        refine g_getfield (pc := 78) f_X11_76_11 dX11_yearBy_78 hI.1 mf_32 ?_
        refine g_iload (pc := 81) dX11_yearBy_81 rfl ?_
        refine m_cV (pc := 83) (M' := mX11_lapses) (as := [_, _]) i_X11_302_11 eX11_lapses hI dX11_yearBy_83 (c_lapses (by omega) hI (yV_MT hT0) (k := 32) rfl s (by omega) (by rw [yV_32]; exact hrv)) (by omega) rfl rfl (Nat.le_of_ble_eq_true rfl) (fun h hI fr => ?_)
        replace hF := mFr.tr hF fr
        rw [yV_32, c_52]
        refine g_ifB_eq (pc := 86) 93 dX11_yearBy_86 (by decide) (fun c_86 => absurd c_86 (by decide)) (fun c_86 => ?_)
        refine g_iconst (pc := 89) (v := 1) dX11_yearBy_89 (by decide) ?_
        refine g_goto (pc := 90) 94 dX11_yearBy_90 (by decide) ?_
        refine g_iadd (pc := 94) dX11_yearBy_94 ?_
        refine m_put (pc := 95) hI w_X11_392_11 rfl (by decide) dX11_yearBy_95 (fun h hI fr => ?_)
        replace hF := mFr.tr hF fr
        refine g_iinc (pc := 98) (ls' := [_, _, _, _, _]) dX11_yearBy_98 rfl (by first | exact nI_1 _ | exact rfl) (by decide) rfl rfl ?_
        refine g_goto (pc := 101) 31 dX11_yearBy_101 (by decide) ?_
        refine ih (s + 1) h (by omega) (by omega) ?_ hF
        have e : yrL D nR g (s + 1) = _ := show (if _ then _ else _) = _ from (if_pos c_52).trans (if_neg c_68)
        rw [e]
        rw [yV_32, if_pos c_52, yV_row, yV_lap] at hI
        exact hI
set_option maxHeartbeats 4000000 in
theorem l_yr2 {bc bs : Nat} {h0 : jH} (hd : 9 ≤ d) (hT0 : MT V D nS nR nP) (hl0 : okL V) (x : Int32) (n : Nat) (hn : n ≤ 96) (g : yS) (hg : RV g.1 (2 ^ 20)) : ∀ (m k : Nat) (u : Option jV) (h : jH), n - k = m → k ≤ n → InvM am (yV V (yrN (mlaw V) D nS nR nP g k)) h → mFr h0 h → G E d bc bs mX11_yearBy 23 [some (vR (nMo am)), some (vI x), some (vI (nI n)), some (vI (nI k)), u] [] h (mQ am (yV V (yrN (mlaw V) D nS nR nP g n)) h0 none) := by
  intro m
  have b8 := hT0.2.2.2.1
  have b10 := hT0.2.2.2.2.1
  have bP := hT0.2.2.2.2.2.1
  induction m with
  | zero =>
    intro k u h hm hk hI hF
    have e : k = n := by omega
    subst e
    refine g_iload_n (pc := 23) dX11_yearBy_23 rfl ?_
    refine g_iload_n (pc := 24) dX11_yearBy_24 rfl ?_
    refine g_icmp_ge (pc := 25) 169 dX11_yearBy_25 (by decide) (fun c_25 => ?_) (fun c_25 => absurd (nI_le (Nat.le_refl _) (by omega)) c_25)
    refine g_return (pc := 169) dX11_yearBy_169 rfl ?_
    exact ⟨rfl, hI, hF⟩
  | succ m ih =>
    intro k u h hm hk hI hF
    have hrv : RV (yrN (mlaw V) D nS nR nP g k).1 (2 ^ 30) := (yrN_RV hg b8 k (by omega)).mono (by omega)
    refine g_iload_n (pc := 23) dX11_yearBy_23 rfl ?_
    refine g_iload_n (pc := 24) dX11_yearBy_24 rfl ?_
    refine g_icmp_ge (pc := 25) 169 dX11_yearBy_25 (by decide) (fun c_25 => absurd c_25 (by intro w; have := (nI_leI (by omega) (by omega)).mp w; omega)) (fun c_25 => ?_)
    refine g_iconst (pc := 28) (v := 0) dX11_yearBy_28 (by decide) ?_
    refine g_istore (pc := 29) (ls' := [_, _, _, _, _]) dX11_yearBy_29 (by decide) rfl rfl ?_
    refine l_yr1 (g := yrN (mlaw V) D nS nR nP g k) (by omega) hT0 x n k hrv (fun h hI hF => ?_) nS 0 h rfl (Nat.zero_le _) hI hF
    have hT := yV_MT (g := yrL D nR (yrN (mlaw V) D nS nR nP g k) nS) hT0
    have hl := yV_okL (g := yrL D nR (yrN (mlaw V) D nS nR nP g k) nS) hl0
    generalize hgg : yrL D nR (yrN (mlaw V) D nS nR nP g k) nS = gg at hI hT hl
    have fin : ∀ (u : Option jV) (h : jH), InvM am (yV V (yrC (mlaw V) D nR nP gg)) h → mFr h0 h → G E d bc bs mX11_yearBy 155 [some (vR (nMo am)), some (vI x), some (vI (nI n)), some (vI (nI k)), u] [] h (mQ am (yV V (yrN (mlaw V) D nS nR nP g n)) h0 none) := by
      intro u h hI hF
      have hT := yV_MT (g := yrC (mlaw V) D nR nP gg) hT0
      refine g_aload_n (pc := 155) dX11_yearBy_155 rfl ?_
      refine g_aload_n (pc := 156) dX11_yearBy_156 rfl ?_
      refine g_getfield (pc := 157) f_X11_76_11 dX11_yearBy_157 hI.1 mf_32 ?_
      refine m_cVv (pc := 160) (M' := mX11_dayEnds) (as := [_]) i_X11_308_11 eX11_dayEnds hI dX11_yearBy_160 (c_dayEnds (by omega) hI hT (k := 32) rfl) (by omega) rfl rfl (Nat.le_of_ble_eq_true rfl) (fun h hI fr => ?_)
      replace hF := mFr.tr hF fr
      refine g_iinc (pc := 163) (ls' := [_, _, _, _, _]) dX11_yearBy_163 rfl (by first | exact nI_1 _ | exact rfl) (by decide) rfl rfl ?_
      refine g_goto (pc := 166) 23 dX11_yearBy_166 (by decide) ?_
      refine ih (k + 1) _ h (by omega) (by omega) ?_ hF
      show InvM am (yV V (yrD (mlaw V) D nS nR nP (yrN (mlaw V) D nS nR nP g k))) h
      unfold yrD
      rw [hgg]
      rw [yV_32, yV_row] at hI
      exact hI
    refine g_aload_n (pc := 104) dX11_yearBy_104 rfl ?_
    refine g_getfield (pc := 105) f_X11_23_11 dX11_yearBy_105 hI.1 mf_12 ?_
    refine g_iconst (pc := 108) (v := 1) dX11_yearBy_108 (by decide) ?_
    refine g_iaload (pc := 109) dX11_yearBy_109 (mA hI 12 3 rfl (by decide)) (j := 1) (by decide) (by omega) (by decide) rfl ?_
    rw [hT.2.1]
    refine g_if_le (pc := 110) 155 dX11_yearBy_110 (by decide) (fun c_110 => ?_) (fun c_110 => ?_)
    · refine fin _ h ?_ hF
      unfold yrC
      rw [if_neg (fun q => absurd c_110 (nI_nle q.1 (by omega)))]
      exact hI
    · refine g_aload_n (pc := 113) dX11_yearBy_113 rfl ?_
      refine g_getfield (pc := 114) f_X11_23_11 dX11_yearBy_114 hI.1 mf_12 ?_
      refine g_iconst (pc := 117) (v := 2) dX11_yearBy_117 (by decide) ?_
      refine g_iaload (pc := 118) dX11_yearBy_118 (mA hI 12 3 rfl (by decide)) (j := 2) (by decide) (by omega) (by decide) rfl ?_
      rw [hT.2.2.1]
      refine g_if_le (pc := 119) 155 dX11_yearBy_119 (by decide) (fun c_119 => ?_) (fun c_119 => ?_)
      · refine fin _ h ?_ hF
        unfold yrC
        rw [if_neg (fun q => absurd c_119 (nI_nle q.2 (by omega)))]
        exact hI
      · refine g_aload_n (pc := 122) dX11_yearBy_122 rfl ?_
        refine g_aload_n (pc := 123) dX11_yearBy_123 rfl ?_
        refine g_getfield (pc := 124) f_X11_23_11 dX11_yearBy_124 hI.1 mf_12 ?_
        refine g_iconst (pc := 127) (v := 1) dX11_yearBy_127 (by decide) ?_
        refine g_iaload (pc := 128) dX11_yearBy_128 (mA hI 12 3 rfl (by decide)) (j := 1) (by decide) (by omega) (by decide) rfl ?_
        have n0 : 0 < nR := by
          rcases Nat.eq_zero_or_pos nR with q | q
          · exact absurd (by rw [q]; decide) c_110
          · exact q
        have p0 : 0 < nP := by
          rcases Nat.eq_zero_or_pos nP with q | q
          · exact absurd (by rw [q]; decide) c_119
          · exact q
        rw [hT.2.1]
        refine m_cV (pc := 129) (M' := mX11_draw) (as := [_]) i_X11_395_11 eX11_draw hI dX11_yearBy_129 (c_draw hI nR n0 (by omega)) (by omega) rfl rfl (Nat.le_of_ble_eq_true rfl) (fun h hI fr => ?_)
        replace hF := mFr.tr hF fr
        rw [yV_47, yV_lot] at hI
        rw [yV_47]
        refine g_istore (pc := 132) (ls' := [_, _, _, _, _]) dX11_yearBy_132 (by decide) rfl rfl ?_
        refine g_aload_n (pc := 134) dX11_yearBy_134 rfl ?_
        refine g_aload_n (pc := 135) dX11_yearBy_135 rfl ?_
        refine g_getfield (pc := 136) f_X11_76_11 dX11_yearBy_136 hI.1 mf_32 ?_
        refine g_iload (pc := 139) dX11_yearBy_139 rfl ?_
        refine g_aload_n (pc := 141) dX11_yearBy_141 rfl ?_
        refine g_aload_n (pc := 142) dX11_yearBy_142 rfl ?_
        refine g_getfield (pc := 143) f_X11_23_11 dX11_yearBy_143 hI.1 mf_12 ?_
        refine g_iconst (pc := 146) (v := 2) dX11_yearBy_146 (by decide) ?_
        refine g_iaload (pc := 147) dX11_yearBy_147 (mA hI 12 3 rfl (by decide)) (j := 2) (by decide) (by omega) (by decide) rfl ?_
        rw [(yV_MT hT0).2.2.1]
        refine m_cV (pc := 148) (M' := mX11_draw) (as := [_]) i_X11_395_11 eX11_draw hI dX11_yearBy_148 (c_draw hI nP p0 (by omega)) (by omega) rfl rfl (Nat.le_of_ble_eq_true rfl) (fun h hI fr => ?_)
        replace hF := mFr.tr hF fr
        rw [yV_47, yV_lot] at hI
        rw [yV_47]
        refine m_cV (pc := 151) (M' := mX11_cures) (as := [_, _, _]) i_X11_305_11 eX11_cures hI dX11_yearBy_151 (c_cures (by omega) hI (yV_MT hT0) (yV_okL hl0) (k := 32) rfl _ _ (drwI_e _ n0 (by omega)).2 (drwI_e _ p0 (by omega)).2) (by omega) rfl rfl (Nat.le_of_ble_eq_true rfl) (fun h hI fr => ?_)
        replace hF := mFr.tr hF fr
        refine g_pop (pc := 154) dX11_yearBy_154 rfl ?_
        refine fin _ h ?_ hF
        unfold yrC
        rw [if_pos ⟨n0, p0⟩]
        rw [yV_32, yV_law] at hI
        by_cases q : ccI (mlaw V) D nR gg.1 (drwI gg.2.1 nR) (drwI (drwS gg.2.1) nP) = true
        · rw [if_pos q, yV_row] at hI
          rw [if_pos q]
          exact hI
        · rw [if_neg q] at hI
          rw [if_neg q]
          exact hI
theorem c_yearBy (hd : 9 ≤ d) (hI : InvM am V h) (hT : MT V D nS nR nP) (hl : okL V) (hrv : RV (V 31) (2 ^ 20)) (x : Int32) (n : Nat) (hn : n ≤ 96) : Ct E d 0 0 mX11_yearBy [vR (nMo am), vI x, vI (nI n)] h (mQ am (yV V (yrN (mlaw V) D nS nR nP (V 31, x, 0) n)) h none) := by
  refine ct_of (by decide) (Nat.le_of_ble_eq_true rfl) rfl ?_
  have hF : mFr h h := mFr.rf
  refine g_aload_n (pc := 0) dX11_yearBy_0 rfl ?_
  refine g_getfield (pc := 1) f_X11_73_11 dX11_yearBy_1 hI.1 mf_31 ?_
  refine g_aload_n (pc := 4) dX11_yearBy_4 rfl ?_
  refine g_getfield (pc := 5) f_X11_76_11 dX11_yearBy_5 hI.1 mf_32 ?_
  refine m_cSv (pc := 8) (M' := mX11_copies) (as := [_, _]) i_X11_325 eX11_copies dX11_yearBy_8 (c_copT hI) (by omega) rfl rfl (Nat.le_of_ble_eq_true rfl) (fun h hI fr => ?_)
  replace hF := mFr.tr hF fr
  refine g_aload_n (pc := 11) dX11_yearBy_11 rfl ?_
  refine g_iload_n (pc := 12) dX11_yearBy_12 rfl ?_
  refine m_put (pc := 13) hI w_X11_388_11 rfl (by decide) dX11_yearBy_13 (fun h hI fr => ?_)
  replace hF := mFr.tr hF fr
  refine g_aload_n (pc := 16) dX11_yearBy_16 rfl ?_
  refine g_iconst (pc := 17) (v := 0) dX11_yearBy_17 (by decide) ?_
  refine m_put (pc := 18) hI w_X11_392_11 rfl (by decide) dX11_yearBy_18 (fun h hI fr => ?_)
  replace hF := mFr.tr hF fr
  refine g_iconst (pc := 21) (v := 0) dX11_yearBy_21 (by decide) ?_
  refine g_istore_n (pc := 22) (ls' := [_, _, _, _, _]) dX11_yearBy_22 (by decide) rfl rfl ?_
  exact l_yr2 (g := (V 31, x, 0)) hd hT hl x n hn hrv n 0 _ h rfl (Nat.zero_le _) hI hF
theorem c_curedMore (hd : 1 ≤ d) (hI : InvM am V h) (hT : MT V D nS nR nP) : Ct E d 0 0 mX11_curedMore [vR (nMo am)] h (qR (some (vI (cmoI nP (V 31) (V 32)))) h) := by
  refine ct_of (by decide) (Nat.le_of_ble_eq_true rfl) rfl ?_
  refine g_aload_n (pc := 0) dX11_curedMore_0 rfl ?_
  refine g_aload_n (pc := 1) dX11_curedMore_1 rfl ?_
  refine g_getfield (pc := 2) f_X11_76_11 dX11_curedMore_2 hI.1 mf_32 ?_
  refine m_cP (pc := 5) (M' := mX11_curedIn) (as := [_]) i_X11_329_11 eX11_curedIn hI dX11_curedMore_5 (c_curedIn hI hT (k := 32) rfl) (by omega) rfl rfl (Nat.le_of_ble_eq_true rfl) ?_
  refine g_cS (pc := 8) (M' := mX11_ones) (as := [_]) i_X11_278 eX11_ones dX11_curedMore_8 (c_ones _) (by omega) rfl rfl (Nat.le_of_ble_eq_true rfl) ?_
  refine g_aload_n (pc := 11) dX11_curedMore_11 rfl ?_
  refine g_aload_n (pc := 12) dX11_curedMore_12 rfl ?_
  refine g_getfield (pc := 13) f_X11_73_11 dX11_curedMore_13 hI.1 mf_31 ?_
  refine m_cP (pc := 16) (M' := mX11_curedIn) (as := [_]) i_X11_329_11 eX11_curedIn hI dX11_curedMore_16 (c_curedIn hI hT (k := 31) rfl) (by omega) rfl rfl (Nat.le_of_ble_eq_true rfl) ?_
  refine g_cS (pc := 19) (M' := mX11_ones) (as := [_]) i_X11_278 eX11_ones dX11_curedMore_19 (c_ones _) (by omega) rfl rfl (Nat.le_of_ble_eq_true rfl) ?_
  refine g_isub (pc := 22) dX11_curedMore_22 ?_
  refine g_ireturn (pc := 23) dX11_curedMore_23 rfl (by first | exact rfl | exact j_nb _) ?_
  exact ⟨rfl, rfl⟩
theorem r_myear (hd : 1 ≤ d) (hI : InvM am V h) (x n w : Int32) (hv : (inR n 1 96 && inR w 0 3) = false) : Ct E d 0 0 mX11_year [vR (nMo am), vI x, vI n, vI w] h (mQ am (refV V 1 1) h (some (vI 0))) := by
  refine ct_of (by decide) (Nat.le_of_ble_eq_true rfl) rfl ?_
  have hF : mFr h h := mFr.rf
  refine g_aload_n (pc := 0) dX11_year_0 rfl ?_
  refine g_iconst (pc := 1) (v := 0) dX11_year_1 (by decide) ?_
  refine m_put (pc := 2) hI w_X11_103_11 rfl (by decide) dX11_year_2 (fun h hI fr => ?_)
  replace hF := mFr.tr hF fr
  change InvM am (thr0 V) h at hI
  refine g_aload_n (pc := 5) dX11_year_5 rfl ?_
  refine g_iload_n (pc := 6) dX11_year_6 rfl ?_
  refine g_iconst (pc := 7) (v := 1) dX11_year_7 (by decide) ?_
  refine g_bipush (pc := 8) (v := 96) dX11_year_8 (by decide) ?_
  refine g_cS (pc := 10) (M' := mX11_in) (as := [_, _, _]) i_X11_137 eX11_in dX11_year_10 (c_in _ _ _) (by omega) rfl rfl (Nat.le_of_ble_eq_true rfl) ?_
  refine g_ifB_eq (pc := 13) 25 dX11_year_13 (by decide) (fun c_13 => ?_) (fun c_13 => ?_)
  · refine g_iconst (pc := 25) (v := 1) dX11_year_25 (by decide) ?_
    refine g_goto (pc := 26) 30 dX11_year_26 (by decide) ?_
    refine g_iconst (pc := 30) (v := 1) dX11_year_30 (by decide) ?_
    refine g_iconst (pc := 31) (v := 1) dX11_year_31 (by decide) ?_
    refine m_cV (pc := 32) (M' := mX11_bad) (as := [_, _, _]) i_X11_183_11 eX11_bad hI dX11_year_32 (c_badT hI thr0_0 1 (by decide) 1 (by decide)) (by omega) rfl rfl (Nat.le_of_ble_eq_true rfl) (fun h hI fr => ?_)
    replace hF := mFr.tr hF fr
    refine g_ifB_eq (pc := 35) 40 dX11_year_35 (by decide) (fun c_35 => absurd c_35 (by decide)) (fun c_35 => ?_)
    refine g_iconst (pc := 38) (v := 0) dX11_year_38 (by decide) ?_
    refine g_ireturn (pc := 39) dX11_year_39 rfl (by first | exact rfl | exact j_nb _) ?_
    rw [refV_thr0] at hI
    exact ⟨rfl, hI, hF⟩
  · refine g_iload_n (pc := 16) dX11_year_16 rfl ?_
    refine g_iconst (pc := 17) (v := 0) dX11_year_17 (by decide) ?_
    refine g_iconst (pc := 18) (v := 3) dX11_year_18 (by decide) ?_
    refine g_cS (pc := 19) (M' := mX11_in) (as := [_, _, _]) i_X11_137 eX11_in dX11_year_19 (c_in _ _ _) (by omega) rfl rfl (Nat.le_of_ble_eq_true rfl) ?_
    refine g_ifB_ne (pc := 22) 29 dX11_year_22 (by decide) (fun c_22 => ?_) (fun c_22 => ?_)
    · exfalso
      rw [c_13, c_22] at hv
      cases hv
    · refine g_iconst (pc := 25) (v := 1) dX11_year_25 (by decide) ?_
      refine g_goto (pc := 26) 30 dX11_year_26 (by decide) ?_
      refine g_iconst (pc := 30) (v := 1) dX11_year_30 (by decide) ?_
      refine g_iconst (pc := 31) (v := 1) dX11_year_31 (by decide) ?_
      refine m_cV (pc := 32) (M' := mX11_bad) (as := [_, _, _]) i_X11_183_11 eX11_bad hI dX11_year_32 (c_badT hI thr0_0 1 (by decide) 1 (by decide)) (by omega) rfl rfl (Nat.le_of_ble_eq_true rfl) (fun h hI fr => ?_)
      replace hF := mFr.tr hF fr
      refine g_ifB_eq (pc := 35) 40 dX11_year_35 (by decide) (fun c_35 => absurd c_35 (by decide)) (fun c_35 => ?_)
      refine g_iconst (pc := 38) (v := 0) dX11_year_38 (by decide) ?_
      refine g_ireturn (pc := 39) dX11_year_39 rfl (by first | exact rfl | exact j_nb _) ?_
      rw [refV_thr0] at hI
      exact ⟨rfl, hI, hF⟩
theorem in1_of {j n : Nat} (h1 : 1 ≤ j) (h : j ≤ n) (hn : n ≤ 1000000) : inR (nI j) 1 (nI n) = true := by
  unfold inR
  rw [show (1 : Int32) = nI 1 from rfl, decide_eq_false (nI_nlt h1 (by omega)), decide_eq_false (nI_nlt h (by omega))]
  rfl
theorem of_in1 {w : Int32} {n : Nat} (h : inR w 1 (nI n) = true) (hn : n ≤ 1000000) : ∃ j, 1 ≤ j ∧ j ≤ n ∧ w = nI j := by
  unfold inR at h
  rw [Bool.and_eq_true, Bool.not_eq_true', Bool.not_eq_true', decide_eq_false_iff_not, decide_eq_false_iff_not] at h
  have h0 : ¬ w < 0 := fun q => h.1 (by
    rw [Int32.lt_iff_toInt_lt] at q ⊢
    have e0 : (0 : Int32).toInt = 0 := by decide
    have e1 : (1 : Int32).toInt = 1 := by decide
    omega)
  obtain ⟨j, hj, rfl⟩ := nI_of h0
  have h1 := h.1
  have h2 := h.2
  rw [show (1 : Int32) = nI 1 from rfl, nI_ltI hj (by omega)] at h1
  rw [nI_ltI (by omega) hj] at h2
  exact ⟨j, by omega, by omega, rfl⟩
def yeaS (lw : (Nat → Int32) → Int32) (D : Nat → Nat → Nat) (nR nP : Nat) (R : Nat → Int32) (g : yS) : Nat → Int32
  | 0 => cmoI nP R g.1 | 1 => g.2.2 | 2 => sumI (pwr lw D nR g.1) nR | _ => bitsI (crd g.1) nP
/-- an answer; the trial and what belongs to it are of no account -/
def mQy (am : Nat → Nat) (V : mV) (h : jH) (v : Int32) : jR → jH → Prop := fun r h' => r = .inl (some (vI v)) ∧ (∃ g, InvM am (yV V g) h') ∧ mFr h h'
set_option maxHeartbeats 4000000 in
theorem c_myear (hd : 11 ≤ d) (hI : InvM am V h) (hT : MT V D nS nR nP) (hl : okL V) (hrv : RV (V 31) (2 ^ 20)) (x : Int32) (n w : Nat) (h1 : 1 ≤ n) (hn : n ≤ 96) (hw : w ≤ 3) : Ct E d 0 0 mX11_year [vR (nMo am), vI x, vI (nI n), vI (nI w)] h (mQy am (thr0 V) h (yeaS (mlaw V) D nR nP (V 31) (yrN (mlaw V) D nS nR nP (V 31, x, 0) n) w)) := by
  refine ct_of (by decide) (Nat.le_of_ble_eq_true rfl) rfl ?_
  have hF : mFr h h := mFr.rf
  have hT := MT.f0 (j := 0) (y := 0) hT
  change MT (thr0 V) D nS nR nP at hT
  have b8 := hT.2.2.2.1
  have b10 := hT.2.2.2.2.1
  have bP := hT.2.2.2.2.2.1
  have hl := okL.f0 (j := 0) (y := 0) hl (by decide)
  change okL (thr0 V) at hl
  have hu : inR (nI n) 1 96 = true := in1_of (n := 96) h1 hn (by decide)
  have hv : inR (nI w) 0 3 = true := inC_of (n := 3) hw (by decide)
  refine g_aload_n (pc := 0) dX11_year_0 rfl ?_
  refine g_iconst (pc := 1) (v := 0) dX11_year_1 (by decide) ?_
  refine m_put (pc := 2) hI w_X11_103_11 rfl (by decide) dX11_year_2 (fun h hI fr => ?_)
  replace hF := mFr.tr hF fr
  change InvM am (thr0 V) h at hI
  refine g_aload_n (pc := 5) dX11_year_5 rfl ?_
  refine g_iload_n (pc := 6) dX11_year_6 rfl ?_
  refine g_iconst (pc := 7) (v := 1) dX11_year_7 (by decide) ?_
  refine g_bipush (pc := 8) (v := 96) dX11_year_8 (by decide) ?_
  refine g_cS (pc := 10) (M' := mX11_in) (as := [_, _, _]) i_X11_137 eX11_in dX11_year_10 (c_in _ _ _) (by omega) rfl rfl (Nat.le_of_ble_eq_true rfl) ?_
  refine g_ifB_eq (pc := 13) 25 dX11_year_13 (by decide) (fun c_13 => absurd (hu.symm.trans c_13) (by decide)) (fun c_13 => ?_)
  refine g_iload_n (pc := 16) dX11_year_16 rfl ?_
  refine g_iconst (pc := 17) (v := 0) dX11_year_17 (by decide) ?_
  refine g_iconst (pc := 18) (v := 3) dX11_year_18 (by decide) ?_
  refine g_cS (pc := 19) (M' := mX11_in) (as := [_, _, _]) i_X11_137 eX11_in dX11_year_19 (c_in _ _ _) (by omega) rfl rfl (Nat.le_of_ble_eq_true rfl) ?_
  refine g_ifB_ne (pc := 22) 29 dX11_year_22 (by decide) (fun c_22 => ?_) (fun c_22 => absurd (hv.symm.trans c_22) (by decide))
  refine g_iconst (pc := 29) (v := 0) dX11_year_29 (by decide) ?_
  refine g_iconst (pc := 30) (v := 1) dX11_year_30 (by decide) ?_
  refine g_iconst (pc := 31) (v := 1) dX11_year_31 (by decide) ?_
  refine m_cV (pc := 32) (M' := mX11_bad) (as := [_, _, _]) i_X11_183_11 eX11_bad hI dX11_year_32 (c_badF hI thr0_0 1 1 (by decide)) (by omega) rfl rfl (Nat.le_of_ble_eq_true rfl) (fun h hI fr => ?_)
  replace hF := mFr.tr hF fr
  refine g_ifB_eq (pc := 35) 40 dX11_year_35 (by decide) (fun c_35 => ?_) (fun c_35 => absurd c_35 (by decide))
  refine g_aload_n (pc := 40) dX11_year_40 rfl ?_
  refine g_iload_n (pc := 41) dX11_year_41 rfl ?_
  refine g_iload_n (pc := 42) dX11_year_42 rfl ?_
  refine m_cVv (pc := 43) (M' := mX11_yearBy) (as := [_, _]) i_X11_398_11 eX11_yearBy hI dX11_year_43 (c_yearBy (by omega) hI hT hl (by rw [thr0_now]; exact hrv) x n hn) (by omega) rfl rfl (Nat.le_of_ble_eq_true rfl) (fun h hI fr => ?_)
  replace hF := mFr.tr hF fr
  rw [thr0_law, thr0_now] at hI
  have hT := yV_MT (g := yrN (mlaw V) D nS nR nP (V 31, x, 0) n) hT
  have hl := yV_okL (g := yrN (mlaw V) D nS nR nP (V 31, x, 0) n) hl
  refine g_iload_n (pc := 46) dX11_year_46 rfl ?_
  have hxx : w = 0 ∨ w = 1 ∨ w = 2 ∨ w = 3 := by omega
  rcases hxx with rfl | rfl | rfl | rfl
  · refine g_tableIn (pc := 47) (off := 25) 72 dX11_year_47 (by decide) (by decide) (by decide) (by decide) ?_
    refine g_aload_n (pc := 72) dX11_year_72 rfl ?_
    refine m_cP (pc := 73) (M' := mX11_curedMore) (as := []) i_X11_401_11 eX11_curedMore hI dX11_year_73 (c_curedMore (by omega) hI hT) (by omega) rfl rfl (Nat.le_of_ble_eq_true rfl) ?_
    refine g_ireturn (pc := 76) dX11_year_76 rfl (by first | exact rfl | exact j_nb _) ?_
    refine ⟨?_, ⟨_, hI⟩, hF⟩
    rw [yV_31, yV_32, thr0_now]
    rfl
  · refine g_tableIn (pc := 47) (off := 30) 77 dX11_year_47 (by decide) (by decide) (by decide) (by decide) ?_
    refine g_aload_n (pc := 77) dX11_year_77 rfl ?_
    refine g_getfield (pc := 78) f_X11_392_11 dX11_year_78 hI.1 mf_48 ?_
    refine g_ireturn (pc := 81) dX11_year_81 rfl (by first | exact rfl | exact j_nb _) ?_
    refine ⟨?_, ⟨_, hI⟩, hF⟩
    rw [yV_48]
    rfl
  · refine g_tableIn (pc := 47) (off := 35) 82 dX11_year_47 (by decide) (by decide) (by decide) (by decide) ?_
    refine g_aload_n (pc := 82) dX11_year_82 rfl ?_
    refine g_aload_n (pc := 83) dX11_year_83 rfl ?_
    refine g_getfield (pc := 84) f_X11_76_11 dX11_year_84 hI.1 mf_32 ?_
    refine m_cP (pc := 87) (M' := mX11_powersIn) (as := [_]) i_X11_333_11 eX11_powersIn hI dX11_year_87 (c_powersIn (by omega) hI hT hl (k := 32) rfl) (by omega) rfl rfl (Nat.le_of_ble_eq_true rfl) ?_
    refine g_ireturn (pc := 90) dX11_year_90 rfl (by first | exact rfl | exact j_nb _) ?_
    refine ⟨?_, ⟨_, hI⟩, hF⟩
    rw [yV_32, yV_law, thr0_law]
    rfl
  · refine g_tableOut (pc := 47) 91 dX11_year_47 (by decide) (by decide) ?_
    refine g_aload_n (pc := 91) dX11_year_91 rfl ?_
    refine g_aload_n (pc := 92) dX11_year_92 rfl ?_
    refine g_getfield (pc := 93) f_X11_76_11 dX11_year_93 hI.1 mf_32 ?_
    refine m_cP (pc := 96) (M' := mX11_curedIn) (as := [_]) i_X11_329_11 eX11_curedIn hI dX11_year_96 (c_curedIn hI hT (k := 32) rfl) (by omega) rfl rfl (Nat.le_of_ble_eq_true rfl) ?_
    refine g_ireturn (pc := 99) dX11_year_99 rfl (by first | exact rfl | exact j_nb _) ?_
    refine ⟨?_, ⟨_, hI⟩, hF⟩
    rw [yV_32]
    rfl
def spaF (c : Nat → Int32) (q : Nat → Bool) : Nat → Int32 × Int32 × Int32
  | 0 => (-1, 0, 0)
  | k + 1 => ((if (spaF c q k).1 = -1 then c k else lessI (spaF c q k).1 (c k)), moreI (spaF c q k).2.1 (c k), (spaF c q k).2.2 + bI (q k))
def spaI (w : Int32) (s : Int32 × Int32 × Int32) : Int32 := if w = 0 then s.1 else if w = 1 then s.2.1 else s.2.2
noncomputable def spC (lw : (Nat → Int32) → Int32) (D : Nat → Nat → Nat) (nS nR nP : Nat) (R : Nat → Int32) (x : Int32) (n k : Nat) : Int32 := cmoI nP R (yrN lw D nS nR nP (R, x + nI k, 0) n).1
noncomputable def spQ (lw : (Nat → Int32) → Int32) (D : Nat → Nat → Nat) (nS nR nP : Nat) (R : Nat → Int32) (x : Int32) (n p k : Nat) : Bool := hasI (bitsI (crd (yrN lw D nS nR nP (R, x + nI k, 0) n).1) nP) (nI p)
set_option maxHeartbeats 4000000 in
theorem l_span {bc bs : Nat} {h0 : jH} {Q : jR → jH → Prop} (hd : 11 ≤ d) (hT0 : MT V D nS nR nP) (hl0 : okL V) (hrv : RV (V 31) (2 ^ 20)) (x w : Int32) (c n p : Nat) (hc : c ≤ 20) (hn : n ≤ 96) (hp : p < nP) (kk : ∀ u h, (∃ g, InvM am (yV V g) h) → mFr h0 h → G E d bc bs mX11_span 154 [some (vR (nMo am)), some (vI x), some (vI (nI c)), some (vI (nI n)), some (vI w), some (vI (nI p)), some (vI (spaF (spC (mlaw V) D nS nR nP (V 31) x n) (spQ (mlaw V) D nS nR nP (V 31) x n p) c).1), some (vI (spaF (spC (mlaw V) D nS nR nP (V 31) x n) (spQ (mlaw V) D nS nR nP (V 31) x n p) c).2.1), some (vI (spaF (spC (mlaw V) D nS nR nP (V 31) x n) (spQ (mlaw V) D nS nR nP (V 31) x n p) c).2.2), some (vI (nI c)), u] [] h Q) : ∀ (m k : Nat) (u : Option jV) (h : jH), c - k = m → k ≤ c → (∃ g, InvM am (yV V g) h) → mFr h0 h → G E d bc bs mX11_span 72 [some (vR (nMo am)), some (vI x), some (vI (nI c)), some (vI (nI n)), some (vI w), some (vI (nI p)), some (vI (spaF (spC (mlaw V) D nS nR nP (V 31) x n) (spQ (mlaw V) D nS nR nP (V 31) x n p) k).1), some (vI (spaF (spC (mlaw V) D nS nR nP (V 31) x n) (spQ (mlaw V) D nS nR nP (V 31) x n p) k).2.1), some (vI (spaF (spC (mlaw V) D nS nR nP (V 31) x n) (spQ (mlaw V) D nS nR nP (V 31) x n p) k).2.2), some (vI (nI k)), u] [] h Q := by
  intro m
  have b8 := hT0.2.2.2.1
  induction m with
  | zero =>
    intro k u h hm hk hI hF
    have e : k = c := by omega
    subst e
    refine g_iload (pc := 72) dX11_span_72 rfl ?_
    refine g_iload_n (pc := 74) dX11_span_74 rfl ?_
    refine g_icmp_ge (pc := 75) 154 dX11_span_75 (by decide) (fun c_75 => ?_) (fun c_75 => absurd (nI_le (Nat.le_refl _) (by omega)) c_75)
    exact kk u h hI hF
  | succ m ih =>
    intro k u h hm hk hI hF
    obtain ⟨g, hI⟩ := hI
    have hT := yV_MT (g := g) hT0
    have hl := yV_okL (g := g) hl0
    have hq := fun u h => ih (k + 1) u h (by omega) (by omega)
    refine g_iload (pc := 72) dX11_span_72 rfl ?_
    refine g_iload_n (pc := 74) dX11_span_74 rfl ?_
    refine g_icmp_ge (pc := 75) 154 dX11_span_75 (by decide) (fun c_75 => absurd c_75 (by intro w; have := (nI_leI (by omega) (by omega)).mp w; omega)) (fun c_75 => ?_)
    refine g_aload_n (pc := 78) dX11_span_78 rfl ?_
    refine g_iload_n (pc := 79) dX11_span_79 rfl ?_
    refine g_iload (pc := 80) dX11_span_80 rfl ?_
    refine g_iadd (pc := 82) dX11_span_82 ?_
    refine g_iload_n (pc := 83) dX11_span_83 rfl ?_
    refine m_cVv (pc := 84) (M' := mX11_yearBy) (as := [_, _]) i_X11_398_11 eX11_yearBy hI dX11_span_84 (c_yearBy (by omega) hI hT hl (by rw [yV_31]; exact hrv) _ n hn) (by omega) rfl rfl (Nat.le_of_ble_eq_true rfl) (fun h hI fr => ?_)
    replace hF := mFr.tr hF fr
    rw [yV_31, yV_law] at hI
    have eyy : ∀ g2, yV (yV V g) g2 = yV V g2 := fun g2 => by rw [yV_e, yV_e (V := V), yV_e (V := V)]; rw [show sv (sv (svR (sv (sv V 0 47 g.2.1) 0 48 g.2.2) 32 g.1) 0 47 g2.2.1) 0 48 g2.2.2 = svR (sv (sv V 0 47 g2.2.1) 0 48 g2.2.2) 32 g.1 by rw [svR_f0 (by decide), svR_f0 (by decide), sv_cm (Or.inr (by decide)), sv_sv, sv_cm (r' := 0) (j' := 48) (Or.inr (by decide)), sv_sv]; congr 1; exact sv_cm (Or.inr (by decide)), svR_svR]
    rw [eyy] at hI
    refine g_aload_n (pc := 87) dX11_span_87 rfl ?_
    refine m_cP (pc := 88) (M' := mX11_curedMore) (as := []) i_X11_401_11 eX11_curedMore hI dX11_span_88 (c_curedMore (by omega) hI (yV_MT hT0)) (by omega) rfl rfl (Nat.le_of_ble_eq_true rfl) ?_
    rw [yV_31, yV_32]
    refine g_istore (pc := 91) (ls' := [_, _, _, _, _, _, _, _, _, _, _]) dX11_span_91 (by decide) rfl rfl ?_
    refine g_iload (pc := 93) dX11_span_93 rfl ?_
    refine g_iconst (pc := 95) (v := -1) dX11_span_95 (by decide) ?_
    refine g_icmp_ne (pc := 96) 104 dX11_span_96 (by decide) (fun c_96 => ?_) (fun c_96 => ?_)
    · refine g_iload (pc := 104) dX11_span_104 rfl ?_
      refine g_iload (pc := 106) dX11_span_106 rfl ?_
      refine g_cS (pc := 108) (M' := mX11_less) (as := [_, _]) i_X11_245 eX11_less dX11_span_108 (c_less _ _) (by omega) rfl rfl (Nat.le_of_ble_eq_true rfl) ?_
      refine g_istore (pc := 111) (ls' := [_, _, _, _, _, _, _, _, _, _, _]) dX11_span_111 (by decide) rfl rfl ?_
      refine g_iload (pc := 113) dX11_span_113 rfl ?_
      refine g_iload (pc := 115) dX11_span_115 rfl ?_
      refine g_cS (pc := 117) (M' := mX11_more) (as := [_, _]) i_X11_248 eX11_more dX11_span_117 (c_more _ _) (by omega) rfl rfl (Nat.le_of_ble_eq_true rfl) ?_
      refine g_istore (pc := 120) (ls' := [_, _, _, _, _, _, _, _, _, _, _]) dX11_span_120 (by decide) rfl rfl ?_
      refine g_iload (pc := 122) dX11_span_122 rfl ?_
      refine g_aload_n (pc := 124) dX11_span_124 rfl ?_
      refine g_aload_n (pc := 125) dX11_span_125 rfl ?_
      refine g_getfield (pc := 126) f_X11_76_11 dX11_span_126 hI.1 mf_32 ?_
      refine m_cP (pc := 129) (M' := mX11_curedIn) (as := [_]) i_X11_329_11 eX11_curedIn hI dX11_span_129 (c_curedIn hI (yV_MT hT0) (k := 32) rfl) (by omega) rfl rfl (Nat.le_of_ble_eq_true rfl) ?_
      rw [yV_32]
      refine g_iload (pc := 132) dX11_span_132 rfl ?_
      refine g_cS (pc := 134) (M' := mX11_has) (as := [_, _]) i_X11_263 eX11_has dX11_span_134 (c_has _ _) (by omega) rfl rfl (Nat.le_of_ble_eq_true rfl) ?_
      refine g_ifB_eq (pc := 137) 144 dX11_span_137 (by decide) (fun c_137 => ?_) (fun c_137 => ?_)
      · refine g_iconst (pc := 144) (v := 0) dX11_span_144 (by decide) ?_
        refine g_iadd (pc := 145) dX11_span_145 ?_
        refine g_istore (pc := 146) (ls' := [_, _, _, _, _, _, _, _, _, _, _]) dX11_span_146 (by decide) rfl rfl ?_
        refine g_iinc (pc := 148) (ls' := [_, _, _, _, _, _, _, _, _, _, _]) dX11_span_148 rfl (by first | exact nI_1 _ | exact rfl) (by decide) rfl rfl ?_
        refine g_goto (pc := 151) 72 dX11_span_151 (by decide) ?_
        have q := hq (some (vI (cmoI nP (V 31) (yrN (mlaw V) D nS nR nP (V 31, x + nI k, 0) n).1))) h ⟨_, hI⟩ hF
        have e1 : (spaF (spC (mlaw V) D nS nR nP (V 31) x n) (spQ (mlaw V) D nS nR nP (V 31) x n p) (k + 1)).1 = _ := show (if _ then _ else _) = _ from if_neg c_96
        have e2 : (spaF (spC (mlaw V) D nS nR nP (V 31) x n) (spQ (mlaw V) D nS nR nP (V 31) x n p) (k + 1)).2.2 = _ := show _ + bI (spQ (mlaw V) D nS nR nP (V 31) x n p k) = _ from by rw [show spQ (mlaw V) D nS nR nP (V 31) x n p k = false from c_137]
        rw [e1, e2] at q
        exact q
      · refine g_iconst (pc := 140) (v := 1) dX11_span_140 (by decide) ?_
        refine g_goto (pc := 141) 145 dX11_span_141 (by decide) ?_
        refine g_iadd (pc := 145) dX11_span_145 ?_
        refine g_istore (pc := 146) (ls' := [_, _, _, _, _, _, _, _, _, _, _]) dX11_span_146 (by decide) rfl rfl ?_
        refine g_iinc (pc := 148) (ls' := [_, _, _, _, _, _, _, _, _, _, _]) dX11_span_148 rfl (by first | exact nI_1 _ | exact rfl) (by decide) rfl rfl ?_
        refine g_goto (pc := 151) 72 dX11_span_151 (by decide) ?_
        have q := hq (some (vI (cmoI nP (V 31) (yrN (mlaw V) D nS nR nP (V 31, x + nI k, 0) n).1))) h ⟨_, hI⟩ hF
        have e1 : (spaF (spC (mlaw V) D nS nR nP (V 31) x n) (spQ (mlaw V) D nS nR nP (V 31) x n p) (k + 1)).1 = _ := show (if _ then _ else _) = _ from if_neg c_96
        have e2 : (spaF (spC (mlaw V) D nS nR nP (V 31) x n) (spQ (mlaw V) D nS nR nP (V 31) x n p) (k + 1)).2.2 = _ := show _ + bI (spQ (mlaw V) D nS nR nP (V 31) x n p k) = _ from by rw [show spQ (mlaw V) D nS nR nP (V 31) x n p k = true from c_137]
        rw [e1, e2] at q
        exact q
    · refine g_iload (pc := 99) dX11_span_99 rfl ?_
      refine g_goto (pc := 101) 111 dX11_span_101 (by decide) ?_
      refine g_istore (pc := 111) (ls' := [_, _, _, _, _, _, _, _, _, _, _]) dX11_span_111 (by decide) rfl rfl ?_
      refine g_iload (pc := 113) dX11_span_113 rfl ?_
      refine g_iload (pc := 115) dX11_span_115 rfl ?_
      refine g_cS (pc := 117) (M' := mX11_more) (as := [_, _]) i_X11_248 eX11_more dX11_span_117 (c_more _ _) (by omega) rfl rfl (Nat.le_of_ble_eq_true rfl) ?_
      refine g_istore (pc := 120) (ls' := [_, _, _, _, _, _, _, _, _, _, _]) dX11_span_120 (by decide) rfl rfl ?_
      refine g_iload (pc := 122) dX11_span_122 rfl ?_
      refine g_aload_n (pc := 124) dX11_span_124 rfl ?_
      refine g_aload_n (pc := 125) dX11_span_125 rfl ?_
      refine g_getfield (pc := 126) f_X11_76_11 dX11_span_126 hI.1 mf_32 ?_
      refine m_cP (pc := 129) (M' := mX11_curedIn) (as := [_]) i_X11_329_11 eX11_curedIn hI dX11_span_129 (c_curedIn hI (yV_MT hT0) (k := 32) rfl) (by omega) rfl rfl (Nat.le_of_ble_eq_true rfl) ?_
      rw [yV_32]
      refine g_iload (pc := 132) dX11_span_132 rfl ?_
      refine g_cS (pc := 134) (M' := mX11_has) (as := [_, _]) i_X11_263 eX11_has dX11_span_134 (c_has _ _) (by omega) rfl rfl (Nat.le_of_ble_eq_true rfl) ?_
      refine g_ifB_eq (pc := 137) 144 dX11_span_137 (by decide) (fun c_137 => ?_) (fun c_137 => ?_)
      · refine g_iconst (pc := 144) (v := 0) dX11_span_144 (by decide) ?_
        refine g_iadd (pc := 145) dX11_span_145 ?_
        refine g_istore (pc := 146) (ls' := [_, _, _, _, _, _, _, _, _, _, _]) dX11_span_146 (by decide) rfl rfl ?_
        refine g_iinc (pc := 148) (ls' := [_, _, _, _, _, _, _, _, _, _, _]) dX11_span_148 rfl (by first | exact nI_1 _ | exact rfl) (by decide) rfl rfl ?_
        refine g_goto (pc := 151) 72 dX11_span_151 (by decide) ?_
        have q := hq (some (vI (cmoI nP (V 31) (yrN (mlaw V) D nS nR nP (V 31, x + nI k, 0) n).1))) h ⟨_, hI⟩ hF
        have e1 : (spaF (spC (mlaw V) D nS nR nP (V 31) x n) (spQ (mlaw V) D nS nR nP (V 31) x n p) (k + 1)).1 = _ := show (if _ then _ else _) = _ from if_pos c_96
        have e2 : (spaF (spC (mlaw V) D nS nR nP (V 31) x n) (spQ (mlaw V) D nS nR nP (V 31) x n p) (k + 1)).2.2 = _ := show _ + bI (spQ (mlaw V) D nS nR nP (V 31) x n p k) = _ from by rw [show spQ (mlaw V) D nS nR nP (V 31) x n p k = false from c_137]
        rw [e1, e2] at q
        exact q
      · refine g_iconst (pc := 140) (v := 1) dX11_span_140 (by decide) ?_
        refine g_goto (pc := 141) 145 dX11_span_141 (by decide) ?_
        refine g_iadd (pc := 145) dX11_span_145 ?_
        refine g_istore (pc := 146) (ls' := [_, _, _, _, _, _, _, _, _, _, _]) dX11_span_146 (by decide) rfl rfl ?_
        refine g_iinc (pc := 148) (ls' := [_, _, _, _, _, _, _, _, _, _, _]) dX11_span_148 rfl (by first | exact nI_1 _ | exact rfl) (by decide) rfl rfl ?_
        refine g_goto (pc := 151) 72 dX11_span_151 (by decide) ?_
        have q := hq (some (vI (cmoI nP (V 31) (yrN (mlaw V) D nS nR nP (V 31, x + nI k, 0) n).1))) h ⟨_, hI⟩ hF
        have e1 : (spaF (spC (mlaw V) D nS nR nP (V 31) x n) (spQ (mlaw V) D nS nR nP (V 31) x n p) (k + 1)).1 = _ := show (if _ then _ else _) = _ from if_pos c_96
        have e2 : (spaF (spC (mlaw V) D nS nR nP (V 31) x n) (spQ (mlaw V) D nS nR nP (V 31) x n p) (k + 1)).2.2 = _ := show _ + bI (spQ (mlaw V) D nS nR nP (V 31) x n p k) = _ from by rw [show spQ (mlaw V) D nS nR nP (V 31) x n p k = true from c_137]
        rw [e1, e2] at q
        exact q
theorem r_mspan (hd : 2 ≤ d) (hI : InvM am V h) (hT : MT V D nS nR nP) (x c n w p : Int32) (hv : (inR c 1 20 && inR n 1 96 && inR w 0 2 && inR p 0 (nI nP - 1)) = false) : Ct E d 0 0 mX11_span [vR (nMo am), vI x, vI c, vI n, vI w, vI p] h (mQ am (refV V 1 1) h (some (vI 0))) := by
  refine ct_of (by decide) (Nat.le_of_ble_eq_true rfl) rfl ?_
  have hF : mFr h h := mFr.rf
  have hT := MT.f0 (j := 0) (y := 0) hT
  change MT (thr0 V) D nS nR nP at hT
  have b8 := hT.2.2.2.1
  have b10 := hT.2.2.2.2.1
  have bP := hT.2.2.2.2.2.1
  refine g_aload_n (pc := 0) dX11_span_0 rfl ?_
  refine g_iconst (pc := 1) (v := 0) dX11_span_1 (by decide) ?_
  refine m_put (pc := 2) hI w_X11_103_11 rfl (by decide) dX11_span_2 (fun h hI fr => ?_)
  replace hF := mFr.tr hF fr
  change InvM am (thr0 V) h at hI
  refine g_aload_n (pc := 5) dX11_span_5 rfl ?_
  refine g_iload_n (pc := 6) dX11_span_6 rfl ?_
  refine g_iconst (pc := 7) (v := 1) dX11_span_7 (by decide) ?_
  refine g_bipush (pc := 8) (v := 20) dX11_span_8 (by decide) ?_
  refine g_cS (pc := 10) (M' := mX11_in) (as := [_, _, _]) i_X11_137 eX11_in dX11_span_10 (c_in _ _ _) (by omega) rfl rfl (Nat.le_of_ble_eq_true rfl) ?_
  refine g_ifB_eq (pc := 13) 45 dX11_span_13 (by decide) (fun c_13 => ?_) (fun c_13 => ?_)
  · refine g_iconst (pc := 45) (v := 1) dX11_span_45 (by decide) ?_
    refine g_goto (pc := 46) 50 dX11_span_46 (by decide) ?_
    refine g_iconst (pc := 50) (v := 1) dX11_span_50 (by decide) ?_
    refine g_iconst (pc := 51) (v := 1) dX11_span_51 (by decide) ?_
    refine m_cV (pc := 52) (M' := mX11_bad) (as := [_, _, _]) i_X11_183_11 eX11_bad hI dX11_span_52 (c_badT hI thr0_0 1 (by decide) 1 (by decide)) (by omega) rfl rfl (Nat.le_of_ble_eq_true rfl) (fun h hI fr => ?_)
    replace hF := mFr.tr hF fr
    refine g_ifB_eq (pc := 55) 60 dX11_span_55 (by decide) (fun c_55 => absurd c_55 (by decide)) (fun c_55 => ?_)
    refine g_iconst (pc := 58) (v := 0) dX11_span_58 (by decide) ?_
    refine g_ireturn (pc := 59) dX11_span_59 rfl (by first | exact rfl | exact j_nb _) ?_
    rw [refV_thr0] at hI
    exact ⟨rfl, hI, hF⟩
  · refine g_iload_n (pc := 16) dX11_span_16 rfl ?_
    refine g_iconst (pc := 17) (v := 1) dX11_span_17 (by decide) ?_
    refine g_bipush (pc := 18) (v := 96) dX11_span_18 (by decide) ?_
    refine g_cS (pc := 20) (M' := mX11_in) (as := [_, _, _]) i_X11_137 eX11_in dX11_span_20 (c_in _ _ _) (by omega) rfl rfl (Nat.le_of_ble_eq_true rfl) ?_
    refine g_ifB_eq (pc := 23) 45 dX11_span_23 (by decide) (fun c_23 => ?_) (fun c_23 => ?_)
    · refine g_iconst (pc := 45) (v := 1) dX11_span_45 (by decide) ?_
      refine g_goto (pc := 46) 50 dX11_span_46 (by decide) ?_
      refine g_iconst (pc := 50) (v := 1) dX11_span_50 (by decide) ?_
      refine g_iconst (pc := 51) (v := 1) dX11_span_51 (by decide) ?_
      refine m_cV (pc := 52) (M' := mX11_bad) (as := [_, _, _]) i_X11_183_11 eX11_bad hI dX11_span_52 (c_badT hI thr0_0 1 (by decide) 1 (by decide)) (by omega) rfl rfl (Nat.le_of_ble_eq_true rfl) (fun h hI fr => ?_)
      replace hF := mFr.tr hF fr
      refine g_ifB_eq (pc := 55) 60 dX11_span_55 (by decide) (fun c_55 => absurd c_55 (by decide)) (fun c_55 => ?_)
      refine g_iconst (pc := 58) (v := 0) dX11_span_58 (by decide) ?_
      refine g_ireturn (pc := 59) dX11_span_59 rfl (by first | exact rfl | exact j_nb _) ?_
      rw [refV_thr0] at hI
      exact ⟨rfl, hI, hF⟩
    · refine g_iload (pc := 26) dX11_span_26 rfl ?_
      refine g_iconst (pc := 28) (v := 0) dX11_span_28 (by decide) ?_
      refine g_iconst (pc := 29) (v := 2) dX11_span_29 (by decide) ?_
      refine g_cS (pc := 30) (M' := mX11_in) (as := [_, _, _]) i_X11_137 eX11_in dX11_span_30 (c_in _ _ _) (by omega) rfl rfl (Nat.le_of_ble_eq_true rfl) ?_
      refine g_ifB_eq (pc := 33) 45 dX11_span_33 (by decide) (fun c_33 => ?_) (fun c_33 => ?_)
      · refine g_iconst (pc := 45) (v := 1) dX11_span_45 (by decide) ?_
        refine g_goto (pc := 46) 50 dX11_span_46 (by decide) ?_
        refine g_iconst (pc := 50) (v := 1) dX11_span_50 (by decide) ?_
        refine g_iconst (pc := 51) (v := 1) dX11_span_51 (by decide) ?_
        refine m_cV (pc := 52) (M' := mX11_bad) (as := [_, _, _]) i_X11_183_11 eX11_bad hI dX11_span_52 (c_badT hI thr0_0 1 (by decide) 1 (by decide)) (by omega) rfl rfl (Nat.le_of_ble_eq_true rfl) (fun h hI fr => ?_)
        replace hF := mFr.tr hF fr
        refine g_ifB_eq (pc := 55) 60 dX11_span_55 (by decide) (fun c_55 => absurd c_55 (by decide)) (fun c_55 => ?_)
        refine g_iconst (pc := 58) (v := 0) dX11_span_58 (by decide) ?_
        refine g_ireturn (pc := 59) dX11_span_59 rfl (by first | exact rfl | exact j_nb _) ?_
        rw [refV_thr0] at hI
        exact ⟨rfl, hI, hF⟩
      · refine g_aload_n (pc := 36) dX11_span_36 rfl ?_
        refine g_iload (pc := 37) dX11_span_37 rfl ?_
        refine m_cP (pc := 39) (M' := mX11_isPerson) (as := [_]) i_X11_342_11 eX11_isPerson hI dX11_span_39 (c_isPerson hI hT (by omega) _) (by omega) rfl rfl (Nat.le_of_ble_eq_true rfl) ?_
        refine g_ifB_ne (pc := 42) 49 dX11_span_42 (by decide) (fun c_42 => ?_) (fun c_42 => ?_)
        · exfalso
          rw [c_13, c_23, c_33, c_42] at hv
          cases hv
        · refine g_iconst (pc := 45) (v := 1) dX11_span_45 (by decide) ?_
          refine g_goto (pc := 46) 50 dX11_span_46 (by decide) ?_
          refine g_iconst (pc := 50) (v := 1) dX11_span_50 (by decide) ?_
          refine g_iconst (pc := 51) (v := 1) dX11_span_51 (by decide) ?_
          refine m_cV (pc := 52) (M' := mX11_bad) (as := [_, _, _]) i_X11_183_11 eX11_bad hI dX11_span_52 (c_badT hI thr0_0 1 (by decide) 1 (by decide)) (by omega) rfl rfl (Nat.le_of_ble_eq_true rfl) (fun h hI fr => ?_)
          replace hF := mFr.tr hF fr
          refine g_ifB_eq (pc := 55) 60 dX11_span_55 (by decide) (fun c_55 => absurd c_55 (by decide)) (fun c_55 => ?_)
          refine g_iconst (pc := 58) (v := 0) dX11_span_58 (by decide) ?_
          refine g_ireturn (pc := 59) dX11_span_59 rfl (by first | exact rfl | exact j_nb _) ?_
          rw [refV_thr0] at hI
          exact ⟨rfl, hI, hF⟩
set_option maxHeartbeats 2000000 in
theorem c_mspan (hd : 12 ≤ d) (hI : InvM am V h) (hT : MT V D nS nR nP) (hl : okL V) (hrv : RV (V 31) (2 ^ 20)) (x w : Int32) (c n p : Nat) (h1 : 1 ≤ c) (hc : c ≤ 20) (h2 : 1 ≤ n) (hn : n ≤ 96) (hp : p < nP) (hw : inR w 0 2 = true) : Ct E d 0 0 mX11_span [vR (nMo am), vI x, vI (nI c), vI (nI n), vI w, vI (nI p)] h (mQy am (thr0 V) h (spaI w (spaF (spC (mlaw V) D nS nR nP (V 31) x n) (spQ (mlaw V) D nS nR nP (V 31) x n p) c))) := by
  refine ct_of (by decide) (Nat.le_of_ble_eq_true rfl) rfl ?_
  have hF : mFr h h := mFr.rf
  have hT := MT.f0 (j := 0) (y := 0) hT
  change MT (thr0 V) D nS nR nP at hT
  have b8 := hT.2.2.2.1
  have b10 := hT.2.2.2.2.1
  have bP := hT.2.2.2.2.2.1
  have hl := okL.f0 (j := 0) (y := 0) hl (by decide)
  change okL (thr0 V) at hl
  have hu : inR (nI c) 1 20 = true := in1_of (n := 20) h1 hc (by decide)
  have hv : inR (nI n) 1 96 = true := in1_of (n := 96) h2 hn (by decide)
  have hz := in_of hp (show nP ≤ 1000 by omega)
  refine g_aload_n (pc := 0) dX11_span_0 rfl ?_
  refine g_iconst (pc := 1) (v := 0) dX11_span_1 (by decide) ?_
  refine m_put (pc := 2) hI w_X11_103_11 rfl (by decide) dX11_span_2 (fun h hI fr => ?_)
  replace hF := mFr.tr hF fr
  change InvM am (thr0 V) h at hI
  refine g_aload_n (pc := 5) dX11_span_5 rfl ?_
  refine g_iload_n (pc := 6) dX11_span_6 rfl ?_
  refine g_iconst (pc := 7) (v := 1) dX11_span_7 (by decide) ?_
  refine g_bipush (pc := 8) (v := 20) dX11_span_8 (by decide) ?_
  refine g_cS (pc := 10) (M' := mX11_in) (as := [_, _, _]) i_X11_137 eX11_in dX11_span_10 (c_in _ _ _) (by omega) rfl rfl (Nat.le_of_ble_eq_true rfl) ?_
  refine g_ifB_eq (pc := 13) 45 dX11_span_13 (by decide) (fun c_13 => absurd (hu.symm.trans c_13) (by decide)) (fun c_13 => ?_)
  refine g_iload_n (pc := 16) dX11_span_16 rfl ?_
  refine g_iconst (pc := 17) (v := 1) dX11_span_17 (by decide) ?_
  refine g_bipush (pc := 18) (v := 96) dX11_span_18 (by decide) ?_
  refine g_cS (pc := 20) (M' := mX11_in) (as := [_, _, _]) i_X11_137 eX11_in dX11_span_20 (c_in _ _ _) (by omega) rfl rfl (Nat.le_of_ble_eq_true rfl) ?_
  refine g_ifB_eq (pc := 23) 45 dX11_span_23 (by decide) (fun c_23 => absurd (hv.symm.trans c_23) (by decide)) (fun c_23 => ?_)
  refine g_iload (pc := 26) dX11_span_26 rfl ?_
  refine g_iconst (pc := 28) (v := 0) dX11_span_28 (by decide) ?_
  refine g_iconst (pc := 29) (v := 2) dX11_span_29 (by decide) ?_
  refine g_cS (pc := 30) (M' := mX11_in) (as := [_, _, _]) i_X11_137 eX11_in dX11_span_30 (c_in _ _ _) (by omega) rfl rfl (Nat.le_of_ble_eq_true rfl) ?_
  refine g_ifB_eq (pc := 33) 45 dX11_span_33 (by decide) (fun c_33 => absurd (hw.symm.trans c_33) (by decide)) (fun c_33 => ?_)
  refine g_aload_n (pc := 36) dX11_span_36 rfl ?_
  refine g_iload (pc := 37) dX11_span_37 rfl ?_
  refine m_cP (pc := 39) (M' := mX11_isPerson) (as := [_]) i_X11_342_11 eX11_isPerson hI dX11_span_39 (c_isPerson hI hT (by omega) _) (by omega) rfl rfl (Nat.le_of_ble_eq_true rfl) ?_
  refine g_ifB_ne (pc := 42) 49 dX11_span_42 (by decide) (fun c_42 => ?_) (fun c_42 => absurd (hz.symm.trans c_42) (by decide))
  refine g_iconst (pc := 49) (v := 0) dX11_span_49 (by decide) ?_
  refine g_iconst (pc := 50) (v := 1) dX11_span_50 (by decide) ?_
  refine g_iconst (pc := 51) (v := 1) dX11_span_51 (by decide) ?_
  refine m_cV (pc := 52) (M' := mX11_bad) (as := [_, _, _]) i_X11_183_11 eX11_bad hI dX11_span_52 (c_badF hI thr0_0 1 1 (by decide)) (by omega) rfl rfl (Nat.le_of_ble_eq_true rfl) (fun h hI fr => ?_)
  replace hF := mFr.tr hF fr
  refine g_ifB_eq (pc := 55) 60 dX11_span_55 (by decide) (fun c_55 => ?_) (fun c_55 => absurd c_55 (by decide))
  refine g_iconst (pc := 60) (v := -1) dX11_span_60 (by decide) ?_
  refine g_istore (pc := 61) (ls' := [_, _, _, _, _, _, _, _, _, _, _]) dX11_span_61 (by decide) rfl rfl ?_
  refine g_iconst (pc := 63) (v := 0) dX11_span_63 (by decide) ?_
  refine g_istore (pc := 64) (ls' := [_, _, _, _, _, _, _, _, _, _, _]) dX11_span_64 (by decide) rfl rfl ?_
  refine g_iconst (pc := 66) (v := 0) dX11_span_66 (by decide) ?_
  refine g_istore (pc := 67) (ls' := [_, _, _, _, _, _, _, _, _, _, _]) dX11_span_67 (by decide) rfl rfl ?_
  refine g_iconst (pc := 69) (v := 0) dX11_span_69 (by decide) ?_
  refine g_istore (pc := 70) (ls' := [_, _, _, _, _, _, _, _, _, _, _]) dX11_span_70 (by decide) rfl rfl ?_
  refine l_span (by omega) hT hl (by rw [thr0_now]; exact hrv) x w c n p hc hn hp (fun u h hI hF => ?_) c 0 _ h rfl (Nat.zero_le _) ⟨(thr0 V 32, thr0 V 0 47, thr0 V 0 48), by unfold yV; rw [svR_self, sv_self, sv_self]; exact hI⟩ hF
  rw [thr0_law, thr0_now]
  refine g_iload (pc := 154) dX11_span_154 rfl ?_
  refine g_if_ne (pc := 156) 164 dX11_span_156 (by decide) (fun c_156 => ?_) (fun c_156 => ?_)
  · refine g_iload (pc := 164) dX11_span_164 rfl ?_
    refine g_iconst (pc := 166) (v := 1) dX11_span_166 (by decide) ?_
    refine g_icmp_ne (pc := 167) 175 dX11_span_167 (by decide) (fun c_167 => ?_) (fun c_167 => ?_)
    · refine g_iload (pc := 175) dX11_span_175 rfl ?_
      refine g_ireturn (pc := 177) dX11_span_177 rfl (by first | exact rfl | exact j_nb _) ?_
      exact ⟨by simp [spaI, *], hI, hF⟩
    · refine g_iload (pc := 170) dX11_span_170 rfl ?_
      refine g_goto (pc := 172) 177 dX11_span_172 (by decide) ?_
      refine g_ireturn (pc := 177) dX11_span_177 rfl (by first | exact rfl | exact j_nb _) ?_
      exact ⟨by simp [spaI, *], hI, hF⟩
  · refine g_iload (pc := 159) dX11_span_159 rfl ?_
    refine g_goto (pc := 161) 177 dX11_span_161 (by decide) ?_
    refine g_ireturn (pc := 177) dX11_span_177 rfl (by first | exact rfl | exact j_nb _) ?_
    exact ⟨by simp [spaI, *], hI, hF⟩
end
