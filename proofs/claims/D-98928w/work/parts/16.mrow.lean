/-! THE REFERENCE: a house goes on. Printed by m_row.py -/
set_option maxRecDepth 100000
def svR (V : mV) (k : Nat) (R : Nat → Int32) : mV := fun q => if q = k then R else V q
theorem svR_row {V : mV} {k : Nat} {R : Nat → Int32} : svR V k R k = R := by unfold svR; rw [if_pos rfl]
theorem svR_ne {V : mV} {k q : Nat} {R : Nat → Int32} (n : q ≠ k) : svR V k R q = V q := by unfold svR; rw [if_neg n]
theorem svR_self {V : mV} {k : Nat} : svR V k (V k) = V := by
  funext q
  by_cases e : q = k
  · subst e; rw [svR_row]
  · rw [svR_ne e]
theorem svR_svR {V : mV} {k : Nat} {R R' : Nat → Int32} : svR (svR V k R) k R' = svR V k R' := by
  funext q
  by_cases e : q = k
  · subst e; rw [svR_row, svR_row]
  · rw [svR_ne e, svR_ne e, svR_ne e]
theorem sv_svR {V : mV} {k j : Nat} {R : Nat → Int32} {y : Int32} : sv (svR V k R) k j y = svR V k (j_up R j y) := by
  funext q
  by_cases e : q = k
  · subst e; rw [sv_row, svR_row, svR_row]
  · rw [sv_ne e, svR_ne e, svR_ne e]
theorem sv_R {V : mV} {k j : Nat} {y : Int32} : sv V k j y = svR V k (j_up (V k) j y) := by
  conv => lhs; rw [← svR_self (V := V) (k := k)]
  rw [sv_svR]
theorem hk_lt {k : Nat} (hk : mlen k = 45) : 9 ≤ k ∧ k ≤ 45 ∧ k ≠ 12 ∧ k ≠ 14 ∧ k ≠ 27 ∧ k ≠ 28 := by
  have := mlen_lt (k := k) (by omega)
  refine ⟨this.1, this.2.1, ?_, ?_, this.2.2.2.1, this.2.2.2.2⟩
  · intro e; subst e; exact absurd hk (by decide)
  · intro e; subst e; exact absurd hk (by decide)
theorem MT.row {V : mV} {D : Nat → Nat → Nat} {nS nR nP k : Nat} {R : Nat → Int32} (h : MT V D nS nR nP) (hk : mlen k = 45) : MT (svR V k R) D nS nR nP := by
  have q := hk_lt hk
  unfold MT at h ⊢
  rw [svR_ne (show 12 ≠ k by omega), svR_ne (show 14 ≠ k by omega)]
  refine ⟨h.1, h.2.1, h.2.2.1, h.2.2.2.1, h.2.2.2.2.1, h.2.2.2.2.2.1, fun r hr => ?_, fun p hp => ?_, h.2.2.2.2.2.2.2.2⟩
  · rw [svR_ne (show 1000 * 18 + r ≠ k by omega)]; exact h.2.2.2.2.2.2.1 r hr
  · rw [svR_ne (show 1000 * 20 + p ≠ k by omega)]; exact h.2.2.2.2.2.2.2.1 p hp
theorem mlaw_row {V : mV} {k : Nat} {R : Nat → Int32} (hk : mlen k = 45) : mlaw (svR V k R) = mlaw V := by
  have q := hk_lt hk
  unfold mlaw
  rw [svR_ne (show 0 ≠ k by omega)]
  congr 1
  funext j
  rw [svR_ne (show 1000 * 23 + j ≠ k by omega)]
theorem okL.row {V : mV} {k : Nat} {R : Nat → Int32} (h : okL V) (hk : mlen k = 45) : okL (svR V k R) := by
  have q := hk_lt hk
  obtain ⟨L, h1, h2⟩ := h
  refine ⟨L, by rw [svR_ne (show 0 ≠ k by omega)]; exact h1, ?_⟩
  rw [show (fun j => svR V k R (1000 * 23 + j)) = fun j => V (1000 * 23 + j) from funext fun j => svR_ne (by omega)]
  exact h2
/-- the days of a row: none, or a number under b -/
def RV (R : Nat → Int32) (b : Nat) : Prop := ∀ r, r < 10 → R (16 + r) = -1 ∨ ∃ x, x < b ∧ R (16 + r) = nI x
theorem half_kp {x : Int32} (h : x = -1 ∨ ∃ y, y < 2 ^ 30 ∧ x = nI y) (h1 : ¬ x = -1) : ¬ x / 2 = -1 := by
  rcases h with h | ⟨y, hy, rfl⟩
  · exact absurd h h1
  · rw [show (2 : Int32) = nI 2 from rfl, pk_div (by omega) (by decide) (by decide)]
    intro q
    have := congrArg Int32.toInt q
    rw [nI_toInt (by omega)] at this
    have e : (-1 : Int32).toInt = -1 := by decide
    rw [e] at this
    omega
/-- a sister lapses: the first r of her kept relics halved; then counted -/
def lapF (D : Nat → Nat → Nat) (R : Nat → Int32) (s r : Nat) : Nat → Int32 := fun j => if 16 ≤ j ∧ j < 16 + r ∧ kpS D R s (j - 16) = true then R j / 2 else R j
def lapR (D : Nat → Nat → Nat) (nR : Nat) (R : Nat → Int32) (s : Nat) : Nat → Int32 := j_up (lapF D R s nR) (8 + s) (R (8 + s) + 1)
theorem lapF_0 {D : Nat → Nat → Nat} {R : Nat → Int32} {s : Nat} : lapF D R s 0 = R := by
  funext j
  unfold lapF
  rw [if_neg (by omega)]
theorem lapF_kp {D : Nat → Nat → Nat} {R : Nat → Int32} {s r i : Nat} (hv : RV R (2 ^ 30)) (hi : i < 10) : kpS D (lapF D R s r) s i = kpS D R s i := by
  unfold kpS kpd lapF
  by_cases q : 16 ≤ 16 + i ∧ 16 + i < 16 + r ∧ kpS D R s (16 + i - 16) = true
  · rw [if_pos q]
    have w := q.2.2
    rw [show 16 + i - 16 = i by omega] at w
    unfold kpS kpd at w
    rw [Bool.and_eq_true, decide_eq_true_eq, decide_eq_true_eq] at w
    rw [decide_eq_true (half_kp (hv i hi) w.2), decide_eq_true w.2]
  · rw [if_neg q]
theorem lapF_s {D : Nat → Nat → Nat} {R : Nat → Int32} {s r : Nat} : j_up (lapF D R s r) (16 + r) (if kpS D R s r = true then lapF D R s r (16 + r) / 2 else lapF D R s r (16 + r)) = lapF D R s (r + 1) := by
  funext j
  have e0 : lapF D R s r (16 + r) = R (16 + r) := by unfold lapF; rw [if_neg (by omega)]
  by_cases e : j = 16 + r
  · subst e
    rw [j_up_same, e0]
    unfold lapF
    by_cases q : kpS D R s r = true
    · rw [if_pos q, if_pos ⟨by omega, by omega, by rw [show 16 + r - 16 = r by omega]; exact q⟩]
    · rw [if_neg q, if_neg (fun w => q (by have := w.2.2; rw [show 16 + r - 16 = r by omega] at this; exact this))]
  · rw [j_up_ne e]
    unfold lapF
    by_cases q : 16 ≤ j ∧ j < 16 + r ∧ kpS D R s (j - 16) = true
    · rw [if_pos q, if_pos ⟨q.1, by omega, q.2.2⟩]
    · rw [if_neg q, if_neg (fun w => q ⟨w.1, by omega, w.2.2⟩)]
section
variable {E : jE} {d : Nat} {h : jH} {am : Nat → Nat} {V : mV} {D : Nat → Nat → Nat} {nS nR nP k : Nat}
set_option maxHeartbeats 4000000 in
theorem l_lapses {bc bs : Nat} {h0 : jH} (hd : 2 ≤ d) (hT0 : MT V D nS nR nP) (hk : mlen k = 45) (s : Nat) (hs8 : s < 8) (hv : RV (V k) (2 ^ 30)) : ∀ (m r : Nat) (h : jH), nR - r = m → r ≤ nR → InvM am (svR V k (lapF D (V k) s r)) h → mFr h0 h → G E d bc bs mX11_lapses 13 [some (vR (nMo am)), some (vR (nMa am k)), some (vI (nI s)), some (vI (nI r))] [] h (mQ am (svR V k (lapR D nR (V k) s)) h0 (some (vI (bI true)))) := by
  intro m
  induction m with
  | zero =>
    intro r h hm hr hI hF
    have e : r = nR := by omega
    subst e
    have h10 := hT0.2.2.2.2.1
    have hT := hT0.row (R := lapF D (V k) s r) hk
    refine g_iload_n (pc := 13) dX11_lapses_13 rfl ?_
    refine g_aload_n (pc := 14) dX11_lapses_14 rfl ?_
    refine g_getfield (pc := 15) f_X11_23_11 dX11_lapses_15 hI.1 mf_12 ?_
    refine g_iconst (pc := 18) (v := 1) dX11_lapses_18 (by decide) ?_
    refine g_iaload (pc := 19) dX11_lapses_19 (mA hI 12 3 rfl (by decide)) (j := 1) (by decide) (by omega) (by decide) rfl ?_
    rw [hT.2.1]
    refine g_icmp_ge (pc := 20) 65 dX11_lapses_20 (by decide) (fun c_20 => ?_) (fun c_20 => absurd (nI_le (Nat.le_refl _) (by omega)) c_20)
    refine g_aload_n (pc := 65) dX11_lapses_65 rfl ?_
    refine g_bipush (pc := 66) (v := 8) dX11_lapses_66 (by decide) ?_
    refine g_iload_n (pc := 68) dX11_lapses_68 rfl ?_
    refine g_iadd (pc := 69) dX11_lapses_69 ?_
    refine g_dup2 (pc := 70) dX11_lapses_70 rfl rfl ?_
    refine g_iaload (pc := 71) dX11_lapses_71 (mA hI k 45 hk (by decide)) (j := 8 + s) (nI_add 8 s) (by omega) (by decide) rfl ?_
    refine g_iconst (pc := 72) (v := 1) dX11_lapses_72 (by decide) ?_
    refine g_iadd (pc := 73) dX11_lapses_73 ?_
    refine m_iast (pc := 74) (k := k) (n := 45) hI hk (by decide) dX11_lapses_74 (j := 8 + s) (nI_add 8 s) (by omega) (by decide) (fun h hI fr => ?_)
    replace hF := mFr.tr hF fr
    refine g_iconst (pc := 75) (v := 1) dX11_lapses_75 (by decide) ?_
    refine g_ireturn (pc := 76) dX11_lapses_76 rfl (by first | exact rfl | exact j_nb _) ?_
    refine ⟨rfl, ?_, hF⟩
    rw [sv_svR, svR_row] at hI
    rw [show lapF D (V k) s r (8 + s) = V k (8 + s) by unfold lapF; rw [if_neg (by omega)]] at hI
    exact hI
  | succ m ih =>
    intro r h hm hr hI hF
    have h10 := hT0.2.2.2.2.1
    have hT := hT0.row (R := lapF D (V k) s r) hk
    have ekp : bitsI (kpS D (svR V k (lapF D (V k) s r) k) s) nR = bitsI (kpS D (V k) s) nR := bits_congr (fun i hi => by rw [svR_row]; exact lapF_kp hv (by omega))
    refine g_iload_n (pc := 13) dX11_lapses_13 rfl ?_
    refine g_aload_n (pc := 14) dX11_lapses_14 rfl ?_
    refine g_getfield (pc := 15) f_X11_23_11 dX11_lapses_15 hI.1 mf_12 ?_
    refine g_iconst (pc := 18) (v := 1) dX11_lapses_18 (by decide) ?_
    refine g_iaload (pc := 19) dX11_lapses_19 (mA hI 12 3 rfl (by decide)) (j := 1) (by decide) (by omega) (by decide) rfl ?_
    rw [hT.2.1]
    refine g_icmp_ge (pc := 20) 65 dX11_lapses_20 (by decide) (fun c_20 => absurd c_20 (by intro w; have := (nI_leI (by omega) (by omega)).mp w; omega)) (fun c_20 => ?_)
    refine g_aload_n (pc := 23) dX11_lapses_23 rfl ?_
    refine g_bipush (pc := 24) (v := 16) dX11_lapses_24 (by decide) ?_
    refine g_iload_n (pc := 26) dX11_lapses_26 rfl ?_
    refine g_iadd (pc := 27) dX11_lapses_27 ?_
    refine g_aload_n (pc := 28) dX11_lapses_28 rfl ?_
    refine g_aload_n (pc := 29) dX11_lapses_29 rfl ?_
    refine g_iload_n (pc := 30) dX11_lapses_30 rfl ?_
    refine m_cP (pc := 31) (M' := mX11_keptOf) (as := [_, _]) i_X11_274_11 eX11_keptOf hI dX11_lapses_31 (c_keptOf (by omega) hI hT hk s hs8) (by omega) rfl rfl (Nat.le_of_ble_eq_true rfl) ?_
    rw [ekp]
    refine g_iload_n (pc := 34) dX11_lapses_34 rfl ?_
    refine g_cS (pc := 35) (M' := mX11_has) (as := [_, _]) i_X11_263 eX11_has dX11_lapses_35 (c_has _ _) (by omega) rfl rfl (Nat.le_of_ble_eq_true rfl) ?_
    rw [hasI_bits (by omega) (by omega)]
    refine g_ifB_eq (pc := 38) 52 dX11_lapses_38 (by decide) (fun c_38 => ?_) (fun c_38 => ?_)
    · refine g_aload_n (pc := 52) dX11_lapses_52 rfl ?_
      refine g_bipush (pc := 53) (v := 16) dX11_lapses_53 (by decide) ?_
      refine g_iload_n (pc := 55) dX11_lapses_55 rfl ?_
      refine g_iadd (pc := 56) dX11_lapses_56 ?_
      refine g_iaload (pc := 57) dX11_lapses_57 (mA hI k 45 hk (by decide)) (j := 16 + r) (nI_add 16 r) (by omega) (by decide) rfl ?_
      refine m_iast (pc := 58) (k := k) (n := 45) hI hk (by decide) dX11_lapses_58 (j := 16 + r) (nI_add 16 r) (by omega) (by decide) (fun h hI fr => ?_)
      replace hF := mFr.tr hF fr
      refine g_iinc (pc := 59) (ls' := [_, _, _, _]) dX11_lapses_59 rfl (by first | exact nI_1 _ | exact rfl) (by decide) rfl rfl ?_
      refine g_goto (pc := 62) 13 dX11_lapses_62 (by decide) ?_
      refine ih (r + 1) h (by omega) (by omega) ?_ hF
      rw [sv_svR, svR_row] at hI
      have e := lapF_s (D := D) (R := V k) (s := s) (r := r)
      rw [c_38] at e
      rw [← e]
      exact hI
    · refine g_aload_n (pc := 41) dX11_lapses_41 rfl ?_
      refine g_bipush (pc := 42) (v := 16) dX11_lapses_42 (by decide) ?_
      refine g_iload_n (pc := 44) dX11_lapses_44 rfl ?_
      refine g_iadd (pc := 45) dX11_lapses_45 ?_
      refine g_iaload (pc := 46) dX11_lapses_46 (mA hI k 45 hk (by decide)) (j := 16 + r) (nI_add 16 r) (by omega) (by decide) rfl ?_
      refine g_iconst (pc := 47) (v := 2) dX11_lapses_47 (by decide) ?_
      refine g_idiv (pc := 48) dX11_lapses_48 (by decide) ?_
      refine g_goto (pc := 49) 58 dX11_lapses_49 (by decide) ?_
      refine m_iast (pc := 58) (k := k) (n := 45) hI hk (by decide) dX11_lapses_58 (j := 16 + r) (nI_add 16 r) (by omega) (by decide) (fun h hI fr => ?_)
      replace hF := mFr.tr hF fr
      refine g_iinc (pc := 59) (ls' := [_, _, _, _]) dX11_lapses_59 rfl (by first | exact nI_1 _ | exact rfl) (by decide) rfl rfl ?_
      refine g_goto (pc := 62) 13 dX11_lapses_62 (by decide) ?_
      refine ih (r + 1) h (by omega) (by omega) ?_ hF
      rw [sv_svR, svR_row] at hI
      have e := lapF_s (D := D) (R := V k) (s := s) (r := r)
      rw [c_38] at e
      rw [← e]
      exact hI
set_option maxHeartbeats 4000000 in
theorem c_lapses (hd : 3 ≤ d) (hI : InvM am V h) (hT : MT V D nS nR nP) (hk : mlen k = 45) (s : Nat) (hs8 : s < 8) (hv : RV (V k) (2 ^ 30)) : Ct E d 0 0 mX11_lapses [vR (nMo am), vR (nMa am k), vI (nI s)] h (mQ am (if clI D nR (V k) s = true then svR V k (lapR D nR (V k) s) else V) h (some (vI (bI (clI D nR (V k) s))))) := by
  refine ct_of (by decide) (Nat.le_of_ble_eq_true rfl) rfl ?_
  have hF : mFr h h := mFr.rf
  refine g_aload_n (pc := 0) dX11_lapses_0 rfl ?_
  refine g_aload_n (pc := 1) dX11_lapses_1 rfl ?_
  refine g_iload_n (pc := 2) dX11_lapses_2 rfl ?_
  refine m_cP (pc := 3) (M' := mX11_canLapse) (as := [_, _]) i_X11_296_11 eX11_canLapse hI dX11_lapses_3 (c_canLapse (by omega) hI hT hk s hs8) (by omega) rfl rfl (Nat.le_of_ble_eq_true rfl) ?_
  refine g_ifB_ne (pc := 6) 11 dX11_lapses_6 (by decide) (fun c_6 => ?_) (fun c_6 => ?_)
  · refine g_iconst (pc := 11) (v := 0) dX11_lapses_11 (by decide) ?_
    refine g_istore_n (pc := 12) (ls' := [_, _, _, _]) dX11_lapses_12 (by decide) rfl rfl ?_
    rw [c_6, if_pos rfl]
    exact l_lapses (by omega) hT hk s hs8 hv nR 0 h rfl (Nat.zero_le _) (by rw [lapF_0, svR_self]; exact hI) hF
  · refine g_iconst (pc := 9) (v := 0) dX11_lapses_9 (by decide) ?_
    refine g_ireturn (pc := 10) dX11_lapses_10 rfl (by first | exact rfl | exact j_nb _) ?_
    rw [c_6]
    exact ⟨rfl, by rw [if_neg (by decide)]; exact hI, hF⟩
end
