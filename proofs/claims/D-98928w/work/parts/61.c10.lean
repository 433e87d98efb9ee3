/-! THE COMPONENT: what it answers, second. Printed by m_c10.py -/
set_option maxRecDepth 100000
theorem sumI_s {f : Nat → Int32} {k : Nat} : sumI f (k + 1) = sumI f k + f k := rfl
theorem nI_nm {j : Nat} (h : j < 2 ^ 31) : ¬ nI j = -1 := fun e => by
  have e1 := congrArg Int32.toInt e
  rw [nI_toInt h, show (-1 : Int32).toInt = -1 from rfl] at e1
  omega
theorem nI_gm {j : Nat} (h : j < 2 ^ 31) : (-1 : Int32) < nI j := by
  rw [Int32.lt_iff_toInt_lt, nI_toInt h, show (-1 : Int32).toInt = -1 from rfl]
  omega
theorem bestF_y {p : Nat → Bool} {f : Nat → Int32} {m0 : Int32} {r : Nat} (h1 : p r = true) (h2 : (bestF p f m0 r).2 < f r) : bestF p f m0 (r + 1) = (nI r, f r) := if_pos ⟨h1, h2⟩
theorem bestF_n {p : Nat → Bool} {f : Nat → Int32} {m0 : Int32} {r : Nat} (h : ¬ (p r = true ∧ (bestF p f m0 r).2 < f r)) : bestF p f m0 (r + 1) = bestF p f m0 r := if_neg h
theorem bestF_at {p : Nat → Bool} {f : Nat → Int32} {m0 : Int32} : ∀ n, ((bestF p f m0 n).1 = -1 ∧ (bestF p f m0 n).2 = m0) ∨ ∃ j, j < n ∧ (bestF p f m0 n).1 = nI j ∧ (bestF p f m0 n).2 = f j ∧ p j = true
  | 0 => Or.inl ⟨rfl, rfl⟩
  | n + 1 => by
    by_cases q : p n = true ∧ (bestF p f m0 n).2 < f n
    · rw [bestF_y q.1 q.2]
      exact Or.inr ⟨n, Nat.lt_succ_self n, rfl, rfl, q.1⟩
    · rw [bestF_n q]
      exact (bestF_at n).imp id (fun ⟨j, h1, h2⟩ => ⟨j, by omega, h2⟩)
theorem bestF_m1 {p : Nat → Bool} {f : Nat → Int32} {m0 : Int32} {n : Nat} (h : (bestF p f m0 n).1 = -1) (hn : n < 2 ^ 31) : (bestF p f m0 n).2 = m0 := by
  rcases bestF_at (p := p) (f := f) (m0 := m0) n with q | ⟨j, h1, h2, -⟩
  · exact q.2
  · exact absurd (h2.symm.trans h) (nI_nm (by omega))
theorem bestF_j {p : Nat → Bool} {f : Nat → Int32} {m0 : Int32} {n : Nat} (h : ¬ (bestF p f m0 n).1 = -1) : ∃ j, j < n ∧ (bestF p f m0 n).1 = nI j ∧ (bestF p f m0 n).2 = f j := by
  rcases bestF_at (p := p) (f := f) (m0 := m0) n with q | ⟨j, h1, h2, h3, -⟩
  · exact absurd q.1 h
  · exact ⟨j, h1, h2, h3⟩
theorem pwr_ge {lw : (Nat → Int32) → Int32} {D : Nat → Nat → Nat} {nR : Nat} {R : Nat → Int32} {r : Nat} : (-1 : Int32) < pwr lw D nR R r := by
  unfold pwr
  by_cases q : kpd R r = true
  · rw [if_pos q]
    obtain ⟨p, hp, e⟩ := pwOf_n lw D nR R r (R (16 + r)) (R (8 + D 0 r)) (R 44)
    rw [e]
    exact nI_gm (by omega)
  · rw [if_neg q]
    decide
theorem and_m1 (x : Int32) : x &&& -1 = x := b_ext (fun i hi => by rw [b_and, b_m1 i hi, Bool.and_true])
theorem and_sf (x : Int32) : x &&& x = x := b_ext (fun i hi => by rw [b_and, Bool.and_self])
theorem barF_y {D : Nat → Nat → Nat} {R : Nat → Int32} {r : Nat} (h : kpd R r = true) : barF D R (r + 1) = barF D R r &&& (bitI (D 1 r) ^^^ -1) := if_pos h
theorem barF_n {D : Nat → Nat → Nat} {R : Nat → Int32} {r : Nat} (h : ¬ kpd R r = true) : barF D R (r + 1) = barF D R r := (if_neg h).trans (and_sf _)
theorem bits_y {p : Nat → Bool} {r : Nat} (h : p r = true) : bitsI p (r + 1) = bitsI p r ||| bitI r := by
  show bitsI p r ||| (if p r = true then bitI r else 0) = _
  rw [if_pos h]
theorem bits_n {p : Nat → Bool} {r : Nat} (h : ¬ p r = true) : bitsI p (r + 1) = bitsI p r ||| 0 := by
  show bitsI p r ||| (if p r = true then bitI r else 0) = _
  rw [if_neg h]
section
variable {E : jE} {d : Nat} {h : jH} {ac : Nat → Nat} {W V : mV} {g : HD}
set_option maxHeartbeats 2000000 in
theorem l_kneeds {bc bs : Nat} {Q : jR → jH → Prop} {h0 : jH} (hd : 10 ≤ d) (hz : HZ g W 0 (V 31)) (w : Int32) : ∀ (m r : Nat) (h : jH), gP g - r = m → r ≤ gP g → InvC ac W g (mlaw V) h → cFr h0 h → (∀ h, InvC ac W g (mlaw V) h → cFr h0 h → G E d bc bs mX1_needs 68 [some (vR (nC ac 1)), some (vI w), some (vI (sumI (needF (gD g) (V 31) w) (gP g))), some (vI (nI (gP g)))] [] h Q) → G E d bc bs mX1_needs 14 [some (vR (nC ac 1)), some (vI w), some (vI (sumI (needF (gD g) (V 31) w) r)), some (vI (nI r))] [] h Q := by
  intro m
  induction m with
  | zero =>
    intro r h hm hr hI hF kk
    have e : r = gP g := by omega
    subst e
    have b8 := hI.2.2.2.2.1.2.2.2.2.2.2.2.1
    have b10 := hI.2.2.2.2.1.2.2.2.2.2.2.2.2.1
    have bP := hI.2.2.2.2.1.2.2.2.2.2.2.2.2.2.1
    refine g_iload_n (pc := 14) dX1_needs_14 rfl ?_
    refine g_aload_n (pc := 15) dX1_needs_15 rfl ?_
    refine g_cV (pc := 16) (M' := mX1_pilgrims) (as := []) (ci := 1) rfl i_X1_167_1 eX1_pilgrims dX1_needs_16 hI.1 (k_pilgrims (by omega) hI) (by omega) rfl rfl (Nat.le_of_ble_eq_true rfl) ?_
    refine g_icmp_ge (pc := 19) 68 dX1_needs_19 (by decide) (fun c_19 => ?_) (fun c_19 => absurd (nI_le (Nat.le_refl _) (by omega)) c_19)
    exact kk h hI hF
  | succ m ih =>
    intro r h hm hr hI hF kk
    have b8 := hI.2.2.2.2.1.2.2.2.2.2.2.2.1
    have b10 := hI.2.2.2.2.1.2.2.2.2.2.2.2.2.1
    have bP := hI.2.2.2.2.1.2.2.2.2.2.2.2.2.2.1
    refine g_iload_n (pc := 14) dX1_needs_14 rfl ?_
    refine g_aload_n (pc := 15) dX1_needs_15 rfl ?_
    refine g_cV (pc := 16) (M' := mX1_pilgrims) (as := []) (ci := 1) rfl i_X1_167_1 eX1_pilgrims dX1_needs_16 hI.1 (k_pilgrims (by omega) hI) (by omega) rfl rfl (Nat.le_of_ble_eq_true rfl) ?_
    refine g_icmp_ge (pc := 19) 68 dX1_needs_19 (by decide) (fun c_19 => absurd c_19 (by intro w; have := (nI_leI (by omega) (by omega)).mp w; omega)) (fun c_19 => ?_)
    refine g_iload_n (pc := 22) dX1_needs_22 rfl ?_
    refine g_aload_n (pc := 23) dX1_needs_23 rfl ?_
    refine g_getfield (pc := 24) f_X1_58_1 dX1_needs_24 hI.1 rfl ?_
    refine g_getfield (pc := 27) f_X1_288_10 dX1_needs_27 (hI.2.2.2.1 0 liv0).1 rfl ?_
    refine g_iload_n (pc := 30) dX1_needs_30 rfl ?_
    refine g_iaload (pc := 31) dX1_needs_31 (hI.2.2.2.1 0 liv0).2.2.2 (j := r) rfl (by omega) (by first | decide | omega) rfl ?_
    rw [show W (400 + 0) r = V 31 (36 + r) from hz.2.2.1 r (by omega)]
    refine g_iconst (pc := 32) (v := -1) dX1_needs_32 (by decide) ?_
    refine g_icmp_ne (pc := 33) 59 dX1_needs_33 (by decide) (fun c_33 => ?_) (fun c_33 => ?_)
    · refine g_iconst (pc := 59) (v := 0) dX1_needs_59 (by decide) ?_
      refine g_iadd (pc := 60) dX1_needs_60 ?_
      refine g_istore_n (pc := 61) (ls' := [_, _, _, _]) dX1_needs_61 (by decide) rfl rfl ?_
      refine g_iinc (pc := 62) (ls' := [_, _, _, _]) dX1_needs_62 rfl (by first | exact nI_1 _ | exact rfl) (by decide) rfl rfl ?_
      refine g_goto (pc := 65) 14 dX1_needs_65 (by decide) ?_
      have q := ih (r + 1) h (by omega) (by omega) hI hF kk
      rw [sumI_s, show needF (gD g) (V 31) w r = 0 from if_neg (fun e => c_33 e.2)] at q
      exact q
    · refine g_aload_n (pc := 36) dX1_needs_36 rfl ?_
      refine g_iload_n (pc := 37) dX1_needs_37 rfl ?_
      refine g_cV (pc := 38) (M' := mX1_pilgrimOf) (as := [_]) (ci := 1) rfl i_X1_323_1 eX1_pilgrimOf dX1_needs_38 hI.1 (k_pilgrimOf (by omega) hI r (by omega)) (by omega) rfl rfl (Nat.le_of_ble_eq_true rfl) ?_
      refine g_getfield (pc := 41) f_X1_327_16 dX1_needs_41 (hI.2.2.2.2.1.2.2.2.2.2.2.1 r (by omega)) rfl ?_
      refine g_iload_n (pc := 44) dX1_needs_44 rfl ?_
      refine g_icmp_ne (pc := 45) 59 dX1_needs_45 (by decide) (fun c_45 => ?_) (fun c_45 => ?_)
      · refine g_iconst (pc := 59) (v := 0) dX1_needs_59 (by decide) ?_
        refine g_iadd (pc := 60) dX1_needs_60 ?_
        refine g_istore_n (pc := 61) (ls' := [_, _, _, _]) dX1_needs_61 (by decide) rfl rfl ?_
        refine g_iinc (pc := 62) (ls' := [_, _, _, _]) dX1_needs_62 rfl (by first | exact nI_1 _ | exact rfl) (by decide) rfl rfl ?_
        refine g_goto (pc := 65) 14 dX1_needs_65 (by decide) ?_
        have q := ih (r + 1) h (by omega) (by omega) hI hF kk
        rw [sumI_s, show needF (gD g) (V 31) w r = 0 from if_neg (fun e => c_45 e.1)] at q
        exact q
      · refine g_aload_n (pc := 48) dX1_needs_48 rfl ?_
        refine g_iload_n (pc := 49) dX1_needs_49 rfl ?_
        refine g_cV (pc := 50) (M' := mX1_pilgrimOf) (as := [_]) (ci := 1) rfl i_X1_323_1 eX1_pilgrimOf dX1_needs_50 hI.1 (k_pilgrimOf (by omega) hI r (by omega)) (by omega) rfl rfl (Nat.le_of_ble_eq_true rfl) ?_
        refine g_getfield (pc := 53) f_X1_328_16 dX1_needs_53 (hI.2.2.2.2.1.2.2.2.2.2.2.1 r (by omega)) rfl ?_
        refine g_goto (pc := 56) 60 dX1_needs_56 (by decide) ?_
        refine g_iadd (pc := 60) dX1_needs_60 ?_
        refine g_istore_n (pc := 61) (ls' := [_, _, _, _]) dX1_needs_61 (by decide) rfl rfl ?_
        refine g_iinc (pc := 62) (ls' := [_, _, _, _]) dX1_needs_62 rfl (by first | exact nI_1 _ | exact rfl) (by decide) rfl rfl ?_
        refine g_goto (pc := 65) 14 dX1_needs_65 (by decide) ?_
        have q := ih (r + 1) h (by omega) (by omega) hI hF kk
        rw [sumI_s, show needF (gD g) (V 31) w r = nI (gD g 4 r) from if_pos ⟨c_45, c_33⟩] at q
        exact q
set_option maxHeartbeats 2000000 in
theorem k_needs (hd : 620 ≤ d) (hI : InvC ac W g (mlaw V) h) (hz : HZ g W 0 (V 31)) (w : Int32) (hv : inR w 0 5 = true) : Ct E d 0 0 mX1_needs [vR (nC ac 1), vI w] h (cQ ac W g (mlaw V) h (some (vI (sumI (needF (gD g) (V 31) w) (gP g))))) := by
  refine ct_of (by decide) (Nat.le_of_ble_eq_true rfl) rfl ?_
  have hF : cFr h h := cFr.rf
  have b8 := hI.2.2.2.2.1.2.2.2.2.2.2.2.1
  have b10 := hI.2.2.2.2.1.2.2.2.2.2.2.2.2.1
  have bP := hI.2.2.2.2.1.2.2.2.2.2.2.2.2.2.1
  refine g_aload_n (pc := 0) dX1_needs_0 rfl ?_
  refine g_iload_n (pc := 1) dX1_needs_1 rfl ?_
  refine g_iconst (pc := 2) (v := 0) dX1_needs_2 (by decide) ?_
  refine g_iconst (pc := 3) (v := 5) dX1_needs_3 (by decide) ?_
  refine g_cS (pc := 4) (M' := mX1_isIn) (as := [_, _, _]) i_X1_252 eX1_isIn dX1_needs_4 (k_isIn _ _ _) (by omega) rfl rfl (Nat.le_of_ble_eq_true rfl) ?_
  rw [hv]
  refine g_cVv (pc := 7) (M' := mX1_need) (as := [_]) (ci := 1) rfl i_X1_183_1 eX1_need dX1_needs_7 hI.1 (k_needT) (by omega) rfl rfl (Nat.le_of_ble_eq_true rfl) ?_
  refine g_iconst (pc := 10) (v := 0) dX1_needs_10 (by decide) ?_
  refine g_istore_n (pc := 11) (ls' := [_, _, _, _]) dX1_needs_11 (by decide) rfl rfl ?_
  refine g_iconst (pc := 12) (v := 0) dX1_needs_12 (by decide) ?_
  refine g_istore_n (pc := 13) (ls' := [_, _, _, _]) dX1_needs_13 (by decide) rfl rfl ?_
  refine l_kneeds (by omega) hz w (gP g) 0 h rfl (Nat.zero_le _) hI hF (fun h hI hF => ?_)
  refine g_iload_n (pc := 68) dX1_needs_68 rfl ?_
  refine g_ireturn (pc := 69) dX1_needs_69 rfl (by first | exact rfl | exact j_nb _) ?_
  exact ⟨rfl, hI, hF⟩
set_option maxHeartbeats 2000000 in
theorem l_kstrength {bc bs : Nat} {Q : jR → jH → Prop} {h0 : jH} (hd : 610 ≤ d) (hz : HZ g W 0 (V 31)) (s : Nat) : ∀ (m r : Nat) (h : jH), gR g - r = m → r ≤ gR g → InvC ac W g (mlaw V) h → cFr h0 h → (∀ h, InvC ac W g (mlaw V) h → cFr h0 h → G E d bc bs mX1_strength 50 [some (vR (nC ac 1)), some (vI (nI s)), some (vI (sumI (strF (gD g) (pwN V (gD g) (gR g)) (nI s)) (gR g))), some (vI (nI (gR g)))] [] h Q) → G E d bc bs mX1_strength 9 [some (vR (nC ac 1)), some (vI (nI s)), some (vI (sumI (strF (gD g) (pwN V (gD g) (gR g)) (nI s)) r)), some (vI (nI r))] [] h Q := by
  intro m
  induction m with
  | zero =>
    intro r h hm hr hI hF kk
    have e : r = gR g := by omega
    subst e
    have b8 := hI.2.2.2.2.1.2.2.2.2.2.2.2.1
    have b10 := hI.2.2.2.2.1.2.2.2.2.2.2.2.2.1
    have bP := hI.2.2.2.2.1.2.2.2.2.2.2.2.2.2.1
    refine g_iload_n (pc := 9) dX1_strength_9 rfl ?_
    refine g_aload_n (pc := 10) dX1_strength_10 rfl ?_
    refine g_cV (pc := 11) (M' := mX1_relics) (as := []) (ci := 1) rfl i_X1_165_1 eX1_relics dX1_strength_11 hI.1 (k_relics (by omega) hI) (by omega) rfl rfl (Nat.le_of_ble_eq_true rfl) ?_
    refine g_icmp_ge (pc := 14) 50 dX1_strength_14 (by decide) (fun c_14 => ?_) (fun c_14 => absurd (nI_le (Nat.le_refl _) (by omega)) c_14)
    exact kk h hI hF
  | succ m ih =>
    intro r h hm hr hI hF kk
    have b8 := hI.2.2.2.2.1.2.2.2.2.2.2.2.1
    have b10 := hI.2.2.2.2.1.2.2.2.2.2.2.2.2.1
    have bP := hI.2.2.2.2.1.2.2.2.2.2.2.2.2.2.1
    refine g_iload_n (pc := 9) dX1_strength_9 rfl ?_
    refine g_aload_n (pc := 10) dX1_strength_10 rfl ?_
    refine g_cV (pc := 11) (M' := mX1_relics) (as := []) (ci := 1) rfl i_X1_165_1 eX1_relics dX1_strength_11 hI.1 (k_relics (by omega) hI) (by omega) rfl rfl (Nat.le_of_ble_eq_true rfl) ?_
    refine g_icmp_ge (pc := 14) 50 dX1_strength_14 (by decide) (fun c_14 => absurd c_14 (by intro w; have := (nI_leI (by omega) (by omega)).mp w; omega)) (fun c_14 => ?_)
    refine g_iload_n (pc := 17) dX1_strength_17 rfl ?_
    refine g_aload_n (pc := 18) dX1_strength_18 rfl ?_
    refine g_iload_n (pc := 19) dX1_strength_19 rfl ?_
    refine g_cV (pc := 20) (M' := mX1_relicOf) (as := [_]) (ci := 1) rfl i_X1_298_1 eX1_relicOf dX1_strength_20 hI.1 (k_relicOf (by omega) hI r (by omega)) (by omega) rfl rfl (Nat.le_of_ble_eq_true rfl) ?_
    refine g_getfield (pc := 23) f_X1_302_15 dX1_strength_23 (hI.2.2.2.2.1.2.2.2.2.2.1 r (by omega)) rfl ?_
    refine g_iload_n (pc := 26) dX1_strength_26 rfl ?_
    refine g_icmp_ne (pc := 27) 41 dX1_strength_27 (by decide) (fun c_27 => ?_) (fun c_27 => ?_)
    · refine g_iconst (pc := 41) (v := 0) dX1_strength_41 (by decide) ?_
      refine g_iadd (pc := 42) dX1_strength_42 ?_
      refine g_istore_n (pc := 43) (ls' := [_, _, _, _]) dX1_strength_43 (by decide) rfl rfl ?_
      refine g_iinc (pc := 44) (ls' := [_, _, _, _]) dX1_strength_44 rfl (by first | exact nI_1 _ | exact rfl) (by decide) rfl rfl ?_
      refine g_goto (pc := 47) 9 dX1_strength_47 (by decide) ?_
      have q := ih (r + 1) h (by omega) (by omega) hI hF kk
      rw [sumI_s, show strF (gD g) (pwN V (gD g) (gR g)) (nI s) r = 0 from if_neg c_27] at q
      exact q
    · refine g_aload_n (pc := 30) dX1_strength_30 rfl ?_
      refine g_getfield (pc := 31) f_X1_58_1 dX1_strength_31 hI.1 rfl ?_
      refine g_iload_n (pc := 34) dX1_strength_34 rfl ?_
      refine c_cV (pc := 35) (M' := mX10_powerOf) (as := [_]) (ci := 10) rfl i_X1_314_10 eX10_powerOf dX1_strength_35 (hI.2.2.2.1 0 liv0).1 (k_powerOf (by omega) hI liv0 hz r (by omega)) (by omega) rfl rfl (Nat.le_of_ble_eq_true rfl) (fun h hI fr => ?_)
      replace hF := cFr.tr hF fr
      refine g_goto (pc := 38) 42 dX1_strength_38 (by decide) ?_
      refine g_iadd (pc := 42) dX1_strength_42 ?_
      refine g_istore_n (pc := 43) (ls' := [_, _, _, _]) dX1_strength_43 (by decide) rfl rfl ?_
      refine g_iinc (pc := 44) (ls' := [_, _, _, _]) dX1_strength_44 rfl (by first | exact nI_1 _ | exact rfl) (by decide) rfl rfl ?_
      refine g_goto (pc := 47) 9 dX1_strength_47 (by decide) ?_
      have q := ih (r + 1) h (by omega) (by omega) hI hF kk
      rw [sumI_s, show strF (gD g) (pwN V (gD g) (gR g)) (nI s) r = pwr (mlaw V) (gD g) (gR g) (V 31) r from if_pos c_27] at q
      exact q
set_option maxHeartbeats 2000000 in
theorem k_strength (hd : 620 ≤ d) (hI : InvC ac W g (mlaw V) h) (hz : HZ g W 0 (V 31)) (s : Nat) (hs : s < gS g) : Ct E d 0 0 mX1_strength [vR (nC ac 1), vI (nI s)] h (cQ ac W g (mlaw V) h (some (vI (sumI (strF (gD g) (pwN V (gD g) (gR g)) (nI s)) (gR g))))) := by
  refine ct_of (by decide) (Nat.le_of_ble_eq_true rfl) rfl ?_
  have hF : cFr h h := cFr.rf
  have b8 := hI.2.2.2.2.1.2.2.2.2.2.2.2.1
  have b10 := hI.2.2.2.2.1.2.2.2.2.2.2.2.2.1
  have bP := hI.2.2.2.2.1.2.2.2.2.2.2.2.2.2.1
  refine g_aload_n (pc := 0) dX1_strength_0 rfl ?_
  refine g_iload_n (pc := 1) dX1_strength_1 rfl ?_
  refine g_cVv (pc := 2) (M' := mX1_needSister) (as := [_]) (ci := 1) rfl i_X1_273_1 eX1_needSister dX1_strength_2 hI.1 (k_needST (by omega) hI s hs) (by omega) rfl rfl (Nat.le_of_ble_eq_true rfl) ?_
  refine g_iconst (pc := 5) (v := 0) dX1_strength_5 (by decide) ?_
  refine g_istore_n (pc := 6) (ls' := [_, _, _, _]) dX1_strength_6 (by decide) rfl rfl ?_
  refine g_iconst (pc := 7) (v := 0) dX1_strength_7 (by decide) ?_
  refine g_istore_n (pc := 8) (ls' := [_, _, _, _]) dX1_strength_8 (by decide) rfl rfl ?_
  refine l_kstrength (by omega) hz s (gR g) 0 h rfl (Nat.zero_le _) hI hF (fun h hI hF => ?_)
  refine g_iload_n (pc := 50) dX1_strength_50 rfl ?_
  refine g_ireturn (pc := 51) dX1_strength_51 rfl (by first | exact rfl | exact j_nb _) ?_
  exact ⟨rfl, hI, hF⟩
set_option maxHeartbeats 2000000 in
theorem l_kbare {bc bs : Nat} {Q : jR → jH → Prop} {h0 : jH} (hd : 10 ≤ d) (hz : HZ g W 0 (V 31)) : ∀ (m r : Nat) (h : jH), gR g - r = m → r ≤ gR g → InvC ac W g (mlaw V) h → cFr h0 h → (∀ h, InvC ac W g (mlaw V) h → cFr h0 h → G E d bc bs mX1_bare 51 [some (vR (nC ac 1)), some (vI (barF (gD g) (V 31) (gR g))), some (vI (nI (gR g)))] [] h Q) → G E d bc bs mX1_bare 5 [some (vR (nC ac 1)), some (vI (barF (gD g) (V 31) r)), some (vI (nI r))] [] h Q := by
  intro m
  induction m with
  | zero =>
    intro r h hm hr hI hF kk
    have e : r = gR g := by omega
    subst e
    have b8 := hI.2.2.2.2.1.2.2.2.2.2.2.2.1
    have b10 := hI.2.2.2.2.1.2.2.2.2.2.2.2.2.1
    have bP := hI.2.2.2.2.1.2.2.2.2.2.2.2.2.2.1
    refine g_iload_n (pc := 5) dX1_bare_5 rfl ?_
    refine g_aload_n (pc := 6) dX1_bare_6 rfl ?_
    refine g_cV (pc := 7) (M' := mX1_relics) (as := []) (ci := 1) rfl i_X1_165_1 eX1_relics dX1_bare_7 hI.1 (k_relics (by omega) hI) (by omega) rfl rfl (Nat.le_of_ble_eq_true rfl) ?_
    refine g_icmp_ge (pc := 10) 51 dX1_bare_10 (by decide) (fun c_10 => ?_) (fun c_10 => absurd (nI_le (Nat.le_refl _) (by omega)) c_10)
    exact kk h hI hF
  | succ m ih =>
    intro r h hm hr hI hF kk
    have b8 := hI.2.2.2.2.1.2.2.2.2.2.2.2.1
    have b10 := hI.2.2.2.2.1.2.2.2.2.2.2.2.2.1
    have bP := hI.2.2.2.2.1.2.2.2.2.2.2.2.2.2.1
    refine g_iload_n (pc := 5) dX1_bare_5 rfl ?_
    refine g_aload_n (pc := 6) dX1_bare_6 rfl ?_
    refine g_cV (pc := 7) (M' := mX1_relics) (as := []) (ci := 1) rfl i_X1_165_1 eX1_relics dX1_bare_7 hI.1 (k_relics (by omega) hI) (by omega) rfl rfl (Nat.le_of_ble_eq_true rfl) ?_
    refine g_icmp_ge (pc := 10) 51 dX1_bare_10 (by decide) (fun c_10 => absurd c_10 (by intro w; have := (nI_leI (by omega) (by omega)).mp w; omega)) (fun c_10 => ?_)
    refine g_iload_n (pc := 13) dX1_bare_13 rfl ?_
    refine g_aload_n (pc := 14) dX1_bare_14 rfl ?_
    refine g_getfield (pc := 15) f_X1_58_1 dX1_bare_15 hI.1 rfl ?_
    refine g_getfield (pc := 18) f_X1_311_10 dX1_bare_18 (hI.2.2.2.1 0 liv0).1 rfl ?_
    refine g_iload_n (pc := 21) dX1_bare_21 rfl ?_
    refine g_iaload (pc := 22) dX1_bare_22 (hI.2.2.2.1 0 liv0).2.1 (j := r) rfl (by omega) (by first | decide | omega) rfl ?_
    rw [show W (200 + 0) r = V 31 (16 + r) from hz.1 r (by omega)]
    refine g_iconst (pc := 23) (v := -1) dX1_bare_23 (by decide) ?_
    refine g_icmp_ne (pc := 24) 31 dX1_bare_24 (by decide) (fun c_24 => ?_) (fun c_24 => ?_)
    · refine g_iconst (pc := 31) (v := 1) dX1_bare_31 (by decide) ?_
      refine g_aload_n (pc := 32) dX1_bare_32 rfl ?_
      refine g_iload_n (pc := 33) dX1_bare_33 rfl ?_
      refine g_cV (pc := 34) (M' := mX1_relicOf) (as := [_]) (ci := 1) rfl i_X1_298_1 eX1_relicOf dX1_bare_34 hI.1 (k_relicOf (by omega) hI r (by omega)) (by omega) rfl rfl (Nat.le_of_ble_eq_true rfl) ?_
      refine g_getfield (pc := 37) f_X1_305_15 dX1_bare_37 (hI.2.2.2.2.1.2.2.2.2.2.1 r (by omega)) rfl ?_
      refine g_ishl (pc := 40) dX1_bare_40 ?_
      refine g_iconst (pc := 41) (v := -1) dX1_bare_41 (by decide) ?_
      refine g_ixor (pc := 42) dX1_bare_42 ?_
      refine g_iand (pc := 43) dX1_bare_43 ?_
      refine g_istore_n (pc := 44) (ls' := [_, _, _]) dX1_bare_44 (by decide) rfl rfl ?_
      refine g_iinc (pc := 45) (ls' := [_, _, _]) dX1_bare_45 rfl (by first | exact nI_1 _ | exact rfl) (by decide) rfl rfl ?_
      refine g_goto (pc := 48) 5 dX1_bare_48 (by decide) ?_
      have q := ih (r + 1) h (by omega) (by omega) hI hF kk
      rw [barF_y (decide_eq_true c_24)] at q
      exact q
    · refine g_iconst (pc := 27) (v := -1) dX1_bare_27 (by decide) ?_
      refine g_goto (pc := 28) 43 dX1_bare_28 (by decide) ?_
      refine g_iand (pc := 43) dX1_bare_43 ?_
      refine g_istore_n (pc := 44) (ls' := [_, _, _]) dX1_bare_44 (by decide) rfl rfl ?_
      refine g_iinc (pc := 45) (ls' := [_, _, _]) dX1_bare_45 rfl (by first | exact nI_1 _ | exact rfl) (by decide) rfl rfl ?_
      refine g_goto (pc := 48) 5 dX1_bare_48 (by decide) ?_
      have q := ih (r + 1) h (by omega) (by omega) hI hF kk
      rw [barF_n (fun e => of_decide_eq_true e c_24)] at q
      rw [and_m1]
      exact q
set_option maxHeartbeats 2000000 in
theorem k_bare (hd : 620 ≤ d) (hI : InvC ac W g (mlaw V) h) (hz : HZ g W 0 (V 31))  : Ct E d 0 0 mX1_bare [vR (nC ac 1)] h (cQ ac W g (mlaw V) h (some (vI (barF (gD g) (V 31) (gR g))))) := by
  refine ct_of (by decide) (Nat.le_of_ble_eq_true rfl) rfl ?_
  have hF : cFr h h := cFr.rf
  have b8 := hI.2.2.2.2.1.2.2.2.2.2.2.2.1
  have b10 := hI.2.2.2.2.1.2.2.2.2.2.2.2.2.1
  have bP := hI.2.2.2.2.1.2.2.2.2.2.2.2.2.2.1
  refine g_bipush (pc := 0) (v := 63) dX1_bare_0 (by decide) ?_
  refine g_istore_n (pc := 2) (ls' := [_, _, _]) dX1_bare_2 (by decide) rfl rfl ?_
  refine g_iconst (pc := 3) (v := 0) dX1_bare_3 (by decide) ?_
  refine g_istore_n (pc := 4) (ls' := [_, _, _]) dX1_bare_4 (by decide) rfl rfl ?_
  refine l_kbare (by omega) hz (gR g) 0 h rfl (Nat.zero_le _) hI hF (fun h hI hF => ?_)
  refine g_iload_n (pc := 51) dX1_bare_51 rfl ?_
  refine g_ireturn (pc := 52) dX1_bare_52 rfl (by first | exact rfl | exact j_nb _) ?_
  exact ⟨rfl, hI, hF⟩
set_option maxHeartbeats 2000000 in
theorem l_kidle {bc bs : Nat} {Q : jR → jH → Prop} {h0 : jH} (hd : 10 ≤ d) (hz : HZ g W 0 (V 31)) : ∀ (m r : Nat) (h : jH), gS g - r = m → r ≤ gS g → InvC ac W g (mlaw V) h → cFr h0 h → (∀ h, InvC ac W g (mlaw V) h → cFr h0 h → G E d bc bs mX1_idle 56 [some (vR (nC ac 1)), some (vI (bitsI (idlB (gD g) (gR g) (V 31)) (gS g))), some (vI (nI (gS g)))] [] h Q) → G E d bc bs mX1_idle 4 [some (vR (nC ac 1)), some (vI (bitsI (idlB (gD g) (gR g) (V 31)) r)), some (vI (nI r))] [] h Q := by
  intro m
  induction m with
  | zero =>
    intro r h hm hr hI hF kk
    have e : r = gS g := by omega
    subst e
    have b8 := hI.2.2.2.2.1.2.2.2.2.2.2.2.1
    have b10 := hI.2.2.2.2.1.2.2.2.2.2.2.2.2.1
    have bP := hI.2.2.2.2.1.2.2.2.2.2.2.2.2.2.1
    refine g_iload_n (pc := 4) dX1_idle_4 rfl ?_
    refine g_aload_n (pc := 5) dX1_idle_5 rfl ?_
    refine g_getfield (pc := 6) f_X1_31_1 dX1_idle_6 hI.1 rfl ?_
    refine g_getfield (pc := 9) f_X1_158_2 dX1_idle_9 hI.2.2.2.2.1.1.choose_spec rfl ?_
    refine g_icmp_ge (pc := 12) 56 dX1_idle_12 (by decide) (fun c_12 => ?_) (fun c_12 => absurd (nI_le (Nat.le_refl _) (by omega)) c_12)
    exact kk h hI hF
  | succ m ih =>
    intro r h hm hr hI hF kk
    have b8 := hI.2.2.2.2.1.2.2.2.2.2.2.2.1
    have b10 := hI.2.2.2.2.1.2.2.2.2.2.2.2.2.1
    have bP := hI.2.2.2.2.1.2.2.2.2.2.2.2.2.2.1
    refine g_iload_n (pc := 4) dX1_idle_4 rfl ?_
    refine g_aload_n (pc := 5) dX1_idle_5 rfl ?_
    refine g_getfield (pc := 6) f_X1_31_1 dX1_idle_6 hI.1 rfl ?_
    refine g_getfield (pc := 9) f_X1_158_2 dX1_idle_9 hI.2.2.2.2.1.1.choose_spec rfl ?_
    refine g_icmp_ge (pc := 12) 56 dX1_idle_12 (by decide) (fun c_12 => absurd c_12 (by intro w; have := (nI_leI (by omega) (by omega)).mp w; omega)) (fun c_12 => ?_)
    refine g_iload_n (pc := 15) dX1_idle_15 rfl ?_
    refine g_aload_n (pc := 16) dX1_idle_16 rfl ?_
    refine g_getfield (pc := 17) f_X1_58_1 dX1_idle_17 hI.1 rfl ?_
    refine g_getfield (pc := 20) f_X1_259_10 dX1_idle_20 (hI.2.2.2.1 0 liv0).1 rfl ?_
    refine g_iload_n (pc := 23) dX1_idle_23 rfl ?_
    refine g_cS (pc := 24) (M' := mX1_has) (as := [_, _]) i_X1_350 eX1_has dX1_idle_24 (k_has _ _) (by omega) rfl rfl (Nat.le_of_ble_eq_true rfl) ?_
    rw [has_liv hz b8 (show r < gS g by omega)]
    refine g_ifB_eq (pc := 27) 47 dX1_idle_27 (by decide) (fun c_27 => ?_) (fun c_27 => ?_)
    · refine g_iconst (pc := 47) (v := 0) dX1_idle_47 (by decide) ?_
      refine g_ior (pc := 48) dX1_idle_48 ?_
      refine g_istore_n (pc := 49) (ls' := [_, _, _]) dX1_idle_49 (by decide) rfl rfl ?_
      refine g_iinc (pc := 50) (ls' := [_, _, _]) dX1_idle_50 rfl (by first | exact nI_1 _ | exact rfl) (by decide) rfl rfl ?_
      refine g_goto (pc := 53) 4 dX1_idle_53 (by decide) ?_
      have q := ih (r + 1) h (by omega) (by omega) hI hF kk
      rw [bits_n (by unfold idlB; rw [show decide (V 31 r = 0) = false from c_27]; simp)] at q
      exact q
    · refine g_aload_n (pc := 30) dX1_idle_30 rfl ?_
      refine g_getfield (pc := 31) f_X1_58_1 dX1_idle_31 hI.1 rfl ?_
      refine g_iload_n (pc := 34) dX1_idle_34 rfl ?_
      refine g_cV (pc := 35) (M' := mX10_canLapse) (as := [_]) (ci := 10) rfl i_X1_353_10 eX10_canLapse dX1_idle_35 (hI.2.2.2.1 0 liv0).1 (k_canLapse (by omega) hI liv0 hz r (by omega)) (by omega) rfl rfl (Nat.le_of_ble_eq_true rfl) ?_
      refine g_ifB_ne (pc := 38) 47 dX1_idle_38 (by decide) (fun c_38 => ?_) (fun c_38 => ?_)
      · refine g_iconst (pc := 47) (v := 0) dX1_idle_47 (by decide) ?_
        refine g_ior (pc := 48) dX1_idle_48 ?_
        refine g_istore_n (pc := 49) (ls' := [_, _, _]) dX1_idle_49 (by decide) rfl rfl ?_
        refine g_iinc (pc := 50) (ls' := [_, _, _]) dX1_idle_50 rfl (by first | exact nI_1 _ | exact rfl) (by decide) rfl rfl ?_
        refine g_goto (pc := 53) 4 dX1_idle_53 (by decide) ?_
        have q := ih (r + 1) h (by omega) (by omega) hI hF kk
        rw [bits_n (by unfold clI at c_38; rw [show decide (V 31 r = 0) = true from c_27, Bool.true_and, Bool.not_eq_true'] at c_38; unfold idlB; rw [c_38]; simp)] at q
        exact q
      · refine g_iconst (pc := 41) (v := 1) dX1_idle_41 (by decide) ?_
        refine g_iload_n (pc := 42) dX1_idle_42 rfl ?_
        refine g_ishl (pc := 43) dX1_idle_43 ?_
        refine g_goto (pc := 44) 48 dX1_idle_44 (by decide) ?_
        refine g_ior (pc := 48) dX1_idle_48 ?_
        refine g_istore_n (pc := 49) (ls' := [_, _, _]) dX1_idle_49 (by decide) rfl rfl ?_
        refine g_iinc (pc := 50) (ls' := [_, _, _]) dX1_idle_50 rfl (by first | exact nI_1 _ | exact rfl) (by decide) rfl rfl ?_
        refine g_goto (pc := 53) 4 dX1_idle_53 (by decide) ?_
        have q := ih (r + 1) h (by omega) (by omega) hI hF kk
        rw [bits_y (by unfold clI at c_38; rw [show decide (V 31 r = 0) = true from c_27, Bool.true_and, Bool.not_eq_false'] at c_38; unfold idlB; rw [c_38, show decide (V 31 r = 0) = true from c_27]; rfl)] at q
        exact q
set_option maxHeartbeats 2000000 in
theorem k_idle (hd : 620 ≤ d) (hI : InvC ac W g (mlaw V) h) (hz : HZ g W 0 (V 31))  : Ct E d 0 0 mX1_idle [vR (nC ac 1)] h (cQ ac W g (mlaw V) h (some (vI (bitsI (idlB (gD g) (gR g) (V 31)) (gS g))))) := by
  refine ct_of (by decide) (Nat.le_of_ble_eq_true rfl) rfl ?_
  have hF : cFr h h := cFr.rf
  have b8 := hI.2.2.2.2.1.2.2.2.2.2.2.2.1
  have b10 := hI.2.2.2.2.1.2.2.2.2.2.2.2.2.1
  have bP := hI.2.2.2.2.1.2.2.2.2.2.2.2.2.2.1
  refine g_iconst (pc := 0) (v := 0) dX1_idle_0 (by decide) ?_
  refine g_istore_n (pc := 1) (ls' := [_, _, _]) dX1_idle_1 (by decide) rfl rfl ?_
  refine g_iconst (pc := 2) (v := 0) dX1_idle_2 (by decide) ?_
  refine g_istore_n (pc := 3) (ls' := [_, _, _]) dX1_idle_3 (by decide) rfl rfl ?_
  refine l_kidle (by omega) hz (gS g) 0 h rfl (Nat.zero_le _) hI hF (fun h hI hF => ?_)
  refine g_iload_n (pc := 56) dX1_idle_56 rfl ?_
  refine g_ireturn (pc := 57) dX1_idle_57 rfl (by first | exact rfl | exact j_nb _) ?_
  exact ⟨rfl, hI, hF⟩
set_option maxHeartbeats 2000000 in
theorem l_keldest {bc bs : Nat} {Q : jR → jH → Prop} {h0 : jH} (hd : 10 ≤ d) (hz : HZ g W 0 (V 31)) (w : Int32) : ∀ (m r : Nat) (h : jH), gR g - r = m → r ≤ gR g → InvC ac W g (mlaw V) h → cFr h0 h → (∀ h, InvC ac W g (mlaw V) h → cFr h0 h → G E d bc bs mX1_eldest 58 [some (vR (nC ac 1)), some (vI w), some (vI (bestF (fun _ => true) (fun r => V 31 (16 + r)) (-1) (gR g)).1), some (vI (nI (gR g)))] [] h Q) → G E d bc bs mX1_eldest 12 [some (vR (nC ac 1)), some (vI w), some (vI (bestF (fun _ => true) (fun r => V 31 (16 + r)) (-1) r).1), some (vI (nI r))] [] h Q := by
  intro m
  induction m with
  | zero =>
    intro r h hm hr hI hF kk
    have e : r = gR g := by omega
    subst e
    have b8 := hI.2.2.2.2.1.2.2.2.2.2.2.2.1
    have b10 := hI.2.2.2.2.1.2.2.2.2.2.2.2.2.1
    have bP := hI.2.2.2.2.1.2.2.2.2.2.2.2.2.2.1
    refine g_iload_n (pc := 12) dX1_eldest_12 rfl ?_
    refine g_aload_n (pc := 13) dX1_eldest_13 rfl ?_
    refine g_cV (pc := 14) (M' := mX1_relics) (as := []) (ci := 1) rfl i_X1_165_1 eX1_relics dX1_eldest_14 hI.1 (k_relics (by omega) hI) (by omega) rfl rfl (Nat.le_of_ble_eq_true rfl) ?_
    refine g_icmp_ge (pc := 17) 58 dX1_eldest_17 (by decide) (fun c_17 => ?_) (fun c_17 => absurd (nI_le (Nat.le_refl _) (by omega)) c_17)
    exact kk h hI hF
  | succ m ih =>
    intro r h hm hr hI hF kk
    have b8 := hI.2.2.2.2.1.2.2.2.2.2.2.2.1
    have b10 := hI.2.2.2.2.1.2.2.2.2.2.2.2.2.1
    have bP := hI.2.2.2.2.1.2.2.2.2.2.2.2.2.2.1
    refine g_iload_n (pc := 12) dX1_eldest_12 rfl ?_
    refine g_aload_n (pc := 13) dX1_eldest_13 rfl ?_
    refine g_cV (pc := 14) (M' := mX1_relics) (as := []) (ci := 1) rfl i_X1_165_1 eX1_relics dX1_eldest_14 hI.1 (k_relics (by omega) hI) (by omega) rfl rfl (Nat.le_of_ble_eq_true rfl) ?_
    refine g_icmp_ge (pc := 17) 58 dX1_eldest_17 (by decide) (fun c_17 => absurd c_17 (by intro w; have := (nI_leI (by omega) (by omega)).mp w; omega)) (fun c_17 => ?_)
    refine g_aload_n (pc := 20) dX1_eldest_20 rfl ?_
    refine g_getfield (pc := 21) f_X1_58_1 dX1_eldest_21 hI.1 rfl ?_
    refine g_getfield (pc := 24) f_X1_311_10 dX1_eldest_24 (hI.2.2.2.1 0 liv0).1 rfl ?_
    refine g_iload_n (pc := 27) dX1_eldest_27 rfl ?_
    refine g_iaload (pc := 28) dX1_eldest_28 (hI.2.2.2.1 0 liv0).2.1 (j := r) rfl (by omega) (by first | decide | omega) rfl ?_
    rw [show W (200 + 0) r = V 31 (16 + r) from hz.1 r (by omega)]
    refine g_iload_n (pc := 29) dX1_eldest_29 rfl ?_
    refine g_iconst (pc := 30) (v := -1) dX1_eldest_30 (by decide) ?_
    refine g_icmp_ne (pc := 31) 38 dX1_eldest_31 (by decide) (fun c_31 => ?_) (fun c_31 => ?_)
    · obtain ⟨j9, hj9, e1, e2⟩ := bestF_j c_31
      refine g_aload_n (pc := 38) dX1_eldest_38 rfl ?_
      refine g_getfield (pc := 39) f_X1_58_1 dX1_eldest_39 hI.1 rfl ?_
      refine g_getfield (pc := 42) f_X1_311_10 dX1_eldest_42 (hI.2.2.2.1 0 liv0).1 rfl ?_
      refine g_iload_n (pc := 45) dX1_eldest_45 rfl ?_
      refine g_iaload (pc := 46) dX1_eldest_46 (hI.2.2.2.1 0 liv0).2.1 (j := j9) e1 (by omega) (by first | decide | omega) rfl ?_
      rw [show W (200 + 0) j9 = (bestF (fun _ => true) (fun r => V 31 (16 + r)) (-1) r).2 from (hz.1 j9 (by omega)).trans e2.symm]
      refine g_icmp_le (pc := 47) 52 dX1_eldest_47 (by decide) (fun c_47 => ?_) (fun c_47 => ?_)
      · refine g_iinc (pc := 52) (ls' := [_, _, _, _]) dX1_eldest_52 rfl (by first | exact nI_1 _ | exact rfl) (by decide) rfl rfl ?_
        refine g_goto (pc := 55) 12 dX1_eldest_55 (by decide) ?_
        have q := ih (r + 1) h (by omega) (by omega) hI hF kk
        rw [bestF_n (p := fun _ => true) (f := (fun r => V 31 (16 + r))) (m0 := (-1)) (r := r) (fun e => absurd e.2 (Int32.not_lt.mpr c_47))] at q
        exact q
      · refine g_iload_n (pc := 50) dX1_eldest_50 rfl ?_
        refine g_istore_n (pc := 51) (ls' := [_, _, _, _]) dX1_eldest_51 (by decide) rfl rfl ?_
        refine g_iinc (pc := 52) (ls' := [_, _, _, _]) dX1_eldest_52 rfl (by first | exact nI_1 _ | exact rfl) (by decide) rfl rfl ?_
        refine g_goto (pc := 55) 12 dX1_eldest_55 (by decide) ?_
        have q := ih (r + 1) h (by omega) (by omega) hI hF kk
        rw [bestF_y (p := fun _ => true) (f := (fun r => V 31 (16 + r))) (m0 := (-1)) (r := r) rfl (Int32.not_le.mp c_47)] at q
        exact q
    · refine g_iconst (pc := 34) (v := -1) dX1_eldest_34 (by decide) ?_
      refine g_goto (pc := 35) 47 dX1_eldest_35 (by decide) ?_
      
      refine g_icmp_le (pc := 47) 52 dX1_eldest_47 (by decide) (fun c_47 => ?_) (fun c_47 => ?_)
      · refine g_iinc (pc := 52) (ls' := [_, _, _, _]) dX1_eldest_52 rfl (by first | exact nI_1 _ | exact rfl) (by decide) rfl rfl ?_
        refine g_goto (pc := 55) 12 dX1_eldest_55 (by decide) ?_
        have q := ih (r + 1) h (by omega) (by omega) hI hF kk
        rw [bestF_n (p := fun _ => true) (f := (fun r => V 31 (16 + r))) (m0 := (-1)) (r := r) (fun e => absurd e.2 (by rw [bestF_m1 c_31 (by omega)]; exact Int32.not_lt.mpr c_47))] at q
        exact q
      · refine g_iload_n (pc := 50) dX1_eldest_50 rfl ?_
        refine g_istore_n (pc := 51) (ls' := [_, _, _, _]) dX1_eldest_51 (by decide) rfl rfl ?_
        refine g_iinc (pc := 52) (ls' := [_, _, _, _]) dX1_eldest_52 rfl (by first | exact nI_1 _ | exact rfl) (by decide) rfl rfl ?_
        refine g_goto (pc := 55) 12 dX1_eldest_55 (by decide) ?_
        have q := ih (r + 1) h (by omega) (by omega) hI hF kk
        rw [bestF_y (p := fun _ => true) (f := (fun r => V 31 (16 + r))) (m0 := (-1)) (r := r) rfl (by rw [bestF_m1 c_31 (by omega)]; exact Int32.not_le.mp c_47)] at q
        exact q
set_option maxHeartbeats 2000000 in
theorem k_eldest (hd : 620 ≤ d) (hI : InvC ac W g (mlaw V) h) (hz : HZ g W 0 (V 31)) (w : Int32) (hv : inR w 0 1 = true) : Ct E d 0 0 mX1_eldest [vR (nC ac 1), vI w] h (cQ ac W g (mlaw V) h (some (vI (if w = 0 then (bestF (fun _ => true) (fun r => V 31 (16 + r)) (-1) (gR g)).1 else (bestF (fun _ => true) (fun r => V 31 (16 + r)) (-1) (gR g)).2)))) := by
  refine ct_of (by decide) (Nat.le_of_ble_eq_true rfl) rfl ?_
  have hF : cFr h h := cFr.rf
  have b8 := hI.2.2.2.2.1.2.2.2.2.2.2.2.1
  have b10 := hI.2.2.2.2.1.2.2.2.2.2.2.2.2.1
  have bP := hI.2.2.2.2.1.2.2.2.2.2.2.2.2.2.1
  refine g_aload_n (pc := 0) dX1_eldest_0 rfl ?_
  refine g_iload_n (pc := 1) dX1_eldest_1 rfl ?_
  refine g_cS (pc := 2) (M' := mX1_isPart) (as := [_]) i_X1_344 eX1_isPart dX1_eldest_2 (k_isPartI _) (by omega) rfl rfl (Nat.le_of_ble_eq_true rfl) ?_
  rw [hv]
  refine g_cVv (pc := 5) (M' := mX1_need) (as := [_]) (ci := 1) rfl i_X1_183_1 eX1_need dX1_eldest_5 hI.1 (k_needT) (by omega) rfl rfl (Nat.le_of_ble_eq_true rfl) ?_
  refine g_iconst (pc := 8) (v := -1) dX1_eldest_8 (by decide) ?_
  refine g_istore_n (pc := 9) (ls' := [_, _, _, _]) dX1_eldest_9 (by decide) rfl rfl ?_
  refine g_iconst (pc := 10) (v := 0) dX1_eldest_10 (by decide) ?_
  refine g_istore_n (pc := 11) (ls' := [_, _, _, _]) dX1_eldest_11 (by decide) rfl rfl ?_
  refine l_keldest (by omega) hz w (gR g) 0 h rfl (Nat.zero_le _) hI hF (fun h hI hF => ?_)
  refine g_iload_n (pc := 58) dX1_eldest_58 rfl ?_
  refine g_if_eq (pc := 59) 67 dX1_eldest_59 (by decide) (fun c_59 => ?_) (fun c_59 => ?_)
  · refine g_iload_n (pc := 67) dX1_eldest_67 rfl ?_
    refine g_goto (pc := 68) 80 dX1_eldest_68 (by decide) ?_
    refine g_ireturn (pc := 80) dX1_eldest_80 rfl (by first | exact rfl | exact j_nb _) ?_
    exact ⟨rv (by rw [if_pos c_59]), hI, hF⟩
  · refine g_iload_n (pc := 62) dX1_eldest_62 rfl ?_
    refine g_iconst (pc := 63) (v := -1) dX1_eldest_63 (by decide) ?_
    refine g_icmp_ne (pc := 64) 71 dX1_eldest_64 (by decide) (fun c_64 => ?_) (fun c_64 => ?_)
    · obtain ⟨j9, hj9, e1, e2⟩ := bestF_j c_64
      refine g_aload_n (pc := 71) dX1_eldest_71 rfl ?_
      refine g_getfield (pc := 72) f_X1_58_1 dX1_eldest_72 hI.1 rfl ?_
      refine g_getfield (pc := 75) f_X1_311_10 dX1_eldest_75 (hI.2.2.2.1 0 liv0).1 rfl ?_
      refine g_iload_n (pc := 78) dX1_eldest_78 rfl ?_
      refine g_iaload (pc := 79) dX1_eldest_79 (hI.2.2.2.1 0 liv0).2.1 (j := j9) e1 (by omega) (by first | decide | omega) rfl ?_
      refine g_ireturn (pc := 80) dX1_eldest_80 rfl (by first | exact rfl | exact j_nb _) ?_
      exact ⟨rv (by rw [if_neg c_59]; exact (hz.1 j9 (by omega)).trans e2.symm), hI, hF⟩
    · refine g_iload_n (pc := 67) dX1_eldest_67 rfl ?_
      refine g_goto (pc := 68) 80 dX1_eldest_68 (by decide) ?_
      refine g_ireturn (pc := 80) dX1_eldest_80 rfl (by first | exact rfl | exact j_nb _) ?_
      exact ⟨rv (by rw [if_neg c_59, bestF_m1 c_64 (by omega), c_64]), hI, hF⟩
set_option maxHeartbeats 2000000 in
theorem l_kweakest {bc bs : Nat} {Q : jR → jH → Prop} {h0 : jH} (hd : 10 ≤ d) (hz : HZ g W 0 (V 31)) (w : Int32) : ∀ (m r : Nat) (h : jH), gS g - r = m → r ≤ gS g → InvC ac W g (mlaw V) h → cFr h0 h → (∀ h, InvC ac W g (mlaw V) h → cFr h0 h → G E d bc bs mX1_weakest 61 [some (vR (nC ac 1)), some (vI w), some (vI (bestF (fun _ => true) (fun s => V 31 (8 + s)) 0 (gS g)).1), some (vI (nI (gS g)))] [] h Q) → G E d bc bs mX1_weakest 12 [some (vR (nC ac 1)), some (vI w), some (vI (bestF (fun _ => true) (fun s => V 31 (8 + s)) 0 r).1), some (vI (nI r))] [] h Q := by
  intro m
  induction m with
  | zero =>
    intro r h hm hr hI hF kk
    have e : r = gS g := by omega
    subst e
    have b8 := hI.2.2.2.2.1.2.2.2.2.2.2.2.1
    have b10 := hI.2.2.2.2.1.2.2.2.2.2.2.2.2.1
    have bP := hI.2.2.2.2.1.2.2.2.2.2.2.2.2.2.1
    refine g_iload_n (pc := 12) dX1_weakest_12 rfl ?_
    refine g_aload_n (pc := 13) dX1_weakest_13 rfl ?_
    refine g_getfield (pc := 14) f_X1_31_1 dX1_weakest_14 hI.1 rfl ?_
    refine g_getfield (pc := 17) f_X1_158_2 dX1_weakest_17 hI.2.2.2.2.1.1.choose_spec rfl ?_
    refine g_icmp_ge (pc := 20) 61 dX1_weakest_20 (by decide) (fun c_20 => ?_) (fun c_20 => absurd (nI_le (Nat.le_refl _) (by omega)) c_20)
    exact kk h hI hF
  | succ m ih =>
    intro r h hm hr hI hF kk
    have b8 := hI.2.2.2.2.1.2.2.2.2.2.2.2.1
    have b10 := hI.2.2.2.2.1.2.2.2.2.2.2.2.2.1
    have bP := hI.2.2.2.2.1.2.2.2.2.2.2.2.2.2.1
    refine g_iload_n (pc := 12) dX1_weakest_12 rfl ?_
    refine g_aload_n (pc := 13) dX1_weakest_13 rfl ?_
    refine g_getfield (pc := 14) f_X1_31_1 dX1_weakest_14 hI.1 rfl ?_
    refine g_getfield (pc := 17) f_X1_158_2 dX1_weakest_17 hI.2.2.2.2.1.1.choose_spec rfl ?_
    refine g_icmp_ge (pc := 20) 61 dX1_weakest_20 (by decide) (fun c_20 => absurd c_20 (by intro w; have := (nI_leI (by omega) (by omega)).mp w; omega)) (fun c_20 => ?_)
    refine g_aload_n (pc := 23) dX1_weakest_23 rfl ?_
    refine g_getfield (pc := 24) f_X1_58_1 dX1_weakest_24 hI.1 rfl ?_
    refine g_getfield (pc := 27) f_X1_279_10 dX1_weakest_27 (hI.2.2.2.1 0 liv0).1 rfl ?_
    refine g_iload_n (pc := 30) dX1_weakest_30 rfl ?_
    refine g_iaload (pc := 31) dX1_weakest_31 (hI.2.2.2.1 0 liv0).2.2.1 (j := r) rfl (by omega) (by first | decide | omega) rfl ?_
    rw [show W (300 + 0) r = V 31 (8 + r) from hz.2.1 r (by omega)]
    refine g_iload_n (pc := 32) dX1_weakest_32 rfl ?_
    refine g_iconst (pc := 33) (v := -1) dX1_weakest_33 (by decide) ?_
    refine g_icmp_ne (pc := 34) 41 dX1_weakest_34 (by decide) (fun c_34 => ?_) (fun c_34 => ?_)
    · obtain ⟨j9, hj9, e1, e2⟩ := bestF_j c_34
      refine g_aload_n (pc := 41) dX1_weakest_41 rfl ?_
      refine g_getfield (pc := 42) f_X1_58_1 dX1_weakest_42 hI.1 rfl ?_
      refine g_getfield (pc := 45) f_X1_279_10 dX1_weakest_45 (hI.2.2.2.1 0 liv0).1 rfl ?_
      refine g_iload_n (pc := 48) dX1_weakest_48 rfl ?_
      refine g_iaload (pc := 49) dX1_weakest_49 (hI.2.2.2.1 0 liv0).2.2.1 (j := j9) e1 (by omega) (by first | decide | omega) rfl ?_
      rw [show W (300 + 0) j9 = (bestF (fun _ => true) (fun s => V 31 (8 + s)) 0 r).2 from (hz.2.1 j9 (by omega)).trans e2.symm]
      refine g_icmp_le (pc := 50) 55 dX1_weakest_50 (by decide) (fun c_50 => ?_) (fun c_50 => ?_)
      · refine g_iinc (pc := 55) (ls' := [_, _, _, _]) dX1_weakest_55 rfl (by first | exact nI_1 _ | exact rfl) (by decide) rfl rfl ?_
        refine g_goto (pc := 58) 12 dX1_weakest_58 (by decide) ?_
        have q := ih (r + 1) h (by omega) (by omega) hI hF kk
        rw [bestF_n (p := fun _ => true) (f := (fun s => V 31 (8 + s))) (m0 := 0) (r := r) (fun e => absurd e.2 (Int32.not_lt.mpr c_50))] at q
        exact q
      · refine g_iload_n (pc := 53) dX1_weakest_53 rfl ?_
        refine g_istore_n (pc := 54) (ls' := [_, _, _, _]) dX1_weakest_54 (by decide) rfl rfl ?_
        refine g_iinc (pc := 55) (ls' := [_, _, _, _]) dX1_weakest_55 rfl (by first | exact nI_1 _ | exact rfl) (by decide) rfl rfl ?_
        refine g_goto (pc := 58) 12 dX1_weakest_58 (by decide) ?_
        have q := ih (r + 1) h (by omega) (by omega) hI hF kk
        rw [bestF_y (p := fun _ => true) (f := (fun s => V 31 (8 + s))) (m0 := 0) (r := r) rfl (Int32.not_le.mp c_50)] at q
        exact q
    · refine g_iconst (pc := 37) (v := 0) dX1_weakest_37 (by decide) ?_
      refine g_goto (pc := 38) 50 dX1_weakest_38 (by decide) ?_
      
      refine g_icmp_le (pc := 50) 55 dX1_weakest_50 (by decide) (fun c_50 => ?_) (fun c_50 => ?_)
      · refine g_iinc (pc := 55) (ls' := [_, _, _, _]) dX1_weakest_55 rfl (by first | exact nI_1 _ | exact rfl) (by decide) rfl rfl ?_
        refine g_goto (pc := 58) 12 dX1_weakest_58 (by decide) ?_
        have q := ih (r + 1) h (by omega) (by omega) hI hF kk
        rw [bestF_n (p := fun _ => true) (f := (fun s => V 31 (8 + s))) (m0 := 0) (r := r) (fun e => absurd e.2 (by rw [bestF_m1 c_34 (by omega)]; exact Int32.not_lt.mpr c_50))] at q
        exact q
      · refine g_iload_n (pc := 53) dX1_weakest_53 rfl ?_
        refine g_istore_n (pc := 54) (ls' := [_, _, _, _]) dX1_weakest_54 (by decide) rfl rfl ?_
        refine g_iinc (pc := 55) (ls' := [_, _, _, _]) dX1_weakest_55 rfl (by first | exact nI_1 _ | exact rfl) (by decide) rfl rfl ?_
        refine g_goto (pc := 58) 12 dX1_weakest_58 (by decide) ?_
        have q := ih (r + 1) h (by omega) (by omega) hI hF kk
        rw [bestF_y (p := fun _ => true) (f := (fun s => V 31 (8 + s))) (m0 := 0) (r := r) rfl (by rw [bestF_m1 c_34 (by omega)]; exact Int32.not_le.mp c_50)] at q
        exact q
set_option maxHeartbeats 2000000 in
theorem k_weakest (hd : 620 ≤ d) (hI : InvC ac W g (mlaw V) h) (hz : HZ g W 0 (V 31)) (w : Int32) (hv : inR w 0 1 = true) : Ct E d 0 0 mX1_weakest [vR (nC ac 1), vI w] h (cQ ac W g (mlaw V) h (some (vI (if w = 0 ∨ (bestF (fun _ => true) (fun s => V 31 (8 + s)) 0 (gS g)).1 = -1 then (bestF (fun _ => true) (fun s => V 31 (8 + s)) 0 (gS g)).1 else (bestF (fun _ => true) (fun s => V 31 (8 + s)) 0 (gS g)).2)))) := by
  refine ct_of (by decide) (Nat.le_of_ble_eq_true rfl) rfl ?_
  have hF : cFr h h := cFr.rf
  have b8 := hI.2.2.2.2.1.2.2.2.2.2.2.2.1
  have b10 := hI.2.2.2.2.1.2.2.2.2.2.2.2.2.1
  have bP := hI.2.2.2.2.1.2.2.2.2.2.2.2.2.2.1
  refine g_aload_n (pc := 0) dX1_weakest_0 rfl ?_
  refine g_iload_n (pc := 1) dX1_weakest_1 rfl ?_
  refine g_cS (pc := 2) (M' := mX1_isPart) (as := [_]) i_X1_344 eX1_isPart dX1_weakest_2 (k_isPartI _) (by omega) rfl rfl (Nat.le_of_ble_eq_true rfl) ?_
  rw [hv]
  refine g_cVv (pc := 5) (M' := mX1_need) (as := [_]) (ci := 1) rfl i_X1_183_1 eX1_need dX1_weakest_5 hI.1 (k_needT) (by omega) rfl rfl (Nat.le_of_ble_eq_true rfl) ?_
  refine g_iconst (pc := 8) (v := -1) dX1_weakest_8 (by decide) ?_
  refine g_istore_n (pc := 9) (ls' := [_, _, _, _]) dX1_weakest_9 (by decide) rfl rfl ?_
  refine g_iconst (pc := 10) (v := 0) dX1_weakest_10 (by decide) ?_
  refine g_istore_n (pc := 11) (ls' := [_, _, _, _]) dX1_weakest_11 (by decide) rfl rfl ?_
  refine l_kweakest (by omega) hz w (gS g) 0 h rfl (Nat.zero_le _) hI hF (fun h hI hF => ?_)
  refine g_iload_n (pc := 61) dX1_weakest_61 rfl ?_
  refine g_if_eq (pc := 62) 70 dX1_weakest_62 (by decide) (fun c_62 => ?_) (fun c_62 => ?_)
  · refine g_iload_n (pc := 70) dX1_weakest_70 rfl ?_
    refine g_goto (pc := 71) 83 dX1_weakest_71 (by decide) ?_
    refine g_ireturn (pc := 83) dX1_weakest_83 rfl (by first | exact rfl | exact j_nb _) ?_
    exact ⟨rv (by rw [if_pos (Or.inl c_62)]), hI, hF⟩
  · refine g_iload_n (pc := 65) dX1_weakest_65 rfl ?_
    refine g_iconst (pc := 66) (v := -1) dX1_weakest_66 (by decide) ?_
    refine g_icmp_ne (pc := 67) 74 dX1_weakest_67 (by decide) (fun c_67 => ?_) (fun c_67 => ?_)
    · obtain ⟨j9, hj9, e1, e2⟩ := bestF_j c_67
      refine g_aload_n (pc := 74) dX1_weakest_74 rfl ?_
      refine g_getfield (pc := 75) f_X1_58_1 dX1_weakest_75 hI.1 rfl ?_
      refine g_getfield (pc := 78) f_X1_279_10 dX1_weakest_78 (hI.2.2.2.1 0 liv0).1 rfl ?_
      refine g_iload_n (pc := 81) dX1_weakest_81 rfl ?_
      refine g_iaload (pc := 82) dX1_weakest_82 (hI.2.2.2.1 0 liv0).2.2.1 (j := j9) e1 (by omega) (by first | decide | omega) rfl ?_
      refine g_ireturn (pc := 83) dX1_weakest_83 rfl (by first | exact rfl | exact j_nb _) ?_
      exact ⟨rv (by rw [if_neg (fun z => z.elim c_62 c_67)]; exact (hz.2.1 j9 (by omega)).trans e2.symm), hI, hF⟩
    · refine g_iload_n (pc := 70) dX1_weakest_70 rfl ?_
      refine g_goto (pc := 71) 83 dX1_weakest_71 (by decide) ?_
      refine g_ireturn (pc := 83) dX1_weakest_83 rfl (by first | exact rfl | exact j_nb _) ?_
      exact ⟨rv (by rw [if_pos (Or.inr c_67)]), hI, hF⟩
set_option maxHeartbeats 2000000 in
theorem l_kstrongest {bc bs : Nat} {Q : jR → jH → Prop} {h0 : jH} (hd : 610 ≤ d) (hz : HZ g W 0 (V 31)) (w : Int32) : ∀ (m r : Nat) (h : jH), gR g - r = m → r ≤ gR g → InvC ac W g (mlaw V) h → cFr h0 h → (∀ h, InvC ac W g (mlaw V) h → cFr h0 h → G E d bc bs mX1_strongest 65 [some (vR (nC ac 1)), some (vI w), some (vI (bestF (kpd (V 31)) (pwN V (gD g) (gR g)) (-1) (gR g)).1), some (vI (nI (gR g)))] [] h Q) → G E d bc bs mX1_strongest 12 [some (vR (nC ac 1)), some (vI w), some (vI (bestF (kpd (V 31)) (pwN V (gD g) (gR g)) (-1) r).1), some (vI (nI r))] [] h Q := by
  intro m
  induction m with
  | zero =>
    intro r h hm hr hI hF kk
    have e : r = gR g := by omega
    subst e
    have b8 := hI.2.2.2.2.1.2.2.2.2.2.2.2.1
    have b10 := hI.2.2.2.2.1.2.2.2.2.2.2.2.2.1
    have bP := hI.2.2.2.2.1.2.2.2.2.2.2.2.2.2.1
    refine g_iload_n (pc := 12) dX1_strongest_12 rfl ?_
    refine g_aload_n (pc := 13) dX1_strongest_13 rfl ?_
    refine g_cV (pc := 14) (M' := mX1_relics) (as := []) (ci := 1) rfl i_X1_165_1 eX1_relics dX1_strongest_14 hI.1 (k_relics (by omega) hI) (by omega) rfl rfl (Nat.le_of_ble_eq_true rfl) ?_
    refine g_icmp_ge (pc := 17) 65 dX1_strongest_17 (by decide) (fun c_17 => ?_) (fun c_17 => absurd (nI_le (Nat.le_refl _) (by omega)) c_17)
    exact kk h hI hF
  | succ m ih =>
    intro r h hm hr hI hF kk
    have b8 := hI.2.2.2.2.1.2.2.2.2.2.2.2.1
    have b10 := hI.2.2.2.2.1.2.2.2.2.2.2.2.2.1
    have bP := hI.2.2.2.2.1.2.2.2.2.2.2.2.2.2.1
    refine g_iload_n (pc := 12) dX1_strongest_12 rfl ?_
    refine g_aload_n (pc := 13) dX1_strongest_13 rfl ?_
    refine g_cV (pc := 14) (M' := mX1_relics) (as := []) (ci := 1) rfl i_X1_165_1 eX1_relics dX1_strongest_14 hI.1 (k_relics (by omega) hI) (by omega) rfl rfl (Nat.le_of_ble_eq_true rfl) ?_
    refine g_icmp_ge (pc := 17) 65 dX1_strongest_17 (by decide) (fun c_17 => absurd c_17 (by intro w; have := (nI_leI (by omega) (by omega)).mp w; omega)) (fun c_17 => ?_)
    refine g_aload_n (pc := 20) dX1_strongest_20 rfl ?_
    refine g_getfield (pc := 21) f_X1_58_1 dX1_strongest_21 hI.1 rfl ?_
    refine g_getfield (pc := 24) f_X1_311_10 dX1_strongest_24 (hI.2.2.2.1 0 liv0).1 rfl ?_
    refine g_iload_n (pc := 27) dX1_strongest_27 rfl ?_
    refine g_iaload (pc := 28) dX1_strongest_28 (hI.2.2.2.1 0 liv0).2.1 (j := r) rfl (by omega) (by first | decide | omega) rfl ?_
    rw [show W (200 + 0) r = V 31 (16 + r) from hz.1 r (by omega)]
    refine g_iconst (pc := 29) (v := -1) dX1_strongest_29 (by decide) ?_
    refine g_icmp_eq (pc := 30) 59 dX1_strongest_30 (by decide) (fun c_30 => ?_) (fun c_30 => ?_)
    · refine g_iinc (pc := 59) (ls' := [_, _, _, _]) dX1_strongest_59 rfl (by first | exact nI_1 _ | exact rfl) (by decide) rfl rfl ?_
      refine g_goto (pc := 62) 12 dX1_strongest_62 (by decide) ?_
      have q := ih (r + 1) h (by omega) (by omega) hI hF kk
      rw [bestF_n (p := kpd (V 31)) (f := pwN V (gD g) (gR g)) (m0 := -1) (r := r) (fun e => of_decide_eq_true e.1 c_30)] at q
      exact q
    · refine g_iload_n (pc := 33) dX1_strongest_33 rfl ?_
      refine g_iconst (pc := 34) (v := -1) dX1_strongest_34 (by decide) ?_
      refine g_icmp_eq (pc := 35) 57 dX1_strongest_35 (by decide) (fun c_35 => ?_) (fun c_35 => ?_)
      · refine g_iload_n (pc := 57) dX1_strongest_57 rfl ?_
        refine g_istore_n (pc := 58) (ls' := [_, _, _, _]) dX1_strongest_58 (by decide) rfl rfl ?_
        refine g_iinc (pc := 59) (ls' := [_, _, _, _]) dX1_strongest_59 rfl (by first | exact nI_1 _ | exact rfl) (by decide) rfl rfl ?_
        refine g_goto (pc := 62) 12 dX1_strongest_62 (by decide) ?_
        have q := ih (r + 1) h (by omega) (by omega) hI hF kk
        rw [bestF_y (p := kpd (V 31)) (f := pwN V (gD g) (gR g)) (m0 := -1) (r := r) (decide_eq_true c_30) (by rw [bestF_m1 c_35 (by omega)]; exact pwr_ge)] at q
        exact q
      · obtain ⟨j9, hj9, e1, e2⟩ := bestF_j c_35
        refine g_aload_n (pc := 38) dX1_strongest_38 rfl ?_
        refine g_getfield (pc := 39) f_X1_58_1 dX1_strongest_39 hI.1 rfl ?_
        refine g_iload_n (pc := 42) dX1_strongest_42 rfl ?_
        refine c_cV (pc := 43) (M' := mX10_powerOf) (as := [_]) (ci := 10) rfl i_X1_314_10 eX10_powerOf dX1_strongest_43 (hI.2.2.2.1 0 liv0).1 (k_powerOf (by omega) hI liv0 hz r (by omega)) (by omega) rfl rfl (Nat.le_of_ble_eq_true rfl) (fun h hI fr => ?_)
        replace hF := cFr.tr hF fr
        refine g_aload_n (pc := 46) dX1_strongest_46 rfl ?_
        refine g_getfield (pc := 47) f_X1_58_1 dX1_strongest_47 hI.1 rfl ?_
        refine g_iload_n (pc := 50) dX1_strongest_50 rfl ?_
        rw [e1]
        refine c_cV (pc := 51) (M' := mX10_powerOf) (as := [_]) (ci := 10) rfl i_X1_314_10 eX10_powerOf dX1_strongest_51 (hI.2.2.2.1 0 liv0).1 (k_powerOf (by omega) hI liv0 hz j9 (by omega)) (by omega) rfl rfl (Nat.le_of_ble_eq_true rfl) (fun h hI fr => ?_)
        replace hF := cFr.tr hF fr
        refine g_icmp_le (pc := 54) 59 dX1_strongest_54 (by decide) (fun c_54 => ?_) (fun c_54 => ?_)
        · refine g_iinc (pc := 59) (ls' := [_, _, _, _]) dX1_strongest_59 rfl (by first | exact nI_1 _ | exact rfl) (by decide) rfl rfl ?_
          refine g_goto (pc := 62) 12 dX1_strongest_62 (by decide) ?_
          have q := ih (r + 1) h (by omega) (by omega) hI hF kk
          rw [bestF_n (p := kpd (V 31)) (f := pwN V (gD g) (gR g)) (m0 := -1) (r := r) (fun e => absurd e.2 (by rw [e2]; exact Int32.not_lt.mpr c_54)), e1] at q
          exact q
        · refine g_iload_n (pc := 57) dX1_strongest_57 rfl ?_
          refine g_istore_n (pc := 58) (ls' := [_, _, _, _]) dX1_strongest_58 (by decide) rfl rfl ?_
          refine g_iinc (pc := 59) (ls' := [_, _, _, _]) dX1_strongest_59 rfl (by first | exact nI_1 _ | exact rfl) (by decide) rfl rfl ?_
          refine g_goto (pc := 62) 12 dX1_strongest_62 (by decide) ?_
          have q := ih (r + 1) h (by omega) (by omega) hI hF kk
          rw [bestF_y (p := kpd (V 31)) (f := pwN V (gD g) (gR g)) (m0 := -1) (r := r) (decide_eq_true c_30) (by rw [e2]; exact Int32.not_le.mp c_54)] at q
          exact q
set_option maxHeartbeats 2000000 in
theorem k_strongest (hd : 620 ≤ d) (hI : InvC ac W g (mlaw V) h) (hz : HZ g W 0 (V 31)) (w : Int32) (hv : inR w 0 1 = true) : Ct E d 0 0 mX1_strongest [vR (nC ac 1), vI w] h (cQ ac W g (mlaw V) h (some (vI (if w = 0 then (bestF (kpd (V 31)) (pwN V (gD g) (gR g)) (-1) (gR g)).1 else (bestF (kpd (V 31)) (pwN V (gD g) (gR g)) (-1) (gR g)).2)))) := by
  refine ct_of (by decide) (Nat.le_of_ble_eq_true rfl) rfl ?_
  have hF : cFr h h := cFr.rf
  have b8 := hI.2.2.2.2.1.2.2.2.2.2.2.2.1
  have b10 := hI.2.2.2.2.1.2.2.2.2.2.2.2.2.1
  have bP := hI.2.2.2.2.1.2.2.2.2.2.2.2.2.2.1
  refine g_aload_n (pc := 0) dX1_strongest_0 rfl ?_
  refine g_iload_n (pc := 1) dX1_strongest_1 rfl ?_
  refine g_cS (pc := 2) (M' := mX1_isPart) (as := [_]) i_X1_344 eX1_isPart dX1_strongest_2 (k_isPartI _) (by omega) rfl rfl (Nat.le_of_ble_eq_true rfl) ?_
  rw [hv]
  refine g_cVv (pc := 5) (M' := mX1_need) (as := [_]) (ci := 1) rfl i_X1_183_1 eX1_need dX1_strongest_5 hI.1 (k_needT) (by omega) rfl rfl (Nat.le_of_ble_eq_true rfl) ?_
  refine g_iconst (pc := 8) (v := -1) dX1_strongest_8 (by decide) ?_
  refine g_istore_n (pc := 9) (ls' := [_, _, _, _]) dX1_strongest_9 (by decide) rfl rfl ?_
  refine g_iconst (pc := 10) (v := 0) dX1_strongest_10 (by decide) ?_
  refine g_istore_n (pc := 11) (ls' := [_, _, _, _]) dX1_strongest_11 (by decide) rfl rfl ?_
  refine l_kstrongest (by omega) hz w (gR g) 0 h rfl (Nat.zero_le _) hI hF (fun h hI hF => ?_)
  refine g_iload_n (pc := 65) dX1_strongest_65 rfl ?_
  refine g_if_eq (pc := 66) 74 dX1_strongest_66 (by decide) (fun c_66 => ?_) (fun c_66 => ?_)
  · refine g_iload_n (pc := 74) dX1_strongest_74 rfl ?_
    refine g_goto (pc := 75) 86 dX1_strongest_75 (by decide) ?_
    refine g_ireturn (pc := 86) dX1_strongest_86 rfl (by first | exact rfl | exact j_nb _) ?_
    exact ⟨rv (by rw [if_pos c_66]), hI, hF⟩
  · refine g_iload_n (pc := 69) dX1_strongest_69 rfl ?_
    refine g_iconst (pc := 70) (v := -1) dX1_strongest_70 (by decide) ?_
    refine g_icmp_ne (pc := 71) 78 dX1_strongest_71 (by decide) (fun c_71 => ?_) (fun c_71 => ?_)
    · obtain ⟨j9, hj9, e1, e2⟩ := bestF_j c_71
      refine g_aload_n (pc := 78) dX1_strongest_78 rfl ?_
      refine g_getfield (pc := 79) f_X1_58_1 dX1_strongest_79 hI.1 rfl ?_
      refine g_iload_n (pc := 82) dX1_strongest_82 rfl ?_
      rw [e1]
      refine c_cV (pc := 83) (M' := mX10_powerOf) (as := [_]) (ci := 10) rfl i_X1_314_10 eX10_powerOf dX1_strongest_83 (hI.2.2.2.1 0 liv0).1 (k_powerOf (by omega) hI liv0 hz j9 (by omega)) (by omega) rfl rfl (Nat.le_of_ble_eq_true rfl) (fun h hI fr => ?_)
      replace hF := cFr.tr hF fr
      refine g_ireturn (pc := 86) dX1_strongest_86 rfl (by first | exact rfl | exact j_nb _) ?_
      exact ⟨rv (by rw [if_neg c_66, e2]), hI, hF⟩
    · refine g_iload_n (pc := 74) dX1_strongest_74 rfl ?_
      refine g_goto (pc := 75) 86 dX1_strongest_75 (by decide) ?_
      refine g_ireturn (pc := 86) dX1_strongest_86 rfl (by first | exact rfl | exact j_nb _) ?_
      exact ⟨rv (by rw [if_neg c_66, bestF_m1 c_71 (by omega), c_71]), hI, hF⟩
end
section
variable {E : jE} {d : Nat} {h : jH} {ac : Nat → Nat} {W : mV} {g : HD} {F : (Nat → Int32) → Int32}
set_option maxHeartbeats 2000000 in
theorem x_needs (hd : 20 ≤ d) (hI : InvC ac W g F h) (x : Int32) (hv : inR x 0 5 = false) : Ct E d 1 6 mX1_needs [vR (nC ac 1), vI x] h (cX ac W g F h nmIA 1) := by
  refine ct_of (by decide) (Nat.le_of_ble_eq_true rfl) rfl ?_
  have hF : cFr h h := cFr.rf
  have b8 := hI.2.2.2.2.1.2.2.2.2.2.2.2.1
  have b10 := hI.2.2.2.2.1.2.2.2.2.2.2.2.2.1
  have bP := hI.2.2.2.2.1.2.2.2.2.2.2.2.2.2.1
  refine g_aload_n (pc := 0) dX1_needs_0 rfl ?_
  refine g_iload_n (pc := 1) dX1_needs_1 rfl ?_
  refine g_iconst (pc := 2) (v := 0) dX1_needs_2 (by decide) ?_
  refine g_iconst (pc := 3) (v := 5) dX1_needs_3 (by decide) ?_
  refine g_cS (pc := 4) (M' := mX1_isIn) (as := [_, _, _]) i_X1_252 eX1_isIn dX1_needs_4 (k_isIn _ _ _) (by omega) rfl rfl (Nat.le_of_ble_eq_true rfl) ?_
  rw [hv]
  exact c_tV (pc := 7) (M' := mX1_need) (as := [_]) (ci := 1) rfl i_X1_183_1 eX1_need dX1_needs_7 hI.1 (k_needF (by omega) hI) (by omega) rfl rfl (Nat.le_of_ble_eq_true rfl) (by decide) hF (by omega) (by omega)
set_option maxHeartbeats 2000000 in
theorem x_strongest (hd : 20 ≤ d) (hI : InvC ac W g F h) (x : Int32) (hv : inR x 0 1 = false) : Ct E d 1 6 mX1_strongest [vR (nC ac 1), vI x] h (cX ac W g F h nmIA 1) := by
  refine ct_of (by decide) (Nat.le_of_ble_eq_true rfl) rfl ?_
  have hF : cFr h h := cFr.rf
  have b8 := hI.2.2.2.2.1.2.2.2.2.2.2.2.1
  have b10 := hI.2.2.2.2.1.2.2.2.2.2.2.2.2.1
  have bP := hI.2.2.2.2.1.2.2.2.2.2.2.2.2.2.1
  refine g_aload_n (pc := 0) dX1_strongest_0 rfl ?_
  refine g_iload_n (pc := 1) dX1_strongest_1 rfl ?_
  refine g_cS (pc := 2) (M' := mX1_isPart) (as := [_]) i_X1_344 eX1_isPart dX1_strongest_2 (k_isPartI _) (by omega) rfl rfl (Nat.le_of_ble_eq_true rfl) ?_
  rw [hv]
  exact c_tV (pc := 5) (M' := mX1_need) (as := [_]) (ci := 1) rfl i_X1_183_1 eX1_need dX1_strongest_5 hI.1 (k_needF (by omega) hI) (by omega) rfl rfl (Nat.le_of_ble_eq_true rfl) (by decide) hF (by omega) (by omega)
set_option maxHeartbeats 2000000 in
theorem x_eldest (hd : 20 ≤ d) (hI : InvC ac W g F h) (x : Int32) (hv : inR x 0 1 = false) : Ct E d 1 6 mX1_eldest [vR (nC ac 1), vI x] h (cX ac W g F h nmIA 1) := by
  refine ct_of (by decide) (Nat.le_of_ble_eq_true rfl) rfl ?_
  have hF : cFr h h := cFr.rf
  have b8 := hI.2.2.2.2.1.2.2.2.2.2.2.2.1
  have b10 := hI.2.2.2.2.1.2.2.2.2.2.2.2.2.1
  have bP := hI.2.2.2.2.1.2.2.2.2.2.2.2.2.2.1
  refine g_aload_n (pc := 0) dX1_eldest_0 rfl ?_
  refine g_iload_n (pc := 1) dX1_eldest_1 rfl ?_
  refine g_cS (pc := 2) (M' := mX1_isPart) (as := [_]) i_X1_344 eX1_isPart dX1_eldest_2 (k_isPartI _) (by omega) rfl rfl (Nat.le_of_ble_eq_true rfl) ?_
  rw [hv]
  exact c_tV (pc := 5) (M' := mX1_need) (as := [_]) (ci := 1) rfl i_X1_183_1 eX1_need dX1_eldest_5 hI.1 (k_needF (by omega) hI) (by omega) rfl rfl (Nat.le_of_ble_eq_true rfl) (by decide) hF (by omega) (by omega)
set_option maxHeartbeats 2000000 in
theorem x_weakest (hd : 20 ≤ d) (hI : InvC ac W g F h) (x : Int32) (hv : inR x 0 1 = false) : Ct E d 1 6 mX1_weakest [vR (nC ac 1), vI x] h (cX ac W g F h nmIA 1) := by
  refine ct_of (by decide) (Nat.le_of_ble_eq_true rfl) rfl ?_
  have hF : cFr h h := cFr.rf
  have b8 := hI.2.2.2.2.1.2.2.2.2.2.2.2.1
  have b10 := hI.2.2.2.2.1.2.2.2.2.2.2.2.2.1
  have bP := hI.2.2.2.2.1.2.2.2.2.2.2.2.2.2.1
  refine g_aload_n (pc := 0) dX1_weakest_0 rfl ?_
  refine g_iload_n (pc := 1) dX1_weakest_1 rfl ?_
  refine g_cS (pc := 2) (M' := mX1_isPart) (as := [_]) i_X1_344 eX1_isPart dX1_weakest_2 (k_isPartI _) (by omega) rfl rfl (Nat.le_of_ble_eq_true rfl) ?_
  rw [hv]
  exact c_tV (pc := 5) (M' := mX1_need) (as := [_]) (ci := 1) rfl i_X1_183_1 eX1_need dX1_weakest_5 hI.1 (k_needF (by omega) hI) (by omega) rfl rfl (Nat.le_of_ble_eq_true rfl) (by decide) hF (by omega) (by omega)
set_option maxHeartbeats 2000000 in
theorem x_strength (hd : 20 ≤ d) (hI : InvC ac W g F h) (s : Int32) (hv : inR s 0 (nI (gS g) - 1) = false) : Ct E d 1 6 mX1_strength [vR (nC ac 1), vI s] h (cX ac W g F h nmNS 0) := by
  refine ct_of (by decide) (Nat.le_of_ble_eq_true rfl) rfl ?_
  have hF : cFr h h := cFr.rf
  have b8 := hI.2.2.2.2.1.2.2.2.2.2.2.2.1
  have b10 := hI.2.2.2.2.1.2.2.2.2.2.2.2.2.1
  have bP := hI.2.2.2.2.1.2.2.2.2.2.2.2.2.2.1
  refine g_aload_n (pc := 0) dX1_strength_0 rfl ?_
  refine g_iload_n (pc := 1) dX1_strength_1 rfl ?_
  exact c_tV (pc := 2) (M' := mX1_needSister) (as := [_]) (ci := 1) rfl i_X1_273_1 eX1_needSister dX1_strength_2 hI.1 (k_needSF (by omega) hI s hv) (by omega) rfl rfl (Nat.le_of_ble_eq_true rfl) (by decide) hF (by omega) (by omega)
end
