/-! THE COMPONENT: what it answers, third: days to come. Printed by m_c11.py -/
set_option maxRecDepth 100000
/-- all but the trial house, the lots and the two counts -/
def pE (W W' : mV) : Prop := (∀ r, ¬ r = 0 → ¬ r = 101 → ¬ r = 201 → ¬ r = 301 → ¬ r = 401 → W' r = W r) ∧ ∀ j, ¬ j = 14 → ¬ j = 23 → ¬ j = 24 → W' 0 j = W 0 j
theorem pE.rf {W : mV} : pE W W := ⟨fun _ _ _ _ _ _ => rfl, fun _ _ _ _ => rfl⟩
theorem pE.tr {A B C : mV} (h : pE A B) (k : pE B C) : pE A C := ⟨fun r a b c e f => (k.1 r a b c e f).trans (h.1 r a b c e f), fun j a b c => (k.2 j a b c).trans (h.2 j a b c)⟩
theorem pE.of {W W' : mV} (h : hE 1 W W') : pE W W' := ⟨fun r _ b c e f => h.1 r b c e f, fun j _ _ _ => by rw [h.1 0 (by decide) (by decide) (by decide) (by decide)]⟩
theorem HZ.pE {g : HD} {W W' : mV} {R : Nat → Int32} (hz : HZ g W 0 R) (h : pE W W') : HZ g W' 0 R := by
  have e1 : W' (100 + 0) = W (100 + 0) := h.1 _ (by decide) (by decide) (by decide) (by decide) (by decide)
  have e2 : W' (200 + 0) = W (200 + 0) := h.1 _ (by decide) (by decide) (by decide) (by decide) (by decide)
  have e3 : W' (300 + 0) = W (300 + 0) := h.1 _ (by decide) (by decide) (by decide) (by decide) (by decide)
  have e4 : W' (400 + 0) = W (400 + 0) := h.1 _ (by decide) (by decide) (by decide) (by decide) (by decide)
  unfold HZ
  rw [e1, e2, e3, e4]
  exact hz
def pQ (ac : Nat → Nat) (W : mV) (g : HD) (F : (Nat → Int32) → Int32) (h : jH) (v : Int32) : jR → jH → Prop := fun r h' => r = .inl (some (vI v)) ∧ ∃ W', InvC ac W' g F h' ∧ cFr h h' ∧ pE W W'
theorem whenI_y {lw : (Nat → Int32) → Int32} {D : Nat → Nat → Nat} {nR : Nat} {R : Nat → Int32} {a b m k : Nat} (h : ablI lw D nR (itD nR R k) a b = true) : whenI lw D nR R a b (m + 1) k = nI k := if_pos h
theorem whenI_n {lw : (Nat → Int32) → Int32} {D : Nat → Nat → Nat} {nR : Nat} {R : Nat → Int32} {a b m k : Nat} (h : ¬ ablI lw D nR (itD nR R k) a b = true) : whenI lw D nR R a b (m + 1) k = whenI lw D nR R a b m (k + 1) := if_neg h
theorem bits_cmp {p : Nat → Bool} : ∀ n, n ≤ 10 → ∃ k, k < 2 ^ n ∧ bitsI p n = nI k ∧ bitsI (fun i => !(p i)) n = nI (2 ^ n - 1 - k)
  | 0, _ => ⟨0, by decide, rfl, rfl⟩
  | n + 1, h => by
    obtain ⟨k, h1, h2, h3⟩ := bits_cmp (p := p) n (by omega)
    have hp : 2 ^ n ≤ 512 := Nat.pow_le_pow_right (n := 2) (by decide) (show n ≤ 9 by omega)
    have he : 2 ^ (n + 1) = 2 ^ n + 2 ^ n := by rw [Nat.pow_succ]; omega
    by_cases q : p n = true
    · refine ⟨k + 2 ^ n, by omega, ?_, ?_⟩
      · rw [bits_y q, h2]
        exact or_all ⟨n, by omega⟩ ⟨k, by omega⟩ h1
      · rw [bits_n (by simp [q]), h3, Int32.or_zero]
        congr 1
        omega
    · refine ⟨k, by omega, ?_, ?_⟩
      · rw [bits_n q, h2, Int32.or_zero]
      · rw [bits_y (by simpa using q), h3, or_all ⟨n, by omega⟩ ⟨2 ^ n - 1 - k, by omega⟩ (by show 2 ^ n - 1 - k < 2 ^ n; omega)]
        congr 1
        show 2 ^ n - 1 - k + 2 ^ n = _
        omega
theorem bits_not {p : Nat → Bool} {n : Nat} (h : n ≤ 10) : bitI n - 1 - bitsI p n = bitsI (fun i => !(p i)) n := by
  obtain ⟨k, h1, h2, h3⟩ := bits_cmp (p := p) n h
  rw [h2, h3, bitI_pow n h]
  obtain ⟨q, hq⟩ : ∃ q, 2 ^ n = q + 1 := ⟨2 ^ n - 1, by omega⟩
  rw [hq, nI_pred, pk_sub (by omega)]
  congr 1
theorem hopF_bt {lw : (Nat → Int32) → Int32} {D : Nat → Nat → Nat} {nR : Nat} {R : Nat → Int32} {p : Nat} {b : Int32} (hp : p < 32) {i : Nat} (hi : i < 32) : ∀ n, n ≤ 10 → bt (hopF lw D nR R p b n) i = (bt b i && (!(decide (i = p)) || decide (bitsI (fun r => ablI lw D nR R r p) n = 0)))
  | 0, _ => by
    show bt b i = (bt b i && (!(decide (i = p)) || decide ((0 : Int32) = 0)))
    rw [decide_eq_true rfl, Bool.or_true, Bool.and_true]
  | n + 1, hn => by
    have ih := hopF_bt (lw := lw) (D := D) (nR := nR) (R := R) (p := p) (b := b) hp hi n (by omega)
    by_cases q : ablI lw D nR R n p = true
    · rw [show hopF lw D nR R p b (n + 1) = hopF lw D nR R p b n &&& (bitI p ^^^ -1) from if_pos q, b_and, ih, b_xor, bt_bit hp hi, b_m1 i hi,
        decide_eq_false (p := bitsI (fun r => ablI lw D nR R r p) (n + 1) = 0) (fun w => by
          have := (bits_0 (by omega)).mp w n (by omega)
          exact absurd (this.symm.trans q) (by decide))]
      cases bt b i <;> cases decide (i = p) <;> cases decide (bitsI (fun r => ablI lw D nR R r p) n = 0) <;> rfl
    · rw [show hopF lw D nR R p b (n + 1) = hopF lw D nR R p b n &&& hopF lw D nR R p b n from if_neg q, and_sf, ih, show bitsI (fun r => ablI lw D nR R r p) (n + 1) = bitsI (fun r => ablI lw D nR R r p) n from by rw [bits_n (p := fun r => ablI lw D nR R r p) q, Int32.or_zero]]
theorem hopG_s {lw : (Nat → Int32) → Int32} {D : Nat → Nat → Nat} {nR : Nat} {R : Nat → Int32} {b : Int32} {n : Nat} : hopG lw D nR R b (n + 1) = hopF lw D nR R n (hopG lw D nR R b n) nR := rfl
theorem hopG_0 {lw : (Nat → Int32) → Int32} {D : Nat → Nat → Nat} {nR : Nat} {R : Nat → Int32} {b : Int32} : hopG lw D nR R b 0 = b := rfl
theorem bo1 (a c : Bool) : ((a && (!false || c)) && (!true || c)) = (a && (!true || c)) := by cases a <;> cases c <;> rfl
theorem hopG_bt {lw : (Nat → Int32) → Int32} {D : Nat → Nat → Nat} {nR : Nat} (hR : nR ≤ 10) {R : Nat → Int32} {b : Int32} {i : Nat} (hi : i < 32) : ∀ n, n ≤ 8 → bt (hopG lw D nR R b n) i = (bt b i && (!(decide (i < n)) || decide (bitsI (fun r => ablI lw D nR R r i) nR = 0))) := by
  intro n
  induction n with
  | zero =>
    intro _
    rw [hopG_0, decide_eq_false (Nat.not_lt_zero i), Bool.not_false, Bool.true_or, Bool.and_true]
  | succ n ih0 =>
    intro hn
    have ih := ih0 (by omega)
    rw [hopG_s, hopF_bt (by omega) hi nR hR, ih]
    by_cases e : i = n
    · rw [decide_eq_false (show ¬ i < n by omega), decide_eq_true (show i < n + 1 by omega), decide_eq_true e, ← e]
      exact bo1 _ _
    · rw [decide_eq_false e]
      by_cases w : i < n
      · rw [decide_eq_true w, decide_eq_true (show i < n + 1 by omega)]
        rw [Bool.not_false, Bool.true_or, Bool.and_true]
      · rw [decide_eq_false w, decide_eq_false (show ¬ i < n + 1 by omega)]
        rw [Bool.not_false, Bool.true_or, Bool.true_or, Bool.and_true, Bool.and_true]
def hplB (lw : (Nat → Int32) → Int32) (D : Nat → Nat → Nat) (nR : Nat) (R : Nat → Int32) (p : Nat) : Bool := !(crd R p) && decide (bitsI (fun r => ablI lw D nR R r p) nR = 0)
theorem hop_e {lw : (Nat → Int32) → Int32} {D : Nat → Nat → Nat} {nR nP : Nat} {R : Nat → Int32} (hR : nR ≤ 10) (hP : nP ≤ 8) : hopG lw D nR R (bitI nP - 1 - bitsI (crd R) nP) nP = bitsI (hplB lw D nR R) nP := by
  refine b_ext (fun i hi => ?_)
  rw [hopG_bt hR hi nP hP, bits_not (by omega), bt_bits (by omega) hi, bt_bits (by omega) hi]
  unfold hplB
  cases decide (i < nP) <;> cases crd R i <;> cases decide (bitsI (fun r => ablI lw D nR R r i) nR = 0) <;> rfl
theorem itD_c {nR : Nat} {R : Nat → Int32} (hR : nR ≤ 10) {j : Nat} (hj : 36 ≤ j) (hj2 : j < 44) : ∀ k, itD nR R k j = R j
  | 0 => rfl
  | k + 1 => by
    show dayR nR (itD nR R k) j = R j
    unfold dayR
    rw [j_up_ne (by omega)]
    unfold dayF
    rw [if_neg (by omega), if_neg (by omega)]
    exact itD_c hR hj hj2 k
section
variable {E : jE} {d : Nat} {h : jH} {ac : Nat → Nat} {W V : mV} {g : HD}
set_option maxHeartbeats 2000000 in
theorem l_kwhen {bc bs a b : Nat} {h0 : jH} (hd : 610 ≤ d) (ha : a < gR g) (hb : b < gP g) : ∀ (m k : Nat) (h : jH) (W' : mV), k + m = 201 → InvC ac W' g (mlaw V) h → cFr h0 h → HZ g W' 1 (itD (gR g) (V 31) k) → pE W W' → G E d bc bs mX1_when 25 [some (vR (nC ac 1)), some (vI (nI a)), some (vI (nI b)), some (vR (nC ac 101)), some (vI (nI k))] [] h (pQ ac W g (mlaw V) h0 (whenI (mlaw V) (gD g) (gR g) (V 31) a b m k)) := by
  intro m
  induction m with
  | zero =>
    intro k h W' hm hI hF hz1 hp
    have e : k = 201 := by omega
    subst e
    refine g_iload (pc := 25) dX1_when_25 rfl ?_
    refine g_sipush (pc := 27) (v := 200) dX1_when_27 (by decide) ?_
    refine g_icmp_gt (pc := 30) 55 dX1_when_30 (by decide) (fun c_30 => ?_) (fun c_30 => absurd (by decide) c_30)
    refine g_iconst (pc := 55) (v := -1) dX1_when_55 (by decide) ?_
    refine g_ireturn (pc := 56) dX1_when_56 rfl (by first | exact rfl | exact j_nb _) ?_
    exact ⟨rfl, W', hI, hF, hp⟩
  | succ m ih =>
    intro k h W' hm hI hF hz1 hp
    refine g_iload (pc := 25) dX1_when_25 rfl ?_
    refine g_sipush (pc := 27) (v := 200) dX1_when_27 (by decide) ?_
    refine g_icmp_gt (pc := 30) 55 dX1_when_30 (by decide) (fun c_30 => absurd c_30 (by intro w; have := (nI_ltI (a := 200) (b := k) (by decide) (by omega)).mp w; omega)) (fun c_30 => ?_)
    refine g_aload_n (pc := 33) dX1_when_33 rfl ?_
    refine g_iload_n (pc := 34) dX1_when_34 rfl ?_
    refine g_iload_n (pc := 35) dX1_when_35 rfl ?_
    refine c_cV (pc := 36) (M' := mX10_isAble) (as := [_, _]) (ci := 10) rfl i_X1_291_10 eX10_isAble dX1_when_36 (hI.2.2.2.1 1 liv1).1 (k_isAble (by omega) hI liv1 hz1 a b ha hb) (by omega) rfl rfl (Nat.le_of_ble_eq_true rfl) (fun h hI fr => ?_)
    replace hF := cFr.tr hF fr
    refine g_ifB_eq (pc := 39) 45 dX1_when_39 (by decide) (fun c_39 => ?_) (fun c_39 => ?_)
    · refine g_aload_n (pc := 45) dX1_when_45 rfl ?_
      refine g_callV (pc := 46) (M' := mX10_passes) (as := []) (ci := 10) rfl i_X1_341_10 eX10_passes dX1_when_46 (hI.2.2.2.1 1 liv1).1 (k_passes (by omega) hI liv1 hz1) (by omega) rfl rfl (Nat.le_of_ble_eq_true rfl) (by omega) (by omega) (fun C9 x9 h9 q9 => ?_) (fun r9 h9 q9 => ?_)
      · cases q9.1
      obtain ⟨e9, W', hI, fr9, hz1, he9⟩ := q9
      cases e9
      replace hF := cFr.tr hF fr9
      replace hp := hp.tr (pE.of he9)
      refine g_iinc (pc := 49) (ls' := [_, _, _, _, _]) dX1_when_49 rfl (by first | exact nI_1 _ | exact rfl) (by decide) rfl rfl ?_
      refine g_goto (pc := 52) 25 dX1_when_52 (by decide) ?_
      rw [whenI_n (by rw [c_39]; decide)]
      exact ih (k + 1) h9 W' (by omega) hI hF hz1 hp
    · refine g_iload (pc := 42) dX1_when_42 rfl ?_
      refine g_ireturn (pc := 44) dX1_when_44 rfl (by first | exact rfl | exact j_nb _) ?_
      rw [whenI_y c_39]
      exact ⟨rfl, W', hI, hF, hp⟩
set_option maxHeartbeats 2000000 in
theorem k_when (hd : 620 ≤ d) (hI : InvC ac W g (mlaw V) h) (hz : HZ g W 0 (V 31)) (a b : Nat) (ha : a < gR g) (hb : b < gP g) : Ct E d 0 0 mX1_when [vR (nC ac 1), vI (nI a), vI (nI b)] h (pQ ac W g (mlaw V) h ((whenI (mlaw V) (gD g) (gR g) (V 31) a b 201 0))) := by
  refine ct_of (by decide) (Nat.le_of_ble_eq_true rfl) rfl ?_
  have hF : cFr h h := cFr.rf
  have b8 := hI.2.2.2.2.1.2.2.2.2.2.2.2.1
  have b10 := hI.2.2.2.2.1.2.2.2.2.2.2.2.2.1
  have bP := hI.2.2.2.2.1.2.2.2.2.2.2.2.2.2.1
  refine g_aload_n (pc := 0) dX1_when_0 rfl ?_
  refine g_iload_n (pc := 1) dX1_when_1 rfl ?_
  refine g_cVv (pc := 2) (M' := mX1_needRelic) (as := [_]) (ci := 1) rfl i_X1_295_1 eX1_needRelic dX1_when_2 hI.1 (k_needRT (by omega) hI a ha) (by omega) rfl rfl (Nat.le_of_ble_eq_true rfl) ?_
  refine g_aload_n (pc := 5) dX1_when_5 rfl ?_
  refine g_iload_n (pc := 6) dX1_when_6 rfl ?_
  refine g_cVv (pc := 7) (M' := mX1_needPilgrim) (as := [_]) (ci := 1) rfl i_X1_320_1 eX1_needPilgrim dX1_when_7 hI.1 (k_needPT (by omega) hI b hb) (by omega) rfl rfl (Nat.le_of_ble_eq_true rfl) ?_
  refine g_aload_n (pc := 10) dX1_when_10 rfl ?_
  refine g_getfield (pc := 11) f_X1_62_1 dX1_when_11 hI.1 rfl ?_
  refine g_aload_n (pc := 14) dX1_when_14 rfl ?_
  refine g_getfield (pc := 15) f_X1_58_1 dX1_when_15 hI.1 rfl ?_
  refine g_callV (pc := 18) (M' := mX10_becomes) (as := [_]) (ci := 10) rfl i_X1_248_10 eX10_becomes dX1_when_18 (hI.2.2.2.1 1 liv1).1 (k_becomes (by omega) hI liv1 liv0 (by decide) hz) (by omega) rfl rfl (Nat.le_of_ble_eq_true rfl) (by omega) (by omega) (fun C9 x9 h9 q9 => ?_) (fun r9 h9 q9 => ?_)
  · cases q9.1
  obtain ⟨e9, W', hI, fr9, hz1, he9⟩ := q9
  cases e9
  replace hF := cFr.tr hF fr9
  have hp := pE.of he9
  refine g_astore_n (pc := 21) (ls' := [_, _, _, _, _]) dX1_when_21 (by decide) rfl rfl ?_
  refine g_iconst (pc := 22) (v := 0) dX1_when_22 (by decide) ?_
  refine g_istore (pc := 23) (ls' := [_, _, _, _, _]) dX1_when_23 (by decide) rfl rfl ?_
  exact l_kwhen (by omega) ha hb 201 0 h9 W' rfl hI hF hz1 hp
set_option maxHeartbeats 2000000 in
theorem l_kahead {bc bs n : Nat} {Q : jR → jH → Prop} {h0 : jH} {R : Nat → Int32} (hd : 610 ≤ d) (hn : n ≤ 99) (a x : Nat) : ∀ (m k : Nat) (h : jH) (W' : mV), n - k = m → k ≤ n → InvC ac W' g (mlaw V) h → cFr h0 h → HZ g W' 1 (itD (gR g) R k) → pE W W' → (∀ (h : jH) (W' : mV), InvC ac W' g (mlaw V) h → cFr h0 h → HZ g W' 1 (itD (gR g) R n) → pE W W' → G E d bc bs mX1_ahead 83 [some (vR (nC ac 1)), some (vI (nI a)), some (vI (nI n)), some (vI (nI x)), some (vR (nC ac 101)), some (vI (nI n))] [] h Q) → G E d bc bs mX1_ahead 66 [some (vR (nC ac 1)), some (vI (nI a)), some (vI (nI n)), some (vI (nI x)), some (vR (nC ac 101)), some (vI (nI k))] [] h Q := by
  intro m
  induction m with
  | zero =>
    intro k h W' hm hk hI hF hz1 hp kk
    have e : k = n := by omega
    subst e
    refine g_iload (pc := 66) dX1_ahead_66 rfl ?_
    refine g_iload_n (pc := 68) dX1_ahead_68 rfl ?_
    refine g_icmp_ge (pc := 69) 83 dX1_ahead_69 (by decide) (fun c_69 => ?_) (fun c_69 => absurd (nI_le (Nat.le_refl _) (by omega)) c_69)
    exact kk h W' hI hF hz1 hp
  | succ m ih =>
    intro k h W' hm hk hI hF hz1 hp kk
    refine g_iload (pc := 66) dX1_ahead_66 rfl ?_
    refine g_iload_n (pc := 68) dX1_ahead_68 rfl ?_
    refine g_icmp_ge (pc := 69) 83 dX1_ahead_69 (by decide) (fun c_69 => absurd c_69 (by intro w; have := (nI_leI (by omega) (by omega)).mp w; omega)) (fun c_69 => ?_)
    refine g_aload (pc := 72) dX1_ahead_72 rfl ?_
    refine g_callV (pc := 74) (M' := mX10_passes) (as := []) (ci := 10) rfl i_X1_341_10 eX10_passes dX1_ahead_74 (hI.2.2.2.1 1 liv1).1 (k_passes (by omega) hI liv1 hz1) (by omega) rfl rfl (Nat.le_of_ble_eq_true rfl) (by omega) (by omega) (fun C9 x9 h9 q9 => ?_) (fun r9 h9 q9 => ?_)
    · cases q9.1
    obtain ⟨e9, W', hI, fr9, hz1, he9⟩ := q9
    cases e9
    replace hF := cFr.tr hF fr9
    replace hp := hp.tr (pE.of he9)
    refine g_iinc (pc := 77) (ls' := [_, _, _, _, _, _]) dX1_ahead_77 rfl (by first | exact nI_1 _ | exact rfl) (by decide) rfl rfl ?_
    refine g_goto (pc := 80) 66 dX1_ahead_80 (by decide) ?_
    exact ih (k + 1) h9 W' (by omega) (by omega) hI hF hz1 hp kk
set_option maxHeartbeats 2000000 in
theorem k_ahead (hd : 620 ≤ d) (hI : InvC ac W g (mlaw V) h) (hz : HZ g W 0 (V 31)) (a n x : Nat) (ha : a < gR g) (hn : n ≤ 99) (hx : x ≤ 1) : Ct E d 0 0 mX1_ahead [vR (nC ac 1), vI (nI a), vI (nI n), vI (nI x)] h (pQ ac W g (mlaw V) h (pwr (mlaw V) (gD g) (gR g) (itD (gR g) (ahdR (gD g) (gR g) (V 31) a x) n) a)) := by
  refine ct_of (by decide) (Nat.le_of_ble_eq_true rfl) rfl ?_
  have hF : cFr h h := cFr.rf
  have b8 := hI.2.2.2.2.1.2.2.2.2.2.2.2.1
  have b10 := hI.2.2.2.2.1.2.2.2.2.2.2.2.2.1
  have bP := hI.2.2.2.2.1.2.2.2.2.2.2.2.2.2.1
  have hv1 : inR (nI n) 0 99 = true := inC_of (n := 99) hn (by decide)
  have hv2 : inR (nI x) 0 1 = true := inC_of (n := 1) hx (by decide)
  have hD := hI.2.2.2.2.1.2.2.2.2.2.2.2.2.2.2.1 a ha
  refine g_aload_n (pc := 0) dX1_ahead_0 rfl ?_
  refine g_iload_n (pc := 1) dX1_ahead_1 rfl ?_
  refine g_cVv (pc := 2) (M' := mX1_needRelic) (as := [_]) (ci := 1) rfl i_X1_295_1 eX1_needRelic dX1_ahead_2 hI.1 (k_needRT (by omega) hI a ha) (by omega) rfl rfl (Nat.le_of_ble_eq_true rfl) ?_
  refine g_aload_n (pc := 5) dX1_ahead_5 rfl ?_
  refine g_iload_n (pc := 6) dX1_ahead_6 rfl ?_
  refine g_iconst (pc := 7) (v := 0) dX1_ahead_7 (by decide) ?_
  refine g_bipush (pc := 8) (v := 99) dX1_ahead_8 (by decide) ?_
  refine g_cS (pc := 10) (M' := mX1_isIn) (as := [_, _, _]) i_X1_252 eX1_isIn dX1_ahead_10 (k_isIn _ _ _) (by omega) rfl rfl (Nat.le_of_ble_eq_true rfl) ?_
  refine g_ifB_eq (pc := 13) 27 dX1_ahead_13 (by decide) (fun c_13 => absurd (hv1.symm.trans c_13) (by decide)) (fun c_13 => ?_)
  refine g_iload_n (pc := 16) dX1_ahead_16 rfl ?_
  refine g_cS (pc := 17) (M' := mX1_isPart) (as := [_]) i_X1_344 eX1_isPart dX1_ahead_17 (k_isPartI _) (by omega) rfl rfl (Nat.le_of_ble_eq_true rfl) ?_
  refine g_ifB_eq (pc := 20) 27 dX1_ahead_20 (by decide) (fun c_20 => absurd (hv2.symm.trans c_20) (by decide)) (fun c_20 => ?_)
  refine g_iconst (pc := 23) (v := 1) dX1_ahead_23 (by decide) ?_
  refine g_goto (pc := 24) 28 dX1_ahead_24 (by decide) ?_
  refine g_cVv (pc := 28) (M' := mX1_need) (as := [_]) (ci := 1) rfl i_X1_183_1 eX1_need dX1_ahead_28 hI.1 (k_needT) (by omega) rfl rfl (Nat.le_of_ble_eq_true rfl) ?_
  refine g_aload_n (pc := 31) dX1_ahead_31 rfl ?_
  refine g_getfield (pc := 32) f_X1_62_1 dX1_ahead_32 hI.1 rfl ?_
  refine g_aload_n (pc := 35) dX1_ahead_35 rfl ?_
  refine g_getfield (pc := 36) f_X1_58_1 dX1_ahead_36 hI.1 rfl ?_
  refine g_callV (pc := 39) (M' := mX10_becomes) (as := [_]) (ci := 10) rfl i_X1_248_10 eX10_becomes dX1_ahead_39 (hI.2.2.2.1 1 liv1).1 (k_becomes (by omega) hI liv1 liv0 (by decide) hz) (by omega) rfl rfl (Nat.le_of_ble_eq_true rfl) (by omega) (by omega) (fun C9 x9 h9 q9 => ?_) (fun r9 h9 q9 => ?_)
  · cases q9.1
  obtain ⟨e9, W', hI, fr9, hz1, he9⟩ := q9
  cases e9
  replace hF := cFr.tr hF fr9
  have hp := pE.of he9
  refine g_astore (pc := 42) (ls' := [_, _, _, _, _, _]) dX1_ahead_42 (by decide) rfl rfl ?_
  refine g_iload_n (pc := 44) dX1_ahead_44 rfl ?_
  refine g_iconst (pc := 45) (v := 1) dX1_ahead_45 (by decide) ?_
  refine g_icmp_ne (pc := 46) 63 dX1_ahead_46 (by decide) (fun c_46 => ?_) (fun c_46 => ?_)
  · refine g_iconst (pc := 63) (v := 0) dX1_ahead_63 (by decide) ?_
    refine g_istore (pc := 64) (ls' := [_, _, _, _, _, _]) dX1_ahead_64 (by decide) rfl rfl ?_
    have e1 : ahdR (gD g) (gR g) (V 31) a x = V 31 := if_neg (fun w => c_46 (by rw [w.1]; rfl))
    rw [← e1] at hz1
    refine l_kahead (R := (ahdR (gD g) (gR g) (V 31) a x)) (by omega) hn a x n 0 h9 W' rfl (Nat.zero_le _) hI hF hz1 hp (fun h W' hI hF hz1 hp => ?_)
    refine g_aload (pc := 83) dX1_ahead_83 rfl ?_
    refine g_iload_n (pc := 85) dX1_ahead_85 rfl ?_
    refine c_cV (pc := 86) (M' := mX10_powerOf) (as := [_]) (ci := 10) rfl i_X1_314_10 eX10_powerOf dX1_ahead_86 (hI.2.2.2.1 1 liv1).1 (k_powerOf (by omega) hI liv1 hz1 a ha) (by omega) rfl rfl (Nat.le_of_ble_eq_true rfl) (fun h hI fr => ?_)
    replace hF := cFr.tr hF fr
    refine g_ireturn (pc := 89) dX1_ahead_89 rfl (by first | exact rfl | exact j_nb _) ?_
    exact ⟨rfl, W', hI, hF, hp⟩
  · refine g_aload (pc := 49) dX1_ahead_49 rfl ?_
    refine g_aload_n (pc := 51) dX1_ahead_51 rfl ?_
    refine g_iload_n (pc := 52) dX1_ahead_52 rfl ?_
    refine g_cV (pc := 53) (M' := mX1_relicOf) (as := [_]) (ci := 1) rfl i_X1_298_1 eX1_relicOf dX1_ahead_53 hI.1 (k_relicOf (by omega) hI a ha) (by omega) rfl rfl (Nat.le_of_ble_eq_true rfl) ?_
    refine g_getfield (pc := 56) f_X1_302_15 dX1_ahead_56 (hI.2.2.2.2.1.2.2.2.2.2.1 a ha) rfl ?_
    refine g_callV (pc := 59) (M' := mX10_lapses) (as := [_]) (ci := 10) rfl i_X1_348_10 eX10_lapses dX1_ahead_59 (hI.2.2.2.1 1 liv1).1 (k_lapses (by omega) hI liv1 hz1 _ hD.1) (by omega) rfl rfl (Nat.le_of_ble_eq_true rfl) (by omega) (by omega) (fun C9 x9 h9 q9 => ?_) (fun r9 h9 q9 => ?_)
    · cases q9.1
    obtain ⟨e9, W', hI, fr9, hz1, he9⟩ := q9
    cases e9
    replace hF := cFr.tr hF fr9
    replace hp := hp.tr (pE.of he9)
    refine g_pop (pc := 62) dX1_ahead_62 rfl ?_
    refine g_iconst (pc := 63) (v := 0) dX1_ahead_63 (by decide) ?_
    refine g_istore (pc := 64) (ls' := [_, _, _, _, _, _]) dX1_ahead_64 (by decide) rfl rfl ?_
    have e1 : ahdR (gD g) (gR g) (V 31) a x = if clI (gD g) (gR g) (V 31) (gD g 0 a) = true then lapR (gD g) (gR g) (V 31) (gD g 0 a) else V 31 := by
      unfold ahdR
      have hx1 : x = 1 := (nI_eq (a := x) (b := 1) (by omega) (by decide)).mp c_46
      by_cases q : clI (gD g) (gR g) (V 31) (gD g 0 a) = true
      · rw [if_pos ⟨hx1, q⟩, if_pos q]
      · rw [if_neg (fun w => q w.2), if_neg q]
    rw [← e1] at hz1
    refine l_kahead (R := (ahdR (gD g) (gR g) (V 31) a x)) (by omega) hn a x n 0 h9 W' rfl (Nat.zero_le _) hI hF hz1 hp (fun h W' hI hF hz1 hp => ?_)
    refine g_aload (pc := 83) dX1_ahead_83 rfl ?_
    refine g_iload_n (pc := 85) dX1_ahead_85 rfl ?_
    refine c_cV (pc := 86) (M' := mX10_powerOf) (as := [_]) (ci := 10) rfl i_X1_314_10 eX10_powerOf dX1_ahead_86 (hI.2.2.2.1 1 liv1).1 (k_powerOf (by omega) hI liv1 hz1 a ha) (by omega) rfl rfl (Nat.le_of_ble_eq_true rfl) (fun h hI fr => ?_)
    replace hF := cFr.tr hF fr
    refine g_ireturn (pc := 89) dX1_ahead_89 rfl (by first | exact rfl | exact j_nb _) ?_
    exact ⟨rfl, W', hI, hF, hp⟩
set_option maxHeartbeats 2000000 in
theorem l_khop1 {bc bs n : Nat} {Q : jR → jH → Prop} {h0 : jH} {R : Nat → Int32} (hd : 610 ≤ d) (hn : n ≤ 99)  : ∀ (m k : Nat) (h : jH) (W' : mV), n - k = m → k ≤ n → InvC ac W' g (mlaw V) h → cFr h0 h → HZ g W' 1 (itD (gR g) R k) → pE W W' → (∀ (h : jH) (W' : mV), InvC ac W' g (mlaw V) h → cFr h0 h → HZ g W' 1 (itD (gR g) R n) → pE W W' → G E d bc bs mX1_hopeless 40 [some (vR (nC ac 1)), some (vI (nI n)), some (vR (nC ac 101)), some (vI (nI n)), none] [] h Q) → G E d bc bs mX1_hopeless 25 [some (vR (nC ac 1)), some (vI (nI n)), some (vR (nC ac 101)), some (vI (nI k)), none] [] h Q := by
  intro m
  induction m with
  | zero =>
    intro k h W' hm hk hI hF hz1 hp kk
    have e : k = n := by omega
    subst e
    refine g_iload_n (pc := 25) dX1_hopeless_25 rfl ?_
    refine g_iload_n (pc := 26) dX1_hopeless_26 rfl ?_
    refine g_icmp_ge (pc := 27) 40 dX1_hopeless_27 (by decide) (fun c_27 => ?_) (fun c_27 => absurd (nI_le (Nat.le_refl _) (by omega)) c_27)
    exact kk h W' hI hF hz1 hp
  | succ m ih =>
    intro k h W' hm hk hI hF hz1 hp kk
    refine g_iload_n (pc := 25) dX1_hopeless_25 rfl ?_
    refine g_iload_n (pc := 26) dX1_hopeless_26 rfl ?_
    refine g_icmp_ge (pc := 27) 40 dX1_hopeless_27 (by decide) (fun c_27 => absurd c_27 (by intro w; have := (nI_leI (by omega) (by omega)).mp w; omega)) (fun c_27 => ?_)
    refine g_aload_n (pc := 30) dX1_hopeless_30 rfl ?_
    refine g_callV (pc := 31) (M' := mX10_passes) (as := []) (ci := 10) rfl i_X1_341_10 eX10_passes dX1_hopeless_31 (hI.2.2.2.1 1 liv1).1 (k_passes (by omega) hI liv1 hz1) (by omega) rfl rfl (Nat.le_of_ble_eq_true rfl) (by omega) (by omega) (fun C9 x9 h9 q9 => ?_) (fun r9 h9 q9 => ?_)
    · cases q9.1
    obtain ⟨e9, W', hI, fr9, hz1, he9⟩ := q9
    cases e9
    replace hF := cFr.tr hF fr9
    replace hp := hp.tr (pE.of he9)
    refine g_iinc (pc := 34) (ls' := [_, _, _, _, _]) dX1_hopeless_34 rfl (by first | exact nI_1 _ | exact rfl) (by decide) rfl rfl ?_
    refine g_goto (pc := 37) 25 dX1_hopeless_37 (by decide) ?_
    exact ih (k + 1) h9 W' (by omega) (by omega) hI hF hz1 hp kk
set_option maxHeartbeats 2000000 in
theorem l_khop2 {bc bs : Nat} {Q : jR → jH → Prop} {h0 : jH} {R : Nat → Int32} (hd : 610 ≤ d) (hz1 : HZ g W 1 R) (w : Int32) : ∀ (m r : Nat) (h : jH), gP g - r = m → r ≤ gP g → InvC ac W g (mlaw V) h → cFr h0 h → (∀ h, InvC ac W g (mlaw V) h → cFr h0 h → G E d bc bs mX1_hopeless 95 [some (vR (nC ac 1)), some (vI w), some (vR (nC ac 101)), some (vI (bitsI (hplB (mlaw V) (gD g) (gR g) R) (gP g))), some (vI (nI (gP g)))] [] h Q) → G E d bc bs mX1_hopeless 45 [some (vR (nC ac 1)), some (vI w), some (vR (nC ac 101)), some (vI (bitsI (hplB (mlaw V) (gD g) (gR g) R) r)), some (vI (nI r))] [] h Q := by
  intro m
  induction m with
  | zero =>
    intro r h hm hr hI hF kk
    have e : r = gP g := by omega
    subst e
    have b8 := hI.2.2.2.2.1.2.2.2.2.2.2.2.1
    have b10 := hI.2.2.2.2.1.2.2.2.2.2.2.2.2.1
    have bP := hI.2.2.2.2.1.2.2.2.2.2.2.2.2.2.1
    refine g_iload (pc := 45) dX1_hopeless_45 rfl ?_
    refine g_aload_n (pc := 47) dX1_hopeless_47 rfl ?_
    refine g_cV (pc := 48) (M' := mX1_pilgrims) (as := []) (ci := 1) rfl i_X1_167_1 eX1_pilgrims dX1_hopeless_48 hI.1 (k_pilgrims (by omega) hI) (by omega) rfl rfl (Nat.le_of_ble_eq_true rfl) ?_
    refine g_icmp_ge (pc := 51) 95 dX1_hopeless_51 (by decide) (fun c_51 => ?_) (fun c_51 => absurd (nI_le (Nat.le_refl _) (by omega)) c_51)
    exact kk h hI hF
  | succ m ih =>
    intro r h hm hr hI hF kk
    have b8 := hI.2.2.2.2.1.2.2.2.2.2.2.2.1
    have b10 := hI.2.2.2.2.1.2.2.2.2.2.2.2.2.1
    have bP := hI.2.2.2.2.1.2.2.2.2.2.2.2.2.2.1
    refine g_iload (pc := 45) dX1_hopeless_45 rfl ?_
    refine g_aload_n (pc := 47) dX1_hopeless_47 rfl ?_
    refine g_cV (pc := 48) (M' := mX1_pilgrims) (as := []) (ci := 1) rfl i_X1_167_1 eX1_pilgrims dX1_hopeless_48 hI.1 (k_pilgrims (by omega) hI) (by omega) rfl rfl (Nat.le_of_ble_eq_true rfl) ?_
    refine g_icmp_ge (pc := 51) 95 dX1_hopeless_51 (by decide) (fun c_51 => absurd c_51 (by intro w; have := (nI_leI (by omega) (by omega)).mp w; omega)) (fun c_51 => ?_)
    refine g_iload_n (pc := 54) dX1_hopeless_54 rfl ?_
    refine g_aload_n (pc := 55) dX1_hopeless_55 rfl ?_
    refine g_getfield (pc := 56) f_X1_288_10 dX1_hopeless_56 (hI.2.2.2.1 1 liv1).1 rfl ?_
    refine g_iload (pc := 59) dX1_hopeless_59 rfl ?_
    refine g_iaload (pc := 61) dX1_hopeless_61 (hI.2.2.2.1 1 liv1).2.2.2 (j := r) rfl (by omega) (by first | decide | omega) rfl ?_
    rw [show W (400 + 1) r = R (36 + r) from hz1.2.2.1 r (by omega)]
    refine g_iconst (pc := 62) (v := -1) dX1_hopeless_62 (by decide) ?_
    refine g_icmp_ne (pc := 63) 86 dX1_hopeless_63 (by decide) (fun c_63 => ?_) (fun c_63 => ?_)
    · refine g_iconst (pc := 86) (v := 0) dX1_hopeless_86 (by decide) ?_
      refine g_ior (pc := 87) dX1_hopeless_87 ?_
      refine g_istore_n (pc := 88) (ls' := [_, _, _, _, _]) dX1_hopeless_88 (by decide) rfl rfl ?_
      refine g_iinc (pc := 89) (ls' := [_, _, _, _, _]) dX1_hopeless_89 rfl (by first | exact nI_1 _ | exact rfl) (by decide) rfl rfl ?_
      refine g_goto (pc := 92) 45 dX1_hopeless_92 (by decide) ?_
      have q := ih (r + 1) h (by omega) (by omega) hI hF kk
      rw [bits_n (by unfold hplB crd; rw [decide_eq_false c_63]; simp)] at q
      exact q
    · refine g_aload_n (pc := 66) dX1_hopeless_66 rfl ?_
      refine g_aload_n (pc := 67) dX1_hopeless_67 rfl ?_
      refine g_cV (pc := 68) (M' := mX1_relics) (as := []) (ci := 1) rfl i_X1_165_1 eX1_relics dX1_hopeless_68 hI.1 (k_relics (by omega) hI) (by omega) rfl rfl (Nat.le_of_ble_eq_true rfl) ?_
      refine g_iload (pc := 71) dX1_hopeless_71 rfl ?_
      refine c_cS (pc := 73) (M' := mX1_able) (as := [_, _, _]) i_X1_330 eX1_able dX1_hopeless_73 (k_able (by omega) hI liv1 hz1 (show r < gP g by omega)) (by omega) rfl rfl (Nat.le_of_ble_eq_true rfl) (fun h hI fr => ?_)
      replace hF := cFr.tr hF fr
      refine g_if_ne (pc := 76) 86 dX1_hopeless_76 (by decide) (fun c_76 => ?_) (fun c_76 => ?_)
      · refine g_iconst (pc := 86) (v := 0) dX1_hopeless_86 (by decide) ?_
        refine g_ior (pc := 87) dX1_hopeless_87 ?_
        refine g_istore_n (pc := 88) (ls' := [_, _, _, _, _]) dX1_hopeless_88 (by decide) rfl rfl ?_
        refine g_iinc (pc := 89) (ls' := [_, _, _, _, _]) dX1_hopeless_89 rfl (by first | exact nI_1 _ | exact rfl) (by decide) rfl rfl ?_
        refine g_goto (pc := 92) 45 dX1_hopeless_92 (by decide) ?_
        have q := ih (r + 1) h (by omega) (by omega) hI hF kk
        rw [bits_n (by unfold hplB; rw [decide_eq_false c_76]; simp)] at q
        exact q
      · refine g_iconst (pc := 79) (v := 1) dX1_hopeless_79 (by decide) ?_
        refine g_iload (pc := 80) dX1_hopeless_80 rfl ?_
        refine g_ishl (pc := 82) dX1_hopeless_82 ?_
        refine g_goto (pc := 83) 87 dX1_hopeless_83 (by decide) ?_
        refine g_ior (pc := 87) dX1_hopeless_87 ?_
        refine g_istore_n (pc := 88) (ls' := [_, _, _, _, _]) dX1_hopeless_88 (by decide) rfl rfl ?_
        refine g_iinc (pc := 89) (ls' := [_, _, _, _, _]) dX1_hopeless_89 rfl (by first | exact nI_1 _ | exact rfl) (by decide) rfl rfl ?_
        refine g_goto (pc := 92) 45 dX1_hopeless_92 (by decide) ?_
        have q := ih (r + 1) h (by omega) (by omega) hI hF kk
        rw [bits_y (by unfold hplB crd; rw [decide_eq_true c_63, decide_eq_true c_76]; rfl)] at q
        exact q
set_option maxHeartbeats 2000000 in
theorem k_hopeless (hd : 620 ≤ d) (hI : InvC ac W g (mlaw V) h) (hz : HZ g W 0 (V 31)) (n : Nat) (hn : n ≤ 99) : Ct E d 0 0 mX1_hopeless [vR (nC ac 1), vI (nI n)] h (pQ ac W g (mlaw V) h (hopG (mlaw V) (gD g) (gR g) (itD (gR g) (V 31) n) (bitI (gP g) - 1 - bitsI (crd (V 31)) (gP g)) (gP g))) := by
  refine ct_of (by decide) (Nat.le_of_ble_eq_true rfl) rfl ?_
  have hF : cFr h h := cFr.rf
  have b8 := hI.2.2.2.2.1.2.2.2.2.2.2.2.1
  have b10 := hI.2.2.2.2.1.2.2.2.2.2.2.2.2.1
  have bP := hI.2.2.2.2.1.2.2.2.2.2.2.2.2.2.1
  have hv : inR (nI n) 0 99 = true := inC_of (n := 99) hn (by decide)
  have ec : bitsI (crd (V 31)) (gP g) = bitsI (crd (itD (gR g) (V 31) n)) (gP g) := bits_congr (fun i hi => by unfold crd; rw [itD_c b10 (by omega) (by omega)])
  rw [ec, hop_e b10 bP]
  refine g_aload_n (pc := 0) dX1_hopeless_0 rfl ?_
  refine g_iload_n (pc := 1) dX1_hopeless_1 rfl ?_
  refine g_iconst (pc := 2) (v := 0) dX1_hopeless_2 (by decide) ?_
  refine g_bipush (pc := 3) (v := 99) dX1_hopeless_3 (by decide) ?_
  refine g_cS (pc := 5) (M' := mX1_isIn) (as := [_, _, _]) i_X1_252 eX1_isIn dX1_hopeless_5 (k_isIn _ _ _) (by omega) rfl rfl (Nat.le_of_ble_eq_true rfl) ?_
  rw [hv]
  refine g_cVv (pc := 8) (M' := mX1_need) (as := [_]) (ci := 1) rfl i_X1_183_1 eX1_need dX1_hopeless_8 hI.1 (k_needT) (by omega) rfl rfl (Nat.le_of_ble_eq_true rfl) ?_
  refine g_aload_n (pc := 11) dX1_hopeless_11 rfl ?_
  refine g_getfield (pc := 12) f_X1_62_1 dX1_hopeless_12 hI.1 rfl ?_
  refine g_aload_n (pc := 15) dX1_hopeless_15 rfl ?_
  refine g_getfield (pc := 16) f_X1_58_1 dX1_hopeless_16 hI.1 rfl ?_
  refine g_callV (pc := 19) (M' := mX10_becomes) (as := [_]) (ci := 10) rfl i_X1_248_10 eX10_becomes dX1_hopeless_19 (hI.2.2.2.1 1 liv1).1 (k_becomes (by omega) hI liv1 liv0 (by decide) hz) (by omega) rfl rfl (Nat.le_of_ble_eq_true rfl) (by omega) (by omega) (fun C9 x9 h9 q9 => ?_) (fun r9 h9 q9 => ?_)
  · cases q9.1
  obtain ⟨e9, W', hI, fr9, hz1, he9⟩ := q9
  cases e9
  replace hF := cFr.tr hF fr9
  have hp := pE.of he9
  refine g_astore_n (pc := 22) (ls' := [_, _, _, _, _]) dX1_hopeless_22 (by decide) rfl rfl ?_
  refine g_iconst (pc := 23) (v := 0) dX1_hopeless_23 (by decide) ?_
  refine g_istore_n (pc := 24) (ls' := [_, _, _, _, _]) dX1_hopeless_24 (by decide) rfl rfl ?_
  refine l_khop1 (R := V 31) (by omega) hn n 0 h9 W' rfl (Nat.zero_le _) hI hF hz1 hp (fun h W' hI hF hz1 hp => ?_)
  refine g_iconst (pc := 40) (v := 0) dX1_hopeless_40 (by decide) ?_
  refine g_istore_n (pc := 41) (ls' := [_, _, _, _, _]) dX1_hopeless_41 (by decide) rfl rfl ?_
  refine g_iconst (pc := 42) (v := 0) dX1_hopeless_42 (by decide) ?_
  refine g_istore (pc := 43) (ls' := [_, _, _, _, _]) dX1_hopeless_43 (by decide) rfl rfl ?_
  refine l_khop2 (R := (itD (gR g) (V 31) n)) (by omega) hz1 (nI n) (gP g) 0 h rfl (Nat.zero_le _) hI hF (fun h hI hF => ?_)
  refine g_iload_n (pc := 95) dX1_hopeless_95 rfl ?_
  refine g_ireturn (pc := 96) dX1_hopeless_96 rfl (by first | exact rfl | exact j_nb _) ?_
  exact ⟨rfl, W', hI, hF, hp⟩
end
section
variable {E : jE} {d : Nat} {h : jH} {ac : Nat → Nat} {W : mV} {g : HD} {F : (Nat → Int32) → Int32}
set_option maxHeartbeats 2000000 in
theorem x_when (hd : 20 ≤ d) (hI : InvC ac W g F h) (s a0 : Int32) (hv : inR s 0 (nI (gR g) - 1) = false) : Ct E d 1 6 mX1_when [vR (nC ac 1), vI s, vI a0] h (cX ac W g F h nmNS 0) := by
  refine ct_of (by decide) (Nat.le_of_ble_eq_true rfl) rfl ?_
  have hF : cFr h h := cFr.rf
  have b8 := hI.2.2.2.2.1.2.2.2.2.2.2.2.1
  have b10 := hI.2.2.2.2.1.2.2.2.2.2.2.2.2.1
  have bP := hI.2.2.2.2.1.2.2.2.2.2.2.2.2.2.1
  refine g_aload_n (pc := 0) dX1_when_0 rfl ?_
  refine g_iload_n (pc := 1) dX1_when_1 rfl ?_
  exact c_tV (pc := 2) (M' := mX1_needRelic) (as := [_]) (ci := 1) rfl i_X1_295_1 eX1_needRelic dX1_when_2 hI.1 (k_needRF (by omega) hI s hv) (by omega) rfl rfl (Nat.le_of_ble_eq_true rfl) (by decide) hF (by omega) (by omega)
set_option maxHeartbeats 2000000 in
theorem x_ahead (hd : 20 ≤ d) (hI : InvC ac W g F h) (s a0 a1 : Int32) (hv : inR s 0 (nI (gR g) - 1) = false) : Ct E d 1 6 mX1_ahead [vR (nC ac 1), vI s, vI a0, vI a1] h (cX ac W g F h nmNS 0) := by
  refine ct_of (by decide) (Nat.le_of_ble_eq_true rfl) rfl ?_
  have hF : cFr h h := cFr.rf
  have b8 := hI.2.2.2.2.1.2.2.2.2.2.2.2.1
  have b10 := hI.2.2.2.2.1.2.2.2.2.2.2.2.2.1
  have bP := hI.2.2.2.2.1.2.2.2.2.2.2.2.2.2.1
  refine g_aload_n (pc := 0) dX1_ahead_0 rfl ?_
  refine g_iload_n (pc := 1) dX1_ahead_1 rfl ?_
  exact c_tV (pc := 2) (M' := mX1_needRelic) (as := [_]) (ci := 1) rfl i_X1_295_1 eX1_needRelic dX1_ahead_2 hI.1 (k_needRF (by omega) hI s hv) (by omega) rfl rfl (Nat.le_of_ble_eq_true rfl) (by decide) hF (by omega) (by omega)
set_option maxHeartbeats 2000000 in
theorem y_when (hd : 20 ≤ d) (hI : InvC ac W g F h) (s : Nat) (x : Int32) (hs : s < gR g) (hv : inR x 0 (nI (gP g) - 1) = false) : Ct E d 1 6 mX1_when [vR (nC ac 1), vI (nI s), vI x] h (cX ac W g F h nmNS 0) := by
  refine ct_of (by decide) (Nat.le_of_ble_eq_true rfl) rfl ?_
  have hF : cFr h h := cFr.rf
  have b8 := hI.2.2.2.2.1.2.2.2.2.2.2.2.1
  have b10 := hI.2.2.2.2.1.2.2.2.2.2.2.2.2.1
  have bP := hI.2.2.2.2.1.2.2.2.2.2.2.2.2.2.1
  refine g_aload_n (pc := 0) dX1_when_0 rfl ?_
  refine g_iload_n (pc := 1) dX1_when_1 rfl ?_
  refine g_cVv (pc := 2) (M' := mX1_needRelic) (as := [_]) (ci := 1) rfl i_X1_295_1 eX1_needRelic dX1_when_2 hI.1 (k_needRT (by omega) hI s hs) (by omega) rfl rfl (Nat.le_of_ble_eq_true rfl) ?_
  refine g_aload_n (pc := 5) dX1_when_5 rfl ?_
  refine g_iload_n (pc := 6) dX1_when_6 rfl ?_
  exact c_tV (pc := 7) (M' := mX1_needPilgrim) (as := [_]) (ci := 1) rfl i_X1_320_1 eX1_needPilgrim dX1_when_7 hI.1 (k_needPF (by omega) hI x hv) (by omega) rfl rfl (Nat.le_of_ble_eq_true rfl) (by decide) hF (by omega) (by omega)
set_option maxHeartbeats 2000000 in
theorem y_ahead (hd : 20 ≤ d) (hI : InvC ac W g F h) (s : Nat) (x y : Int32) (hs : s < gR g) (hv : (inR x 0 99 && inR y 0 1) = false) : Ct E d 1 6 mX1_ahead [vR (nC ac 1), vI (nI s), vI x, vI y] h (cX ac W g F h nmIA 1) := by
  refine ct_of (by decide) (Nat.le_of_ble_eq_true rfl) rfl ?_
  have hF : cFr h h := cFr.rf
  have b8 := hI.2.2.2.2.1.2.2.2.2.2.2.2.1
  have b10 := hI.2.2.2.2.1.2.2.2.2.2.2.2.2.1
  have bP := hI.2.2.2.2.1.2.2.2.2.2.2.2.2.2.1
  refine g_aload_n (pc := 0) dX1_ahead_0 rfl ?_
  refine g_iload_n (pc := 1) dX1_ahead_1 rfl ?_
  refine g_cVv (pc := 2) (M' := mX1_needRelic) (as := [_]) (ci := 1) rfl i_X1_295_1 eX1_needRelic dX1_ahead_2 hI.1 (k_needRT (by omega) hI s hs) (by omega) rfl rfl (Nat.le_of_ble_eq_true rfl) ?_
  refine g_aload_n (pc := 5) dX1_ahead_5 rfl ?_
  refine g_iload_n (pc := 6) dX1_ahead_6 rfl ?_
  refine g_iconst (pc := 7) (v := 0) dX1_ahead_7 (by decide) ?_
  refine g_bipush (pc := 8) (v := 99) dX1_ahead_8 (by decide) ?_
  refine g_cS (pc := 10) (M' := mX1_isIn) (as := [_, _, _]) i_X1_252 eX1_isIn dX1_ahead_10 (k_isIn _ _ _) (by omega) rfl rfl (Nat.le_of_ble_eq_true rfl) ?_
  refine g_ifB_eq (pc := 13) 27 dX1_ahead_13 (by decide) (fun c_13 => ?_) (fun c_13 => ?_)
  · refine g_iconst (pc := 27) (v := 0) dX1_ahead_27 (by decide) ?_
    exact c_tV (pc := 28) (M' := mX1_need) (as := [_]) (ci := 1) rfl i_X1_183_1 eX1_need dX1_ahead_28 hI.1 (k_needF (by omega) hI) (by omega) rfl rfl (Nat.le_of_ble_eq_true rfl) (by decide) hF (by omega) (by omega)
  · refine g_iload_n (pc := 16) dX1_ahead_16 rfl ?_
    refine g_cS (pc := 17) (M' := mX1_isPart) (as := [_]) i_X1_344 eX1_isPart dX1_ahead_17 (k_isPartI _) (by omega) rfl rfl (Nat.le_of_ble_eq_true rfl) ?_
    refine g_ifB_eq (pc := 20) 27 dX1_ahead_20 (by decide) (fun c_20 => ?_) (fun c_20 => ?_)
    · refine g_iconst (pc := 27) (v := 0) dX1_ahead_27 (by decide) ?_
      exact c_tV (pc := 28) (M' := mX1_need) (as := [_]) (ci := 1) rfl i_X1_183_1 eX1_need dX1_ahead_28 hI.1 (k_needF (by omega) hI) (by omega) rfl rfl (Nat.le_of_ble_eq_true rfl) (by decide) hF (by omega) (by omega)
    · refine g_iconst (pc := 23) (v := 1) dX1_ahead_23 (by decide) ?_
      refine g_goto (pc := 24) 28 dX1_ahead_24 (by decide) ?_
      exfalso
      rw [c_13, c_20] at hv
      exact absurd hv (by decide)
set_option maxHeartbeats 2000000 in
theorem x_hopeless (hd : 20 ≤ d) (hI : InvC ac W g F h) (x : Int32) (hv : inR x 0 99 = false) : Ct E d 1 6 mX1_hopeless [vR (nC ac 1), vI x] h (cX ac W g F h nmIA 1) := by
  refine ct_of (by decide) (Nat.le_of_ble_eq_true rfl) rfl ?_
  have hF : cFr h h := cFr.rf
  have b8 := hI.2.2.2.2.1.2.2.2.2.2.2.2.1
  have b10 := hI.2.2.2.2.1.2.2.2.2.2.2.2.2.1
  have bP := hI.2.2.2.2.1.2.2.2.2.2.2.2.2.2.1
  refine g_aload_n (pc := 0) dX1_hopeless_0 rfl ?_
  refine g_iload_n (pc := 1) dX1_hopeless_1 rfl ?_
  refine g_iconst (pc := 2) (v := 0) dX1_hopeless_2 (by decide) ?_
  refine g_bipush (pc := 3) (v := 99) dX1_hopeless_3 (by decide) ?_
  refine g_cS (pc := 5) (M' := mX1_isIn) (as := [_, _, _]) i_X1_252 eX1_isIn dX1_hopeless_5 (k_isIn _ _ _) (by omega) rfl rfl (Nat.le_of_ble_eq_true rfl) ?_
  rw [hv]
  exact c_tV (pc := 8) (M' := mX1_need) (as := [_]) (ci := 1) rfl i_X1_183_1 eX1_need dX1_hopeless_8 hI.1 (k_needF (by omega) hI) (by omega) rfl rfl (Nat.le_of_ble_eq_true rfl) (by decide) hF (by omega) (by omega)
end
