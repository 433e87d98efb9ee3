/-! THE COMPONENT: who has lapsed, what to ask. Printed by m_c15.py -/
set_option maxRecDepth 100000
/-- the lines of what was seen, as the component keeps them -/
def SL (W : mV) (Ln : Nat → Nat) (X : Nat → Int32) (nL nR : Nat) : Prop := (∀ r, r < nR → (W 3 r = -1 ∧ ∀ k, k < nL → ¬ Ln k = r) ∨ ∃ k, k < nL ∧ Ln k = r ∧ W 3 r = X k ∧ ¬ X k = -1) ∧ (∀ k, k < nL → Ln k < nR) ∧ ∀ k j, k < nL → j < nL → Ln k = Ln j → k = j
theorem bt_nI {x i : Nat} (hi : i < 32) : bt (nI x) i = x.testBit i := by
  unfold bt
  show (BitVec.ofNat 32 x).getLsbD i = _
  rw [BitVec.getLsbD_ofNat]
  simp [hi]
theorem bt_hi {x n i : Nat} (hx : x < 2 ^ n) (hi : i < 32) (hn : n ≤ i) : bt (nI x) i = false := by
  rw [bt_nI hi]
  exact Nat.testBit_lt_two_pow (Nat.lt_of_lt_of_le hx (Nat.pow_le_pow_right (by decide) hn))
theorem sub_0 {x n : Nat} {p : Nat → Bool} (hn : n ≤ 32) (hx : x < 2 ^ n) : nI x &&& (bitsI p n ^^^ -1) = 0 ↔ ∀ s, s < n → hasI (nI x) (nI s) = true → p s = true := by
  constructor
  · intro h s hs hb
    have q : bt (nI x &&& (bitsI p n ^^^ -1)) s = bt 0 s := by rw [h]
    rw [b_and, b_xor, bt_bits hn (by omega), b_m1 s (by omega), b_0, decide_eq_true hs] at q
    rw [hasI_bt (by omega)] at hb
    rw [hb] at q
    cases e : p s
    · rw [e] at q; exact absurd q (by decide)
    · rfl
  · intro h
    refine b_ext (fun i hi => ?_)
    rw [b_and, b_xor, bt_bits hn hi, b_m1 i hi, b_0]
    by_cases w : i < n
    · rw [decide_eq_true w]
      cases e : bt (nI x) i
      · rfl
      · rw [h i w (by rw [hasI_bt hi]; exact e)]
        rfl
    · rw [bt_hi hx hi (by omega)]
      rfl
theorem shr_q {x : Nat} (hx : x < 2 ^ 30) (q : Bool) : nI x >>> (bI q &&& 31) = nI x / (1 + bI q) := by
  cases q with
  | false =>
    rw [show nI x >>> (bI false &&& 31) = nI (x / 2 ^ 0) from pk_shrN (by omega) _ 0 (by decide), show (1 : Int32) + bI false = nI 1 from rfl, pk_div (by omega) (by decide) (by decide)]
  | true =>
    rw [show nI x >>> (bI true &&& 31) = nI (x / 2 ^ 1) from pk_shrN (by omega) _ 1 (by decide), show (1 : Int32) + bI true = nI 2 from rfl, pk_div (by omega) (by decide) (by decide)]
theorem pwIf_n {lw : (Nat → Int32) → Int32} {D : Nat → Nat → Nat} {nR : Nat} {R : Nat → Int32} {r : Nat} (q : Bool) : ∃ p, p ≤ 99 ∧ pwIf lw D nR R r q = nI p := by
  unfold pwIf
  by_cases k : kpd R r = true
  · rw [if_pos k]; exact pwOf_n _ _ _ _ _ _ _ _
  · rw [if_neg k]; exact ⟨0, by decide, rfl⟩
/-- counts -/
def ckN (p q : Nat → Bool) : Nat → Nat × Nat
  | 0 => (0, 0)
  | k + 1 => if p k = true then (if q k = true then ((ckN p q k).1 + 1, (ckN p q k).2) else ((ckN p q k).1, (ckN p q k).2 + 1)) else ckN p q k
theorem ckN_le {p q : Nat → Bool} : ∀ k, (ckN p q k).1 + (ckN p q k).2 ≤ k
  | 0 => Nat.le_refl _
  | k + 1 => by
    have ih := ckN_le (p := p) (q := q) k
    unfold ckN
    split
    · split <;> simp <;> omega
    · omega
theorem ckN_e {p q : Nat → Bool} : ∀ k, askC p q k = (nI (ckN p q k).1, nI (ckN p q k).2)
  | 0 => rfl
  | k + 1 => by
    have ih := ckN_e (p := p) (q := q) k
    unfold askC ckN
    by_cases h1 : p k = true
    · rw [if_pos h1, if_pos h1]
      by_cases h2 : q k = true
      · rw [if_pos h2, if_pos h2, ih]; dsimp only; rw [nI_1]
      · rw [if_neg h2, if_neg h2, ih]; dsimp only; rw [nI_1]
    · rw [if_neg h1, if_neg h1, ih]
theorem ckN_n {p q : Nat → Bool} {k : Nat} (h : ¬ p k = true) : ckN p q (k + 1) = ckN p q k := if_neg h
theorem ckN_a {p q : Nat → Bool} {k : Nat} (h : p k = true) (h2 : q k = true) : ckN p q (k + 1) = ((ckN p q k).1 + 1, (ckN p q k).2) := (if_pos h).trans (if_pos h2)
theorem ckN_b {p q : Nat → Bool} {k : Nat} (h : p k = true) (h2 : ¬ q k = true) : ckN p q (k + 1) = ((ckN p q k).1, (ckN p q k).2 + 1) := (if_pos h).trans (if_neg h2)
/-- how often each answer -/
def lbN (v1 v0 : Nat) (c : Nat × Nat) (v : Nat) : Nat := (if v = v1 then c.1 else 0) + (if v = v0 then c.2 else 0)
def wsN (v1 v0 : Nat) (c : Nat × Nat) : Nat := if v1 = v0 then c.1 + c.2 else max c.1 c.2
theorem ws_e {lw : (Nat → Int32) → Int32} {D : Nat → Nat → Nat} {nR : Nat} {R : Nat → Int32} {p : Nat → Bool} {N r v1 v0 : Nat} (hN : N ≤ 256) (h1 : pwIf lw D nR R r true = nI v1) (h0 : pwIf lw D nR R r false = nI v0) (b1 : v1 ≤ 99) (b0 : v0 ≤ 99) : wstI lw D nR R p N r = nI (wsN v1 v0 (ckN p (fun k => hasI (nI k) (nI (D 0 r))) N)) := by
  have hl := ckN_le (p := p) (q := fun k => hasI (nI k) (nI (D 0 r))) N
  unfold wstI wsN
  rw [h1, h0, ckN_e]
  by_cases e : v1 = v0
  · rw [if_pos (by rw [e]), if_pos e]
    exact nI_add _ _
  · rw [if_neg (fun w => e ((nI_eq (by omega) (by omega)).mp w)), if_neg e]
    unfold moreI
    dsimp only
    by_cases w : (ckN p (fun k => hasI (nI k) (nI (D 0 r))) N).1 ≤ (ckN p (fun k => hasI (nI k) (nI (D 0 r))) N).2
    · rw [if_pos (nI_le w (by omega)), Nat.max_eq_right w]
    · rw [if_neg (fun z => w ((nI_leI (by omega) (by omega)).mp z)), Nat.max_eq_left (by omega)]
theorem ws_a {v1 v0 : Nat} {c : Nat × Nat} : wsN v1 v0 (c.1 + 1, c.2) = max (wsN v1 v0 c) (lbN v1 v0 c v1 + 1) ∧ ∀ v, lbN v1 v0 (c.1 + 1, c.2) v = if v = v1 then lbN v1 v0 c v1 + 1 else lbN v1 v0 c v := by
  refine ⟨?_, fun v => ?_⟩
  · unfold wsN lbN
    by_cases e : v1 = v0
    · simp [e]; omega
    · simp [e]; omega
  · unfold lbN
    by_cases e : v = v1
    · subst e; simp; omega
    · simp [e]
theorem ws_b {v1 v0 : Nat} {c : Nat × Nat} : wsN v1 v0 (c.1, c.2 + 1) = max (wsN v1 v0 c) (lbN v1 v0 c v0 + 1) ∧ ∀ v, lbN v1 v0 (c.1, c.2 + 1) v = if v = v0 then lbN v1 v0 c v0 + 1 else lbN v1 v0 c v := by
  refine ⟨?_, fun v => ?_⟩
  · unfold wsN lbN
    by_cases e : v1 = v0
    · simp [e]; omega
    · have e' : ¬ v0 = v1 := fun w => e w.symm
      simp [e, e']
  · unfold lbN
    by_cases e : v = v0
    · subst e
      by_cases f : v = v1
      · simp [f]; omega
      · simp [f]
    · simp [e]
theorem lpsF_y {p : Nat → Bool} {a0 : Int32} {k : Nat} (h : p k = true) : lpsF p a0 (k + 1) = ((lpsF p a0 k).1 + 1, (if (lpsF p a0 k).1 = 0 then nI k else (lpsF p a0 k).2.1), (lpsF p a0 k).2.2 &&& nI k) := if_pos h
theorem lpsF_n {p : Nat → Bool} {a0 : Int32} {k : Nat} (h : ¬ p k = true) : lpsF p a0 (k + 1) = lpsF p a0 k := if_neg h
theorem lpsF_at {p : Nat → Bool} {a0 : Int32} : ∀ n, n ≤ 256 → ((lpsF p a0 n).1 = 0 ∧ (lpsF p a0 n).2.1 = -1) ∨ ∃ c k, 1 ≤ c ∧ c ≤ n ∧ k < n ∧ (lpsF p a0 n).1 = nI c ∧ (lpsF p a0 n).2.1 = nI k
  | 0, _ => Or.inl ⟨rfl, rfl⟩
  | n + 1, hn => by
    have ih := lpsF_at (p := p) (a0 := a0) n (by omega)
    by_cases q : p n = true
    · rw [lpsF_y q]
      rcases ih with ⟨h1, h2⟩ | ⟨c, k, h1, h2, h3, h4, h5⟩
      · rw [h1, if_pos rfl]
        exact Or.inr ⟨1, n, Nat.le_refl _, by omega, by omega, rfl, rfl⟩
      · rw [h4, if_neg (nI_ne0 (by omega) (by omega)), h5]
        exact Or.inr ⟨c + 1, k, by omega, by omega, by omega, nI_1 c, rfl⟩
    · rw [lpsF_n q]
      rcases ih with h | ⟨c, k, h1, h2, h3, h4⟩
      · exact Or.inl h
      · exact Or.inr ⟨c, k, h1, by omega, by omega, h4⟩
theorem lpsF_f {p : Nat → Bool} {a0 : Int32} {n : Nat} (hn : n ≤ 256) : (lpsF p a0 n).1 = 0 ↔ (lpsF p a0 n).2.1 = -1 := by
  rcases lpsF_at (p := p) (a0 := a0) n hn with ⟨h1, h2⟩ | ⟨c, k, h1, h2, h3, h4, h5⟩
  · exact ⟨fun _ => h2, fun _ => h1⟩
  · exact ⟨fun e => absurd (h4.symm.trans e) (nI_ne0 (by omega) (by omega)), fun e => absurd (h5.symm.trans e) (nI_nm (by omega))⟩
theorem askF_s {t : Nat → Bool} {w : Nat → Int32} {r : Nat} (h : t r = true) : askF t w (r + 1) = askF t w r := if_pos h
theorem askF_n {t : Nat → Bool} {w : Nat → Int32} {r : Nat} (h : ¬ t r = true) (h2 : ¬ (askF t w r).1 = -1 ∧ ¬ w r < (askF t w r).2) : askF t w (r + 1) = askF t w r := (if_neg h).trans (if_pos h2)
theorem askF_y {t : Nat → Bool} {w : Nat → Int32} {r : Nat} (h : ¬ t r = true) (h2 : ¬ (¬ (askF t w r).1 = -1 ∧ ¬ w r < (askF t w r).2)) : askF t w (r + 1) = (nI r, w r) := (if_neg h).trans (if_neg h2)
/-- all but the counts by answer -/
def aE (W W' : mV) : Prop := ∀ r, ¬ r = 22 → W' r = W r
theorem aE.rf {W : mV} : aE W W := fun _ _ => rfl
theorem aE.tr {A B C : mV} (h : aE A B) (k : aE B C) : aE A C := fun r a => (k r a).trans (h r a)
theorem aE.sv {W W' : mV} {j : Nat} {y : Int32} (h : aE W W') : aE W (sv W' 22 j y) := fun q a => by rw [sv_ne a]; exact h q a
theorem HZ.aE {g : HD} {W W' : mV} {R : Nat → Int32} (hz : HZ g W 0 R) (h : aE W W') : HZ g W' 0 R := by
  have e1 : W' (100 + 0) = W (100 + 0) := h _ (by decide)
  have e2 : W' (200 + 0) = W (200 + 0) := h _ (by decide)
  have e3 : W' (300 + 0) = W (300 + 0) := h _ (by decide)
  have e4 : W' (400 + 0) = W (400 + 0) := h _ (by decide)
  unfold HZ
  rw [e1, e2, e3, e4]
  exact hz
theorem SL.aE {W W' : mV} {Ln : Nat → Nat} {X : Nat → Int32} {nL nR : Nat} (h : SL W Ln X nL nR) (e : aE W W') : SL W' Ln X nL nR := by
  unfold SL
  rw [e 3 (by decide)]
  exact h
def aQ (ac : Nat → Nat) (V W : mV) (g : HD) (h : jH) (v : Int32) : jR → jH → Prop := fun r h' => r = .inl (some (vI v)) ∧ ∃ W', InvC ac W' g (mlaw V) h' ∧ cFr h h' ∧ aE W W'
section
variable {E : jE} {d : Nat} {h : jH} {ac : Nat → Nat} {W V : mV} {g : HD} {Ln : Nat → Nat} {X : Nat → Int32} {nL : Nat}
set_option maxHeartbeats 2000000 in
theorem l_klapsable {bc bs : Nat} (hd : 8 ≤ d) (hI : InvC ac W g (mlaw V) h) (hz : HZ g W 0 (V 31)) : ∀ (m r : Nat), gS g - r = m → r ≤ gS g → G E d bc bs mX1_lapsable 4 [some (vR (nC ac 1)), some (vI (bitsI (clI (gD g) (gR g) (V 31)) r)), some (vI (nI r))] [] h (qR (some (vI (bitsI (clI (gD g) (gR g) (V 31)) (gS g)))) h) := by
  intro m
  induction m with
  | zero =>
    intro r hm hr
    have e : r = gS g := by omega
    subst e
    have b8 := hI.2.2.2.2.1.2.2.2.2.2.2.2.1
    have b10 := hI.2.2.2.2.1.2.2.2.2.2.2.2.2.1
    have bP := hI.2.2.2.2.1.2.2.2.2.2.2.2.2.2.1
    refine g_iload_n (pc := 4) dX1_lapsable_4 rfl ?_
    refine g_aload_n (pc := 5) dX1_lapsable_5 rfl ?_
    refine g_getfield (pc := 6) f_X1_31_1 dX1_lapsable_6 hI.1 rfl ?_
    refine g_getfield (pc := 9) f_X1_158_2 dX1_lapsable_9 hI.2.2.2.2.1.1.choose_spec rfl ?_
    refine g_icmp_ge (pc := 12) 42 dX1_lapsable_12 (by decide) (fun c_12 => ?_) (fun c_12 => absurd (nI_le (Nat.le_refl _) (by omega)) c_12)
    refine g_iload_n (pc := 42) dX1_lapsable_42 rfl ?_
    refine g_ireturn (pc := 43) dX1_lapsable_43 rfl (by first | exact rfl | exact j_nb _) ?_
    exact ⟨rfl, rfl⟩
  | succ m ih =>
    intro r hm hr
    have b8 := hI.2.2.2.2.1.2.2.2.2.2.2.2.1
    have b10 := hI.2.2.2.2.1.2.2.2.2.2.2.2.2.1
    have bP := hI.2.2.2.2.1.2.2.2.2.2.2.2.2.2.1
    refine g_iload_n (pc := 4) dX1_lapsable_4 rfl ?_
    refine g_aload_n (pc := 5) dX1_lapsable_5 rfl ?_
    refine g_getfield (pc := 6) f_X1_31_1 dX1_lapsable_6 hI.1 rfl ?_
    refine g_getfield (pc := 9) f_X1_158_2 dX1_lapsable_9 hI.2.2.2.2.1.1.choose_spec rfl ?_
    refine g_icmp_ge (pc := 12) 42 dX1_lapsable_12 (by decide) (fun c_12 => absurd c_12 (by intro w; have := (nI_leI (by omega) (by omega)).mp w; omega)) (fun c_12 => ?_)
    refine g_iload_n (pc := 15) dX1_lapsable_15 rfl ?_
    refine g_aload_n (pc := 16) dX1_lapsable_16 rfl ?_
    refine g_getfield (pc := 17) f_X1_58_1 dX1_lapsable_17 hI.1 rfl ?_
    refine g_iload_n (pc := 20) dX1_lapsable_20 rfl ?_
    refine g_cV (pc := 21) (M' := mX10_canLapse) (as := [_]) (ci := 10) rfl i_X1_353_10 eX10_canLapse dX1_lapsable_21 (hI.2.2.2.1 0 liv0).1 (k_canLapse (by omega) hI liv0 hz r (by omega)) (by omega) rfl rfl (Nat.le_of_ble_eq_true rfl) ?_
    refine g_ifB_eq (pc := 24) 33 dX1_lapsable_24 (by decide) (fun c_24 => ?_) (fun c_24 => ?_)
    · refine g_iconst (pc := 33) (v := 0) dX1_lapsable_33 (by decide) ?_
      refine g_ior (pc := 34) dX1_lapsable_34 ?_
      refine g_istore_n (pc := 35) (ls' := [_, _, _]) dX1_lapsable_35 (by decide) rfl rfl ?_
      refine g_iinc (pc := 36) (ls' := [_, _, _]) dX1_lapsable_36 rfl (by first | exact nI_1 _ | exact rfl) (by decide) rfl rfl ?_
      refine g_goto (pc := 39) 4 dX1_lapsable_39 (by decide) ?_
      have q := ih (r + 1) (by omega) (by omega)
      rw [bits_n (p := (clI (gD g) (gR g) (V 31))) (r := r) (by rw [c_24]; decide)] at q
      exact q
    · refine g_iconst (pc := 27) (v := 1) dX1_lapsable_27 (by decide) ?_
      refine g_iload_n (pc := 28) dX1_lapsable_28 rfl ?_
      refine g_ishl (pc := 29) dX1_lapsable_29 ?_
      refine g_goto (pc := 30) 34 dX1_lapsable_30 (by decide) ?_
      refine g_ior (pc := 34) dX1_lapsable_34 ?_
      refine g_istore_n (pc := 35) (ls' := [_, _, _]) dX1_lapsable_35 (by decide) rfl rfl ?_
      refine g_iinc (pc := 36) (ls' := [_, _, _]) dX1_lapsable_36 rfl (by first | exact nI_1 _ | exact rfl) (by decide) rfl rfl ?_
      refine g_goto (pc := 39) 4 dX1_lapsable_39 (by decide) ?_
      have q := ih (r + 1) (by omega) (by omega)
      rw [bits_y (p := (clI (gD g) (gR g) (V 31))) (r := r) c_24] at q
      exact q
theorem k_lapsable (hd : 8 ≤ d) (hI : InvC ac W g (mlaw V) h) (hz : HZ g W 0 (V 31)) : Ct E d 0 0 mX1_lapsable [vR (nC ac 1)] h (qR (some (vI (bitsI (clI (gD g) (gR g) (V 31)) (gS g)))) h) := by
  refine ct_of (by decide) (Nat.le_of_ble_eq_true rfl) rfl ?_
  refine g_iconst (pc := 0) (v := 0) dX1_lapsable_0 (by decide) ?_
  refine g_istore_n (pc := 1) (ls' := [_, _, _]) dX1_lapsable_1 (by decide) rfl rfl ?_
  refine g_iconst (pc := 2) (v := 0) dX1_lapsable_2 (by decide) ?_
  refine g_istore_n (pc := 3) (ls' := [_, _, _]) dX1_lapsable_3 (by decide) rfl rfl ?_
  exact l_klapsable hd hI hz (gS g) 0 rfl (Nat.zero_le _)
set_option maxHeartbeats 2000000 in
theorem k_powerIf {r : Nat} {x : Int32} (hd : 610 ≤ d) (hI : InvC ac W g (mlaw V) h) (hz : HZ g W 0 (V 31)) (hrv : RV (V 31) (2 ^ 30)) (hr : r < gR g) : Ct E d 0 0 mX1_powerIf [vR (nC ac 1), vI (nI r), vI x] h (cQ ac W g (mlaw V) h (some (vI (pwIf (mlaw V) (gD g) (gR g) (V 31) r (hasI x (nI (gD g 0 r))))))) := by
  refine ct_of (by decide) (Nat.le_of_ble_eq_true rfl) rfl ?_
  have hF : cFr h h := cFr.rf
  have b8 := hI.2.2.2.2.1.2.2.2.2.2.2.2.1
  have b10 := hI.2.2.2.2.1.2.2.2.2.2.2.2.2.1
  have bP := hI.2.2.2.2.1.2.2.2.2.2.2.2.2.2.1
  have hD := hI.2.2.2.2.1.2.2.2.2.2.2.2.2.2.2.1 r hr
  refine g_aload_n (pc := 0) dX1_powerIf_0 rfl ?_
  refine g_getfield (pc := 1) f_X1_58_1 dX1_powerIf_1 hI.1 rfl ?_
  refine g_getfield (pc := 4) f_X1_311_10 dX1_powerIf_4 (hI.2.2.2.1 0 liv0).1 rfl ?_
  refine g_iload_n (pc := 7) dX1_powerIf_7 rfl ?_
  refine g_iaload (pc := 8) dX1_powerIf_8 (hI.2.2.2.1 0 liv0).2.1 (j := r) rfl (by omega) (by first | decide | omega) rfl ?_
  rw [show W (200 + 0) r = V 31 (16 + r) from hz.1 r (by omega)]
  refine g_iconst (pc := 9) (v := -1) dX1_powerIf_9 (by decide) ?_
  refine g_icmp_ne (pc := 10) 15 dX1_powerIf_10 (by decide) (fun c_10 => ?_) (fun c_10 => ?_)
  · have hk : kpd (V 31) r = true := decide_eq_true c_10
    obtain ⟨x30, hb30, e30⟩ := (hrv r (by omega)).resolve_left c_10
    refine g_aload_n (pc := 15) dX1_powerIf_15 rfl ?_
    refine g_iload_n (pc := 16) dX1_powerIf_16 rfl ?_
    refine g_cV (pc := 17) (M' := mX1_relicOf) (as := [_]) (ci := 1) rfl i_X1_298_1 eX1_relicOf dX1_powerIf_17 hI.1 (k_relicOf (by omega) hI r hr) (by omega) rfl rfl (Nat.le_of_ble_eq_true rfl) ?_
    refine g_astore_n (pc := 20) (ls' := [_, _, _, _, _]) dX1_powerIf_20 (by decide) rfl rfl ?_
    refine g_iload_n (pc := 21) dX1_powerIf_21 rfl ?_
    refine g_aload_n (pc := 22) dX1_powerIf_22 rfl ?_
    refine g_getfield (pc := 23) f_X1_302_15 dX1_powerIf_23 (hI.2.2.2.2.1.2.2.2.2.2.1 r hr) rfl ?_
    refine g_cS (pc := 26) (M' := mX1_has) (as := [_, _]) i_X1_350 eX1_has dX1_powerIf_26 (k_has _ _) (by omega) rfl rfl (Nat.le_of_ble_eq_true rfl) ?_
    refine g_ifB_eq (pc := 29) 36 dX1_powerIf_29 (by decide) (fun c_29 => ?_) (fun c_29 => ?_)
    · refine g_iconst (pc := 36) (v := 0) dX1_powerIf_36 (by decide) ?_
      refine g_istore (pc := 37) (ls' := [_, _, _, _, _]) dX1_powerIf_37 (by decide) rfl rfl ?_
      refine g_aload_n (pc := 39) dX1_powerIf_39 rfl ?_
      refine g_aload_n (pc := 40) dX1_powerIf_40 rfl ?_
      refine g_getfield (pc := 41) f_X1_308_15 dX1_powerIf_41 (hI.2.2.2.2.1.2.2.2.2.2.1 r hr) rfl ?_
      refine g_aload_n (pc := 44) dX1_powerIf_44 rfl ?_
      refine g_getfield (pc := 45) f_X1_58_1 dX1_powerIf_45 hI.1 rfl ?_
      refine g_getfield (pc := 48) f_X1_311_10 dX1_powerIf_48 (hI.2.2.2.1 0 liv0).1 rfl ?_
      refine g_iload_n (pc := 51) dX1_powerIf_51 rfl ?_
      refine g_iaload (pc := 52) dX1_powerIf_52 (hI.2.2.2.1 0 liv0).2.1 (j := r) rfl (by omega) (by first | decide | omega) rfl ?_
      rw [show W (200 + 0) r = V 31 (16 + r) from hz.1 r (by omega)]
      refine g_iload (pc := 53) dX1_powerIf_53 rfl ?_
      refine g_ishr (pc := 55) dX1_powerIf_55 ?_
      refine g_aload_n (pc := 56) dX1_powerIf_56 rfl ?_
      refine g_getfield (pc := 57) f_X1_58_1 dX1_powerIf_57 hI.1 rfl ?_
      refine g_getfield (pc := 60) f_X1_279_10 dX1_powerIf_60 (hI.2.2.2.1 0 liv0).1 rfl ?_
      refine g_aload_n (pc := 63) dX1_powerIf_63 rfl ?_
      refine g_getfield (pc := 64) f_X1_302_15 dX1_powerIf_64 (hI.2.2.2.2.1.2.2.2.2.2.1 r hr) rfl ?_
      refine g_iaload (pc := 67) dX1_powerIf_67 (hI.2.2.2.1 0 liv0).2.2.1 (j := gD g 0 r) rfl (by omega) (by first | decide | omega) rfl ?_
      rw [show W (300 + 0) (gD g 0 r) = V 31 (8 + gD g 0 r) from hz.2.1 _ (by omega)]
      refine g_iload (pc := 68) dX1_powerIf_68 rfl ?_
      refine g_iadd (pc := 70) dX1_powerIf_70 ?_
      refine g_aload_n (pc := 71) dX1_powerIf_71 rfl ?_
      refine g_getfield (pc := 72) f_X1_31_1 dX1_powerIf_72 hI.1 rfl ?_
      refine g_getfield (pc := 75) f_X1_276_2 dX1_powerIf_75 hI.2.2.2.2.1.1.choose_spec rfl ?_
      refine g_aload_n (pc := 78) dX1_powerIf_78 rfl ?_
      refine g_getfield (pc := 79) f_X1_302_15 dX1_powerIf_79 (hI.2.2.2.2.1.2.2.2.2.2.1 r hr) rfl ?_
      refine g_iaload (pc := 82) dX1_powerIf_82 hI.2.2.2.2.1.2.1.choose_spec.1 (j := gD g 0 r) rfl (by omega) (by first | decide | omega) rfl ?_
      rw [hI.2.2.2.2.1.2.1.choose_spec.2 (gD g 0 r) hD.1]
      refine g_aload_n (pc := 83) dX1_powerIf_83 rfl ?_
      refine g_getfield (pc := 84) f_X1_305_15 dX1_powerIf_84 (hI.2.2.2.2.1.2.2.2.2.2.1 r hr) rfl ?_
      refine g_aload_n (pc := 87) dX1_powerIf_87 rfl ?_
      refine g_getfield (pc := 88) f_X1_58_1 dX1_powerIf_88 hI.1 rfl ?_
      refine g_iload_n (pc := 91) dX1_powerIf_91 rfl ?_
      refine g_cV (pc := 92) (M' := mX10_othersOf) (as := [_]) (ci := 10) rfl i_X1_359_10 eX10_othersOf dX1_powerIf_92 (hI.2.2.2.1 0 liv0).1 (k_others (by omega) hI liv0 hz r hr hk) (by omega) rfl rfl (Nat.le_of_ble_eq_true rfl) ?_
      refine g_aload_n (pc := 95) dX1_powerIf_95 rfl ?_
      refine g_getfield (pc := 96) f_X1_302_15 dX1_powerIf_96 (hI.2.2.2.2.1.2.2.2.2.2.1 r hr) rfl ?_
      refine g_aload_n (pc := 99) dX1_powerIf_99 rfl ?_
      refine g_getfield (pc := 100) f_X1_58_1 dX1_powerIf_100 hI.1 rfl ?_
      refine g_getfield (pc := 103) f_X1_256_10 dX1_powerIf_103 (hI.2.2.2.1 0 liv0).1 rfl ?_
      rw [show W (100 + 0) 5 = V 31 44 from hz.2.2.2.2.2, e30]
      refine c_cV (pc := 106) (M' := mX1_powerBy) (as := [_, _, _, _, _, _, _, _]) (ci := 1) rfl i_X1_334_1 eX1_powerBy dX1_powerIf_106 hI.1 (k_powerBy (by omega) hI _ _ _ _ _ _ _ _) (by omega) rfl rfl (Nat.le_of_ble_eq_true rfl) (fun h hI fr => ?_)
      replace hF := cFr.tr hF fr
      refine g_ireturn (pc := 109) dX1_powerIf_109 rfl (by first | exact rfl | exact j_nb _) ?_
      refine ⟨rv ?_, hI, hF⟩
      rw [c_29]
      unfold pwIf
      rw [if_pos hk, e30, ← shr_q hb30 false]
      rfl
    · refine g_iconst (pc := 32) (v := 1) dX1_powerIf_32 (by decide) ?_
      refine g_goto (pc := 33) 37 dX1_powerIf_33 (by decide) ?_
      refine g_istore (pc := 37) (ls' := [_, _, _, _, _]) dX1_powerIf_37 (by decide) rfl rfl ?_
      refine g_aload_n (pc := 39) dX1_powerIf_39 rfl ?_
      refine g_aload_n (pc := 40) dX1_powerIf_40 rfl ?_
      refine g_getfield (pc := 41) f_X1_308_15 dX1_powerIf_41 (hI.2.2.2.2.1.2.2.2.2.2.1 r hr) rfl ?_
      refine g_aload_n (pc := 44) dX1_powerIf_44 rfl ?_
      refine g_getfield (pc := 45) f_X1_58_1 dX1_powerIf_45 hI.1 rfl ?_
      refine g_getfield (pc := 48) f_X1_311_10 dX1_powerIf_48 (hI.2.2.2.1 0 liv0).1 rfl ?_
      refine g_iload_n (pc := 51) dX1_powerIf_51 rfl ?_
      refine g_iaload (pc := 52) dX1_powerIf_52 (hI.2.2.2.1 0 liv0).2.1 (j := r) rfl (by omega) (by first | decide | omega) rfl ?_
      rw [show W (200 + 0) r = V 31 (16 + r) from hz.1 r (by omega)]
      refine g_iload (pc := 53) dX1_powerIf_53 rfl ?_
      refine g_ishr (pc := 55) dX1_powerIf_55 ?_
      refine g_aload_n (pc := 56) dX1_powerIf_56 rfl ?_
      refine g_getfield (pc := 57) f_X1_58_1 dX1_powerIf_57 hI.1 rfl ?_
      refine g_getfield (pc := 60) f_X1_279_10 dX1_powerIf_60 (hI.2.2.2.1 0 liv0).1 rfl ?_
      refine g_aload_n (pc := 63) dX1_powerIf_63 rfl ?_
      refine g_getfield (pc := 64) f_X1_302_15 dX1_powerIf_64 (hI.2.2.2.2.1.2.2.2.2.2.1 r hr) rfl ?_
      refine g_iaload (pc := 67) dX1_powerIf_67 (hI.2.2.2.1 0 liv0).2.2.1 (j := gD g 0 r) rfl (by omega) (by first | decide | omega) rfl ?_
      rw [show W (300 + 0) (gD g 0 r) = V 31 (8 + gD g 0 r) from hz.2.1 _ (by omega)]
      refine g_iload (pc := 68) dX1_powerIf_68 rfl ?_
      refine g_iadd (pc := 70) dX1_powerIf_70 ?_
      refine g_aload_n (pc := 71) dX1_powerIf_71 rfl ?_
      refine g_getfield (pc := 72) f_X1_31_1 dX1_powerIf_72 hI.1 rfl ?_
      refine g_getfield (pc := 75) f_X1_276_2 dX1_powerIf_75 hI.2.2.2.2.1.1.choose_spec rfl ?_
      refine g_aload_n (pc := 78) dX1_powerIf_78 rfl ?_
      refine g_getfield (pc := 79) f_X1_302_15 dX1_powerIf_79 (hI.2.2.2.2.1.2.2.2.2.2.1 r hr) rfl ?_
      refine g_iaload (pc := 82) dX1_powerIf_82 hI.2.2.2.2.1.2.1.choose_spec.1 (j := gD g 0 r) rfl (by omega) (by first | decide | omega) rfl ?_
      rw [hI.2.2.2.2.1.2.1.choose_spec.2 (gD g 0 r) hD.1]
      refine g_aload_n (pc := 83) dX1_powerIf_83 rfl ?_
      refine g_getfield (pc := 84) f_X1_305_15 dX1_powerIf_84 (hI.2.2.2.2.1.2.2.2.2.2.1 r hr) rfl ?_
      refine g_aload_n (pc := 87) dX1_powerIf_87 rfl ?_
      refine g_getfield (pc := 88) f_X1_58_1 dX1_powerIf_88 hI.1 rfl ?_
      refine g_iload_n (pc := 91) dX1_powerIf_91 rfl ?_
      refine g_cV (pc := 92) (M' := mX10_othersOf) (as := [_]) (ci := 10) rfl i_X1_359_10 eX10_othersOf dX1_powerIf_92 (hI.2.2.2.1 0 liv0).1 (k_others (by omega) hI liv0 hz r hr hk) (by omega) rfl rfl (Nat.le_of_ble_eq_true rfl) ?_
      refine g_aload_n (pc := 95) dX1_powerIf_95 rfl ?_
      refine g_getfield (pc := 96) f_X1_302_15 dX1_powerIf_96 (hI.2.2.2.2.1.2.2.2.2.2.1 r hr) rfl ?_
      refine g_aload_n (pc := 99) dX1_powerIf_99 rfl ?_
      refine g_getfield (pc := 100) f_X1_58_1 dX1_powerIf_100 hI.1 rfl ?_
      refine g_getfield (pc := 103) f_X1_256_10 dX1_powerIf_103 (hI.2.2.2.1 0 liv0).1 rfl ?_
      rw [show W (100 + 0) 5 = V 31 44 from hz.2.2.2.2.2, e30]
      refine c_cV (pc := 106) (M' := mX1_powerBy) (as := [_, _, _, _, _, _, _, _]) (ci := 1) rfl i_X1_334_1 eX1_powerBy dX1_powerIf_106 hI.1 (k_powerBy (by omega) hI _ _ _ _ _ _ _ _) (by omega) rfl rfl (Nat.le_of_ble_eq_true rfl) (fun h hI fr => ?_)
      replace hF := cFr.tr hF fr
      refine g_ireturn (pc := 109) dX1_powerIf_109 rfl (by first | exact rfl | exact j_nb _) ?_
      refine ⟨rv ?_, hI, hF⟩
      rw [c_29]
      unfold pwIf
      rw [if_pos hk, e30, ← shr_q hb30 true]
      rfl
  · refine g_iconst (pc := 13) (v := 0) dX1_powerIf_13 (by decide) ?_
    refine g_ireturn (pc := 14) dX1_powerIf_14 rfl (by first | exact rfl | exact j_nb _) ?_
    refine ⟨rv ?_, hI, hF⟩
    unfold pwIf
    rw [if_neg (show ¬ kpd (V 31) r = true from fun e => absurd c_10 (of_decide_eq_true e))]
set_option maxHeartbeats 2000000 in
theorem l_kisSeen {bc bs x : Nat} {h0 : jH} (hd : 615 ≤ d) (hz : HZ g W 0 (V 31)) (hrv : RV (V 31) (2 ^ 30)) (hs : SL W Ln X nL (gR g)) (h1 : ∀ s, s < gS g → hasI (nI x) (nI s) = true → clI (gD g) (gR g) (V 31) s = true) : ∀ (m r : Nat) (h : jH), gR g - r = m → r ≤ gR g → InvC ac W g (mlaw V) h → cFr h0 h → (∀ q, q < r → ¬ W 3 q = -1 → pwIf (mlaw V) (gD g) (gR g) (V 31) q (hasI (nI x) (nI (gD g 0 q))) = W 3 q) → G E d bc bs mX1_isSeen 15 [some (vR (nC ac 1)), some (vI (nI x)), some (vI (nI r))] [] h (cQ ac W g (mlaw V) h0 (some (vI (bI (islB (mlaw V) (gD g) (gS g) (gR g) (V 31) Ln X nL x))))) := by
  intro m
  induction m with
  | zero =>
    intro r h hm hr hI hF h2
    have e : r = gR g := by omega
    subst e
    have b8 := hI.2.2.2.2.1.2.2.2.2.2.2.2.1
    have b10 := hI.2.2.2.2.1.2.2.2.2.2.2.2.2.1
    have bP := hI.2.2.2.2.1.2.2.2.2.2.2.2.2.2.1
    refine g_iload_n (pc := 15) dX1_isSeen_15 rfl ?_
    refine g_aload_n (pc := 16) dX1_isSeen_16 rfl ?_
    refine g_cV (pc := 17) (M' := mX1_relics) (as := []) (ci := 1) rfl i_X1_165_1 eX1_relics dX1_isSeen_17 hI.1 (k_relics (by omega) hI) (by omega) rfl rfl (Nat.le_of_ble_eq_true rfl) ?_
    refine g_icmp_ge (pc := 20) 56 dX1_isSeen_20 (by decide) (fun c_20 => ?_) (fun c_20 => absurd (nI_le (Nat.le_refl _) (by omega)) c_20)
    refine g_iconst (pc := 56) (v := 1) dX1_isSeen_56 (by decide) ?_
    refine g_ireturn (pc := 57) dX1_isSeen_57 rfl (by first | exact rfl | exact j_nb _) ?_
    refine ⟨?_, hI, hF⟩
    rw [islB_t h1 (fun k hk => by
      have hk2 := hs.2.1 k hk
      rcases hs.1 (Ln k) hk2 with ⟨-, w⟩ | ⟨j, w1, w2, w3, w4⟩
      · exact absurd rfl (w k hk)
      · have e := hs.2.2 j k w1 hk w2
        subst e
        rw [← w3]
        exact h2 (Ln j) hk2 (by rw [w3]; exact w4))]
    rfl
  | succ m ih =>
    intro r h hm hr hI hF h2
    have b8 := hI.2.2.2.2.1.2.2.2.2.2.2.2.1
    have b10 := hI.2.2.2.2.1.2.2.2.2.2.2.2.2.1
    have bP := hI.2.2.2.2.1.2.2.2.2.2.2.2.2.2.1
    refine g_iload_n (pc := 15) dX1_isSeen_15 rfl ?_
    refine g_aload_n (pc := 16) dX1_isSeen_16 rfl ?_
    refine g_cV (pc := 17) (M' := mX1_relics) (as := []) (ci := 1) rfl i_X1_165_1 eX1_relics dX1_isSeen_17 hI.1 (k_relics (by omega) hI) (by omega) rfl rfl (Nat.le_of_ble_eq_true rfl) ?_
    refine g_icmp_ge (pc := 20) 56 dX1_isSeen_20 (by decide) (fun c_20 => absurd c_20 (by intro w; have := (nI_leI (by omega) (by omega)).mp w; omega)) (fun c_20 => ?_)
    refine g_aload_n (pc := 23) dX1_isSeen_23 rfl ?_
    refine g_getfield (pc := 24) f_X1_47_1 dX1_isSeen_24 hI.1 rfl ?_
    refine g_iload_n (pc := 27) dX1_isSeen_27 rfl ?_
    refine g_iaload (pc := 28) dX1_isSeen_28 hI.2.1.1 (j := r) rfl (by omega) (by first | decide | omega) rfl ?_
    refine g_iconst (pc := 29) (v := -1) dX1_isSeen_29 (by decide) ?_
    refine g_icmp_eq (pc := 30) 50 dX1_isSeen_30 (by decide) (fun c_30 => ?_) (fun c_30 => ?_)
    · refine g_iinc (pc := 50) (ls' := [_, _, _]) dX1_isSeen_50 rfl (by first | exact nI_1 _ | exact rfl) (by decide) rfl rfl ?_
      refine g_goto (pc := 53) 15 dX1_isSeen_53 (by decide) ?_
      exact ih (r + 1) h (by omega) (by omega) hI hF (fun q hq hn => by
        by_cases w : q = r
        · subst w
          exact absurd c_30 hn
        · exact h2 q (by omega) hn)
    · refine g_aload_n (pc := 33) dX1_isSeen_33 rfl ?_
      refine g_iload_n (pc := 34) dX1_isSeen_34 rfl ?_
      refine g_iload_n (pc := 35) dX1_isSeen_35 rfl ?_
      refine c_cV (pc := 36) (M' := mX1_powerIf) (as := [_, _]) (ci := 1) rfl i_X1_365_1 eX1_powerIf dX1_isSeen_36 hI.1 (k_powerIf (by omega) hI hz hrv (show r < gR g by omega)) (by omega) rfl rfl (Nat.le_of_ble_eq_true rfl) (fun h hI fr => ?_)
      replace hF := cFr.tr hF fr
      refine g_aload_n (pc := 39) dX1_isSeen_39 rfl ?_
      refine g_getfield (pc := 40) f_X1_47_1 dX1_isSeen_40 hI.1 rfl ?_
      refine g_iload_n (pc := 43) dX1_isSeen_43 rfl ?_
      refine g_iaload (pc := 44) dX1_isSeen_44 hI.2.1.1 (j := r) rfl (by omega) (by first | decide | omega) rfl ?_
      refine g_icmp_eq (pc := 45) 50 dX1_isSeen_45 (by decide) (fun c_45 => ?_) (fun c_45 => ?_)
      · refine g_iinc (pc := 50) (ls' := [_, _, _]) dX1_isSeen_50 rfl (by first | exact nI_1 _ | exact rfl) (by decide) rfl rfl ?_
        refine g_goto (pc := 53) 15 dX1_isSeen_53 (by decide) ?_
        exact ih (r + 1) h (by omega) (by omega) hI hF (fun q hq hn => by
          by_cases w : q = r
          · subst w
            exact c_45
          · exact h2 q (by omega) hn)
      · refine g_iconst (pc := 48) (v := 0) dX1_isSeen_48 (by decide) ?_
        refine g_ireturn (pc := 49) dX1_isSeen_49 rfl (by first | exact rfl | exact j_nb _) ?_
        refine ⟨?_, hI, hF⟩
        rcases hs.1 r (by omega) with ⟨w, -⟩ | ⟨j, w1, w2, w3, w4⟩
        · exact absurd w c_30
        · rw [islB_f2 w1 (by rw [w2, ← w3]; exact c_45)]
          rfl
set_option maxHeartbeats 2000000 in
theorem k_isSeen {x : Nat} (hd : 620 ≤ d) (hI : InvC ac W g (mlaw V) h) (hz : HZ g W 0 (V 31)) (hrv : RV (V 31) (2 ^ 30)) (hs : SL W Ln X nL (gR g)) (hx : x < 2 ^ gS g) : Ct E d 0 0 mX1_isSeen [vR (nC ac 1), vI (nI x)] h (cQ ac W g (mlaw V) h (some (vI (bI (islB (mlaw V) (gD g) (gS g) (gR g) (V 31) Ln X nL x))))) := by
  refine ct_of (by decide) (Nat.le_of_ble_eq_true rfl) rfl ?_
  have hF : cFr h h := cFr.rf
  have b8 := hI.2.2.2.2.1.2.2.2.2.2.2.2.1
  have b10 := hI.2.2.2.2.1.2.2.2.2.2.2.2.2.1
  have bP := hI.2.2.2.2.1.2.2.2.2.2.2.2.2.2.1
  refine g_iload_n (pc := 0) dX1_isSeen_0 rfl ?_
  refine g_aload_n (pc := 1) dX1_isSeen_1 rfl ?_
  refine g_cV (pc := 2) (M' := mX1_lapsable) (as := []) (ci := 1) rfl i_X1_362_1 eX1_lapsable dX1_isSeen_2 hI.1 (k_lapsable (by omega) hI hz) (by omega) rfl rfl (Nat.le_of_ble_eq_true rfl) ?_
  refine g_iconst (pc := 5) (v := -1) dX1_isSeen_5 (by decide) ?_
  refine g_ixor (pc := 6) dX1_isSeen_6 ?_
  refine g_iand (pc := 7) dX1_isSeen_7 ?_
  refine g_if_eq (pc := 8) 13 dX1_isSeen_8 (by decide) (fun c_8 => ?_) (fun c_8 => ?_)
  · refine g_iconst (pc := 13) (v := 0) dX1_isSeen_13 (by decide) ?_
    refine g_istore_n (pc := 14) (ls' := [_, _, _]) dX1_isSeen_14 (by decide) rfl rfl ?_
    exact l_kisSeen (by omega) hz hrv hs ((sub_0 (by omega) hx).mp c_8) (gR g) 0 h rfl (Nat.zero_le _) hI hF (fun q hq => absurd hq (Nat.not_lt_zero q))
  · refine g_iconst (pc := 11) (v := 0) dX1_isSeen_11 (by decide) ?_
    refine g_ireturn (pc := 12) dX1_isSeen_12 rfl (by first | exact rfl | exact j_nb _) ?_
    refine ⟨?_, hI, hF⟩
    rw [show islB (mlaw V) (gD g) (gS g) (gR g) (V 31) Ln X nL x = false from by
      unfold islB
      rw [decide_eq_false (fun w => c_8 ((sub_0 (by omega) hx).mpr w))]
      rfl]
    rfl
set_option maxHeartbeats 2000000 in
theorem l_klapsed {bc bs : Nat} {Q : jR → jH → Prop} {h0 : jH} (hd : 621 ≤ d) (hz : HZ g W 0 (V 31)) (hrv : RV (V 31) (2 ^ 30)) (hs : SL W Ln X nL (gR g)) (w a0 : Int32) : ∀ (m r : Nat) (h : jH), 2 ^ gS g - r = m → r ≤ 2 ^ gS g → InvC ac W g (mlaw V) h → cFr h0 h → (∀ h, InvC ac W g (mlaw V) h → cFr h0 h → G E d bc bs mX1_lapsed 80 [some (vR (nC ac 1)), some (vI w), some (vI (lpsF (islB (mlaw V) (gD g) (gS g) (gR g) (V 31) Ln X nL) a0 (2 ^ gS g)).1), some (vI (lpsF (islB (mlaw V) (gD g) (gS g) (gR g) (V 31) Ln X nL) a0 (2 ^ gS g)).2.1), some (vI (lpsF (islB (mlaw V) (gD g) (gS g) (gR g) (V 31) Ln X nL) a0 (2 ^ gS g)).2.2), some (vI (nI (2 ^ gS g)))] [] h Q) → G E d bc bs mX1_lapsed 30 [some (vR (nC ac 1)), some (vI w), some (vI (lpsF (islB (mlaw V) (gD g) (gS g) (gR g) (V 31) Ln X nL) a0 r).1), some (vI (lpsF (islB (mlaw V) (gD g) (gS g) (gR g) (V 31) Ln X nL) a0 r).2.1), some (vI (lpsF (islB (mlaw V) (gD g) (gS g) (gR g) (V 31) Ln X nL) a0 r).2.2), some (vI (nI r))] [] h Q := by
  intro m
  induction m with
  | zero =>
    intro r h hm hr hI hF kk
    have e : r = 2 ^ gS g := by omega
    subst e
    have b8 := hI.2.2.2.2.1.2.2.2.2.2.2.2.1
    have b10 := hI.2.2.2.2.1.2.2.2.2.2.2.2.2.1
    have bP := hI.2.2.2.2.1.2.2.2.2.2.2.2.2.2.1
    have h256 := (pow8 (gS g) b8).2
    refine g_iload (pc := 30) dX1_lapsed_30 rfl ?_
    refine g_iconst (pc := 32) (v := 1) dX1_lapsed_32 (by decide) ?_
    refine g_aload_n (pc := 33) dX1_lapsed_33 rfl ?_
    refine g_getfield (pc := 34) f_X1_31_1 dX1_lapsed_34 hI.1 rfl ?_
    refine g_getfield (pc := 37) f_X1_158_2 dX1_lapsed_37 hI.2.2.2.2.1.1.choose_spec rfl ?_
    refine g_ishl (pc := 40) dX1_lapsed_40 ?_
    rw [show (1 : Int32) <<< (nI (gS g) &&& 31) = bitI (gS g) from rfl, bitI_pow _ (by omega)]
    refine g_icmp_ge (pc := 41) 80 dX1_lapsed_41 (by decide) (fun c_41 => ?_) (fun c_41 => absurd (nI_le (Nat.le_refl _) (by omega)) c_41)
    exact kk h hI hF
  | succ m ih =>
    intro r h hm hr hI hF kk
    have b8 := hI.2.2.2.2.1.2.2.2.2.2.2.2.1
    have b10 := hI.2.2.2.2.1.2.2.2.2.2.2.2.2.1
    have bP := hI.2.2.2.2.1.2.2.2.2.2.2.2.2.2.1
    have h256 := (pow8 (gS g) b8).2
    refine g_iload (pc := 30) dX1_lapsed_30 rfl ?_
    refine g_iconst (pc := 32) (v := 1) dX1_lapsed_32 (by decide) ?_
    refine g_aload_n (pc := 33) dX1_lapsed_33 rfl ?_
    refine g_getfield (pc := 34) f_X1_31_1 dX1_lapsed_34 hI.1 rfl ?_
    refine g_getfield (pc := 37) f_X1_158_2 dX1_lapsed_37 hI.2.2.2.2.1.1.choose_spec rfl ?_
    refine g_ishl (pc := 40) dX1_lapsed_40 ?_
    rw [show (1 : Int32) <<< (nI (gS g) &&& 31) = bitI (gS g) from rfl, bitI_pow _ (by omega)]
    refine g_icmp_ge (pc := 41) 80 dX1_lapsed_41 (by decide) (fun c_41 => absurd c_41 (by intro w; have := (nI_leI (by omega) (by omega)).mp w; omega)) (fun c_41 => ?_)
    refine g_aload_n (pc := 44) dX1_lapsed_44 rfl ?_
    refine g_iload (pc := 45) dX1_lapsed_45 rfl ?_
    refine c_cV (pc := 47) (M' := mX1_isSeen) (as := [_]) (ci := 1) rfl i_X1_368_1 eX1_isSeen dX1_lapsed_47 hI.1 (k_isSeen (by omega) hI hz hrv hs (show r < 2 ^ gS g by omega)) (by omega) rfl rfl (Nat.le_of_ble_eq_true rfl) (fun h hI fr => ?_)
    replace hF := cFr.tr hF fr
    refine g_ifB_ne (pc := 50) 56 dX1_lapsed_50 (by decide) (fun c_50 => ?_) (fun c_50 => ?_)
    · refine g_iinc (pc := 56) (ls' := [_, _, _, _, _, _]) dX1_lapsed_56 rfl (by first | exact nI_1 _ | exact rfl) (by decide) rfl rfl ?_
      refine g_iload_n (pc := 59) dX1_lapsed_59 rfl ?_
      refine g_iconst (pc := 60) (v := -1) dX1_lapsed_60 (by decide) ?_
      refine g_icmp_ne (pc := 61) 67 dX1_lapsed_61 (by decide) (fun c_61 => ?_) (fun c_61 => ?_)
      · refine g_iload (pc := 67) dX1_lapsed_67 rfl ?_
        refine g_iload (pc := 69) dX1_lapsed_69 rfl ?_
        refine g_iand (pc := 71) dX1_lapsed_71 ?_
        refine g_istore (pc := 72) (ls' := [_, _, _, _, _, _]) dX1_lapsed_72 (by decide) rfl rfl ?_
        refine g_iinc (pc := 74) (ls' := [_, _, _, _, _, _]) dX1_lapsed_74 rfl (by first | exact nI_1 _ | exact rfl) (by decide) rfl rfl ?_
        refine g_goto (pc := 77) 30 dX1_lapsed_77 (by decide) ?_
        have q := ih (r + 1) h (by omega) (by omega) hI hF kk
        rw [lpsF_y (p := (islB (mlaw V) (gD g) (gS g) (gR g) (V 31) Ln X nL)) (a0 := a0) (k := r) c_50] at q
        rw [if_neg (fun z => c_61 ((lpsF_f (p := (islB (mlaw V) (gD g) (gS g) (gR g) (V 31) Ln X nL)) (a0 := a0) (n := r) (by omega)).mp z))] at q
        exact q
      · refine g_iload (pc := 64) dX1_lapsed_64 rfl ?_
        refine g_istore_n (pc := 66) (ls' := [_, _, _, _, _, _]) dX1_lapsed_66 (by decide) rfl rfl ?_
        refine g_iload (pc := 67) dX1_lapsed_67 rfl ?_
        refine g_iload (pc := 69) dX1_lapsed_69 rfl ?_
        refine g_iand (pc := 71) dX1_lapsed_71 ?_
        refine g_istore (pc := 72) (ls' := [_, _, _, _, _, _]) dX1_lapsed_72 (by decide) rfl rfl ?_
        refine g_iinc (pc := 74) (ls' := [_, _, _, _, _, _]) dX1_lapsed_74 rfl (by first | exact nI_1 _ | exact rfl) (by decide) rfl rfl ?_
        refine g_goto (pc := 77) 30 dX1_lapsed_77 (by decide) ?_
        have q := ih (r + 1) h (by omega) (by omega) hI hF kk
        rw [lpsF_y (p := (islB (mlaw V) (gD g) (gS g) (gR g) (V 31) Ln X nL)) (a0 := a0) (k := r) c_50] at q
        rw [if_pos ((lpsF_f (p := (islB (mlaw V) (gD g) (gS g) (gR g) (V 31) Ln X nL)) (a0 := a0) (n := r) (by omega)).mpr c_61)] at q
        exact q
    · refine g_goto (pc := 53) 74 dX1_lapsed_53 (by decide) ?_
      refine g_iinc (pc := 74) (ls' := [_, _, _, _, _, _]) dX1_lapsed_74 rfl (by first | exact nI_1 _ | exact rfl) (by decide) rfl rfl ?_
      refine g_goto (pc := 77) 30 dX1_lapsed_77 (by decide) ?_
      have q := ih (r + 1) h (by omega) (by omega) hI hF kk
      rw [lpsF_n (p := (islB (mlaw V) (gD g) (gS g) (gR g) (V 31) Ln X nL)) (a0 := a0) (k := r) (by rw [c_50]; decide)] at q
      exact q
set_option maxHeartbeats 2000000 in
theorem k_lapsed (hd : 640 ≤ d) (hI : InvC ac W g (mlaw V) h) (hz : HZ g W 0 (V 31)) (hrv : RV (V 31) (2 ^ 30)) (hs : SL W Ln X nL (gR g)) (w : Int32) (hv : inR w 0 2 = true) : Ct E d 0 0 mX1_lapsed [vR (nC ac 1), vI w] h (cQ ac W g (mlaw V) h (some (vI (lpsI w (lpsF (islB (mlaw V) (gD g) (gS g) (gR g) (V 31) Ln X nL) (bitI (gS g) - 1) (2 ^ gS g)))))) := by
  refine ct_of (by decide) (Nat.le_of_ble_eq_true rfl) rfl ?_
  have hF : cFr h h := cFr.rf
  have b8 := hI.2.2.2.2.1.2.2.2.2.2.2.2.1
  have b10 := hI.2.2.2.2.1.2.2.2.2.2.2.2.2.1
  have bP := hI.2.2.2.2.1.2.2.2.2.2.2.2.2.2.1
  have h256 := (pow8 (gS g) b8).2
  refine g_aload_n (pc := 0) dX1_lapsed_0 rfl ?_
  refine g_iload_n (pc := 1) dX1_lapsed_1 rfl ?_
  refine g_iconst (pc := 2) (v := 0) dX1_lapsed_2 (by decide) ?_
  refine g_iconst (pc := 3) (v := 2) dX1_lapsed_3 (by decide) ?_
  refine g_cS (pc := 4) (M' := mX1_isIn) (as := [_, _, _]) i_X1_252 eX1_isIn dX1_lapsed_4 (k_isIn _ _ _) (by omega) rfl rfl (Nat.le_of_ble_eq_true rfl) ?_
  rw [hv]
  refine g_cVv (pc := 7) (M' := mX1_need) (as := [_]) (ci := 1) rfl i_X1_183_1 eX1_need dX1_lapsed_7 hI.1 (k_needT) (by omega) rfl rfl (Nat.le_of_ble_eq_true rfl) ?_
  refine g_iconst (pc := 10) (v := 0) dX1_lapsed_10 (by decide) ?_
  refine g_istore_n (pc := 11) (ls' := [_, _, _, _, _, _]) dX1_lapsed_11 (by decide) rfl rfl ?_
  refine g_iconst (pc := 12) (v := -1) dX1_lapsed_12 (by decide) ?_
  refine g_istore_n (pc := 13) (ls' := [_, _, _, _, _, _]) dX1_lapsed_13 (by decide) rfl rfl ?_
  refine g_iconst (pc := 14) (v := 1) dX1_lapsed_14 (by decide) ?_
  refine g_aload_n (pc := 15) dX1_lapsed_15 rfl ?_
  refine g_getfield (pc := 16) f_X1_31_1 dX1_lapsed_16 hI.1 rfl ?_
  refine g_getfield (pc := 19) f_X1_158_2 dX1_lapsed_19 hI.2.2.2.2.1.1.choose_spec rfl ?_
  refine g_ishl (pc := 22) dX1_lapsed_22 ?_
  refine g_iconst (pc := 23) (v := 1) dX1_lapsed_23 (by decide) ?_
  refine g_isub (pc := 24) dX1_lapsed_24 ?_
  rw [show (1 : Int32) <<< (nI (gS g) &&& 31) = bitI (gS g) from rfl]
  refine g_istore (pc := 25) (ls' := [_, _, _, _, _, _]) dX1_lapsed_25 (by decide) rfl rfl ?_
  refine g_iconst (pc := 27) (v := 0) dX1_lapsed_27 (by decide) ?_
  refine g_istore (pc := 28) (ls' := [_, _, _, _, _, _]) dX1_lapsed_28 (by decide) rfl rfl ?_
  refine l_klapsed (by omega) hz hrv hs w (bitI (gS g) - 1) (2 ^ gS g) 0 h rfl (Nat.zero_le _) hI hF (fun h hI hF => ?_)
  refine g_iload_n (pc := 80) dX1_lapsed_80 rfl ?_
  refine g_if_ne (pc := 81) 88 dX1_lapsed_81 (by decide) (fun c_81 => ?_) (fun c_81 => ?_)
  · refine g_iload_n (pc := 88) dX1_lapsed_88 rfl ?_
    refine g_iconst (pc := 89) (v := 1) dX1_lapsed_89 (by decide) ?_
    refine g_icmp_ne (pc := 90) 97 dX1_lapsed_90 (by decide) (fun c_90 => ?_) (fun c_90 => ?_)
    · refine g_iload_n (pc := 97) dX1_lapsed_97 rfl ?_
      refine g_if_ne (pc := 98) 105 dX1_lapsed_98 (by decide) (fun c_98 => ?_) (fun c_98 => ?_)
      · refine g_iload (pc := 105) dX1_lapsed_105 rfl ?_
        refine g_ireturn (pc := 107) dX1_lapsed_107 rfl (by first | exact rfl | exact j_nb _) ?_
        exact ⟨rv (by unfold lpsI; rw [if_neg c_81, if_neg c_90, if_neg c_98]), hI, hF⟩
      · refine g_iconst (pc := 101) (v := 0) dX1_lapsed_101 (by decide) ?_
        refine g_goto (pc := 102) 107 dX1_lapsed_102 (by decide) ?_
        refine g_ireturn (pc := 107) dX1_lapsed_107 rfl (by first | exact rfl | exact j_nb _) ?_
        exact ⟨rv (by unfold lpsI; rw [if_neg c_81, if_neg c_90, if_pos c_98]), hI, hF⟩
    · refine g_iload_n (pc := 93) dX1_lapsed_93 rfl ?_
      refine g_goto (pc := 94) 107 dX1_lapsed_94 (by decide) ?_
      refine g_ireturn (pc := 107) dX1_lapsed_107 rfl (by first | exact rfl | exact j_nb _) ?_
      exact ⟨rv (by unfold lpsI; rw [if_neg c_81, if_pos c_90]), hI, hF⟩
  · refine g_iload_n (pc := 84) dX1_lapsed_84 rfl ?_
    refine g_goto (pc := 85) 107 dX1_lapsed_85 (by decide) ?_
    refine g_ireturn (pc := 107) dX1_lapsed_107 rfl (by first | exact rfl | exact j_nb _) ?_
    exact ⟨rv (by unfold lpsI; rw [if_pos c_81]), hI, hF⟩
set_option maxHeartbeats 2000000 in
theorem l_kw0 {bc bs a : Nat} {Q : jR → jH → Prop} {h0 : jH} : ∀ (m r : Nat) (h : jH) (W' : mV), 100 - r = m → r ≤ 100 → InvC ac W' g (mlaw V) h → cFr h0 h → aE W W' → (∀ v, v < r → W' 22 v = 0) → (∀ (h : jH) (W' : mV), InvC ac W' g (mlaw V) h → cFr h0 h → aE W W' → (∀ v, v < 100 → W' 22 v = 0) → G E d bc bs mX1_worstAt 21 [some (vR (nC ac 1)), some (vI (nI a)), some (vI (nI 100)), none, none] [] h Q) → G E d bc bs mX1_worstAt 2 [some (vR (nC ac 1)), some (vI (nI a)), some (vI (nI r)), none, none] [] h Q := by
  intro m
  induction m with
  | zero =>
    intro r h W' hm hr hI hF he h22 kk
    have e : r = 100 := by omega
    subst e
    refine g_iload_n (pc := 2) dX1_worstAt_2 rfl ?_
    refine g_bipush (pc := 3) (v := 99) dX1_worstAt_3 (by decide) ?_
    refine g_icmp_gt (pc := 5) 21 dX1_worstAt_5 (by decide) (fun c_5 => ?_) (fun c_5 => absurd (by decide) c_5)
    exact kk h W' hI hF he h22
  | succ m ih =>
    intro r h W' hm hr hI hF he h22 kk
    refine g_iload_n (pc := 2) dX1_worstAt_2 rfl ?_
    refine g_bipush (pc := 3) (v := 99) dX1_worstAt_3 (by decide) ?_
    refine g_icmp_gt (pc := 5) 21 dX1_worstAt_5 (by decide) (fun c_5 => absurd c_5 (by intro w; have := (nI_ltI (a := 99) (b := r) (by decide) (by omega)).mp w; omega)) (fun c_5 => ?_)
    refine g_aload_n (pc := 8) dX1_worstAt_8 rfl ?_
    refine g_getfield (pc := 9) f_X1_95_1 dX1_worstAt_9 hI.1 rfl ?_
    refine g_iload_n (pc := 12) dX1_worstAt_12 rfl ?_
    refine g_iconst (pc := 13) (v := 0) dX1_worstAt_13 (by decide) ?_
    refine c_rast (pc := 14) (k := 22) (n := 100) hI rfl (by decide) dX1_worstAt_14 (j := r) rfl (by omega) (by decide) (fun h hI fr => ?_)
    replace hF := cFr.tr hF fr
    refine g_iinc (pc := 15) (ls' := [_, _, _, _, _]) dX1_worstAt_15 rfl (by first | exact nI_1 _ | exact rfl) (by decide) rfl rfl ?_
    refine g_goto (pc := 18) 2 dX1_worstAt_18 (by decide) ?_
    exact ih (r + 1) h _ (by omega) (by omega) hI hF he.sv (fun v hv => by
      by_cases w : v = r
      · rw [w, sv_same]
      · rw [sv_nj w]; exact h22 v (by omega)) kk
set_option maxHeartbeats 2000000 in
theorem l_kw1 {bc bs a v1 v0 : Nat} {Q : jR → jH → Prop} {h0 : jH} (hd : 625 ≤ d) (hz : HZ g W 0 (V 31)) (hrv : RV (V 31) (2 ^ 30)) (hs : SL W Ln X nL (gR g)) (ha : a < gR g) (h1 : (pwIf (mlaw V) (gD g) (gR g) (V 31) a true = nI v1)) (h0v : (pwIf (mlaw V) (gD g) (gR g) (V 31) a false = nI v0)) (b1 : v1 ≤ 99) (b0 : v0 ≤ 99) : ∀ (m r : Nat) (h : jH) (W' : mV) (u : Option jV), 2 ^ gS g - r = m → r ≤ 2 ^ gS g → InvC ac W' g (mlaw V) h → cFr h0 h → aE W W' → (∀ v, v < 100 → W' 22 v = nI (lbN v1 v0 (ckN (islB (mlaw V) (gD g) (gS g) (gR g) (V 31) Ln X nL) (fun k => hasI (nI k) (nI (gD g 0 a))) r) v)) → (∀ (h : jH) (W' : mV) (u : Option jV), InvC ac W' g (mlaw V) h → cFr h0 h → aE W W' → G E d bc bs mX1_worstAt 86 [some (vR (nC ac 1)), some (vI (nI a)), some (vI (nI (wsN v1 v0 (ckN (islB (mlaw V) (gD g) (gS g) (gR g) (V 31) Ln X nL) (fun k => hasI (nI k) (nI (gD g 0 a))) (2 ^ gS g))))), some (vI (nI (2 ^ gS g))), u] [] h Q) → G E d bc bs mX1_worstAt 25 [some (vR (nC ac 1)), some (vI (nI a)), some (vI (nI (wsN v1 v0 (ckN (islB (mlaw V) (gD g) (gS g) (gR g) (V 31) Ln X nL) (fun k => hasI (nI k) (nI (gD g 0 a))) r)))), some (vI (nI r)), u] [] h Q := by
  intro m
  induction m with
  | zero =>
    intro r h W' u hm hr hI hF he hlb kk
    have e : r = 2 ^ gS g := by omega
    subst e
    have b8 := hI.2.2.2.2.1.2.2.2.2.2.2.2.1
    have b10 := hI.2.2.2.2.1.2.2.2.2.2.2.2.2.1
    have bP := hI.2.2.2.2.1.2.2.2.2.2.2.2.2.2.1
    have h256 := (pow8 (gS g) b8).2
    refine g_iload_n (pc := 25) dX1_worstAt_25 rfl ?_
    refine g_iconst (pc := 26) (v := 1) dX1_worstAt_26 (by decide) ?_
    refine g_aload_n (pc := 27) dX1_worstAt_27 rfl ?_
    refine g_getfield (pc := 28) f_X1_31_1 dX1_worstAt_28 hI.1 rfl ?_
    refine g_getfield (pc := 31) f_X1_158_2 dX1_worstAt_31 hI.2.2.2.2.1.1.choose_spec rfl ?_
    refine g_ishl (pc := 34) dX1_worstAt_34 ?_
    rw [show (1 : Int32) <<< (nI (gS g) &&& 31) = bitI (gS g) from rfl, bitI_pow _ (by omega)]
    refine g_icmp_ge (pc := 35) 86 dX1_worstAt_35 (by decide) (fun c_35 => ?_) (fun c_35 => absurd (nI_le (Nat.le_refl _) (by omega)) c_35)
    exact kk h W' u hI hF he
  | succ m ih =>
    intro r h W' u hm hr hI hF he hlb kk
    have b8 := hI.2.2.2.2.1.2.2.2.2.2.2.2.1
    have b10 := hI.2.2.2.2.1.2.2.2.2.2.2.2.2.1
    have bP := hI.2.2.2.2.1.2.2.2.2.2.2.2.2.2.1
    have h256 := (pow8 (gS g) b8).2
    have hcl := ckN_le (p := (islB (mlaw V) (gD g) (gS g) (gR g) (V 31) Ln X nL)) (q := (fun k => hasI (nI k) (nI (gD g 0 a)))) r
    refine g_iload_n (pc := 25) dX1_worstAt_25 rfl ?_
    refine g_iconst (pc := 26) (v := 1) dX1_worstAt_26 (by decide) ?_
    refine g_aload_n (pc := 27) dX1_worstAt_27 rfl ?_
    refine g_getfield (pc := 28) f_X1_31_1 dX1_worstAt_28 hI.1 rfl ?_
    refine g_getfield (pc := 31) f_X1_158_2 dX1_worstAt_31 hI.2.2.2.2.1.1.choose_spec rfl ?_
    refine g_ishl (pc := 34) dX1_worstAt_34 ?_
    rw [show (1 : Int32) <<< (nI (gS g) &&& 31) = bitI (gS g) from rfl, bitI_pow _ (by omega)]
    refine g_icmp_ge (pc := 35) 86 dX1_worstAt_35 (by decide) (fun c_35 => absurd c_35 (by intro w; have := (nI_leI (by omega) (by omega)).mp w; omega)) (fun c_35 => ?_)
    refine g_aload_n (pc := 38) dX1_worstAt_38 rfl ?_
    refine g_iload_n (pc := 39) dX1_worstAt_39 rfl ?_
    refine c_cV (pc := 40) (M' := mX1_isSeen) (as := [_]) (ci := 1) rfl i_X1_368_1 eX1_isSeen dX1_worstAt_40 hI.1 (k_isSeen (by omega) hI (hz.aE he) hrv (hs.aE he) (show r < 2 ^ gS g by omega)) (by omega) rfl rfl (Nat.le_of_ble_eq_true rfl) (fun h hI fr => ?_)
    replace hF := cFr.tr hF fr
    refine g_ifB_ne (pc := 43) 49 dX1_worstAt_43 (by decide) (fun c_43 => ?_) (fun c_43 => ?_)
    · refine g_aload_n (pc := 49) dX1_worstAt_49 rfl ?_
      refine g_iload_n (pc := 50) dX1_worstAt_50 rfl ?_
      refine g_iload_n (pc := 51) dX1_worstAt_51 rfl ?_
      refine c_cV (pc := 52) (M' := mX1_powerIf) (as := [_, _]) (ci := 1) rfl i_X1_365_1 eX1_powerIf dX1_worstAt_52 hI.1 (k_powerIf (by omega) hI (hz.aE he) hrv ha) (by omega) rfl rfl (Nat.le_of_ble_eq_true rfl) (fun h hI fr => ?_)
      replace hF := cFr.tr hF fr
      cases hq : hasI (nI r) (nI (gD g 0 a)) with
      | true =>
        have eck := ckN_a (p := (islB (mlaw V) (gD g) (gS g) (gR g) (V 31) Ln X nL)) (q := (fun k => hasI (nI k) (nI (gD g 0 a)))) (k := r) c_43 hq
        have ews := @ws_a v1 v0 ((ckN (islB (mlaw V) (gD g) (gS g) (gR g) (V 31) Ln X nL) (fun k => hasI (nI k) (nI (gD g 0 a))) r))
        rw [h1]
        refine g_istore (pc := 55) (ls' := [_, _, _, _, _]) dX1_worstAt_55 (by decide) rfl rfl ?_
        refine g_aload_n (pc := 57) dX1_worstAt_57 rfl ?_
        refine g_getfield (pc := 58) f_X1_95_1 dX1_worstAt_58 hI.1 rfl ?_
        refine g_iload (pc := 61) dX1_worstAt_61 rfl ?_
        refine g_dup2 (pc := 63) dX1_worstAt_63 rfl rfl ?_
        refine g_iaload (pc := 64) dX1_worstAt_64 hI.s32 (j := v1) rfl (by omega) (by first | decide | omega) rfl ?_
        rw [hlb v1 (by omega)]
        refine g_iconst (pc := 65) (v := 1) dX1_worstAt_65 (by decide) ?_
        refine g_iadd (pc := 66) dX1_worstAt_66 ?_
        rw [nI_1]
        refine c_rast (pc := 67) (k := 22) (n := 100) hI rfl (by decide) dX1_worstAt_67 (j := v1) rfl (by omega) (by decide) (fun h hI fr => ?_)
        replace hF := cFr.tr hF fr
        refine g_iload_n (pc := 68) dX1_worstAt_68 rfl ?_
        refine g_aload_n (pc := 69) dX1_worstAt_69 rfl ?_
        refine g_getfield (pc := 70) f_X1_95_1 dX1_worstAt_70 hI.1 rfl ?_
        refine g_iload (pc := 73) dX1_worstAt_73 rfl ?_
        refine g_iaload (pc := 75) dX1_worstAt_75 hI.s32 (j := v1) rfl (by omega) (by first | decide | omega) rfl ?_
        rw [sv_same]
        refine g_cS (pc := 76) (M' := mJ12_max) (as := [_, _]) i_X1_149 eJ12_max dX1_worstAt_76 (k_max _ _) (by omega) rfl rfl (Nat.le_of_ble_eq_true rfl) ?_
        rw [max_nI (by unfold wsN; split <;> omega) (by unfold lbN; split <;> split <;> omega), ← ews.1, ← eck]
        refine g_istore_n (pc := 79) (ls' := [_, _, _, _, _]) dX1_worstAt_79 (by decide) rfl rfl ?_
        refine g_iinc (pc := 80) (ls' := [_, _, _, _, _]) dX1_worstAt_80 rfl (by first | exact nI_1 _ | exact rfl) (by decide) rfl rfl ?_
        refine g_goto (pc := 83) 25 dX1_worstAt_83 (by decide) ?_
        refine ih (r + 1) h _ _ (by omega) (by omega) hI hF he.sv (fun v hv => ?_) kk
        rw [eck, ews.2 v]
        by_cases w : v = v1
        · subst w; rw [sv_same, if_pos rfl]
        · rw [sv_nj w, if_neg w]; exact hlb v hv
      | false =>
        have eck := ckN_b (p := (islB (mlaw V) (gD g) (gS g) (gR g) (V 31) Ln X nL)) (q := (fun k => hasI (nI k) (nI (gD g 0 a)))) (k := r) c_43 (by show ¬ hasI (nI r) (nI (gD g 0 a)) = true; rw [hq]; decide)
        have ews := @ws_b v1 v0 ((ckN (islB (mlaw V) (gD g) (gS g) (gR g) (V 31) Ln X nL) (fun k => hasI (nI k) (nI (gD g 0 a))) r))
        rw [h0v]
        refine g_istore (pc := 55) (ls' := [_, _, _, _, _]) dX1_worstAt_55 (by decide) rfl rfl ?_
        refine g_aload_n (pc := 57) dX1_worstAt_57 rfl ?_
        refine g_getfield (pc := 58) f_X1_95_1 dX1_worstAt_58 hI.1 rfl ?_
        refine g_iload (pc := 61) dX1_worstAt_61 rfl ?_
        refine g_dup2 (pc := 63) dX1_worstAt_63 rfl rfl ?_
        refine g_iaload (pc := 64) dX1_worstAt_64 hI.s32 (j := v0) rfl (by omega) (by first | decide | omega) rfl ?_
        rw [hlb v0 (by omega)]
        refine g_iconst (pc := 65) (v := 1) dX1_worstAt_65 (by decide) ?_
        refine g_iadd (pc := 66) dX1_worstAt_66 ?_
        rw [nI_1]
        refine c_rast (pc := 67) (k := 22) (n := 100) hI rfl (by decide) dX1_worstAt_67 (j := v0) rfl (by omega) (by decide) (fun h hI fr => ?_)
        replace hF := cFr.tr hF fr
        refine g_iload_n (pc := 68) dX1_worstAt_68 rfl ?_
        refine g_aload_n (pc := 69) dX1_worstAt_69 rfl ?_
        refine g_getfield (pc := 70) f_X1_95_1 dX1_worstAt_70 hI.1 rfl ?_
        refine g_iload (pc := 73) dX1_worstAt_73 rfl ?_
        refine g_iaload (pc := 75) dX1_worstAt_75 hI.s32 (j := v0) rfl (by omega) (by first | decide | omega) rfl ?_
        rw [sv_same]
        refine g_cS (pc := 76) (M' := mJ12_max) (as := [_, _]) i_X1_149 eJ12_max dX1_worstAt_76 (k_max _ _) (by omega) rfl rfl (Nat.le_of_ble_eq_true rfl) ?_
        rw [max_nI (by unfold wsN; split <;> omega) (by unfold lbN; split <;> split <;> omega), ← ews.1, ← eck]
        refine g_istore_n (pc := 79) (ls' := [_, _, _, _, _]) dX1_worstAt_79 (by decide) rfl rfl ?_
        refine g_iinc (pc := 80) (ls' := [_, _, _, _, _]) dX1_worstAt_80 rfl (by first | exact nI_1 _ | exact rfl) (by decide) rfl rfl ?_
        refine g_goto (pc := 83) 25 dX1_worstAt_83 (by decide) ?_
        refine ih (r + 1) h _ _ (by omega) (by omega) hI hF he.sv (fun v hv => ?_) kk
        rw [eck, ews.2 v]
        by_cases w : v = v0
        · subst w; rw [sv_same, if_pos rfl]
        · rw [sv_nj w, if_neg w]; exact hlb v hv
    · refine g_goto (pc := 46) 80 dX1_worstAt_46 (by decide) ?_
      refine g_iinc (pc := 80) (ls' := [_, _, _, _, _]) dX1_worstAt_80 rfl (by first | exact nI_1 _ | exact rfl) (by decide) rfl rfl ?_
      refine g_goto (pc := 83) 25 dX1_worstAt_83 (by decide) ?_
      rw [← ckN_n (p := (islB (mlaw V) (gD g) (gS g) (gR g) (V 31) Ln X nL)) (q := (fun k => hasI (nI k) (nI (gD g 0 a)))) (k := r) (by rw [c_43]; decide)] at hlb ⊢
      exact ih (r + 1) h W' _ (by omega) (by omega) hI hF he hlb kk
set_option maxHeartbeats 2000000 in
theorem k_worstAt {a : Nat} (hd : 630 ≤ d) (hI : InvC ac W g (mlaw V) h) (hz : HZ g W 0 (V 31)) (hrv : RV (V 31) (2 ^ 30)) (hs : SL W Ln X nL (gR g)) (ha : a < gR g) : Ct E d 0 0 mX1_worstAt [vR (nC ac 1), vI (nI a)] h (aQ ac V W g h (wstI (mlaw V) (gD g) (gR g) (V 31) (islB (mlaw V) (gD g) (gS g) (gR g) (V 31) Ln X nL) (2 ^ gS g) a)) := by
  refine ct_of (by decide) (Nat.le_of_ble_eq_true rfl) rfl ?_
  have hF : cFr h h := cFr.rf
  have b8 := hI.2.2.2.2.1.2.2.2.2.2.2.2.1
  have b10 := hI.2.2.2.2.1.2.2.2.2.2.2.2.2.1
  have bP := hI.2.2.2.2.1.2.2.2.2.2.2.2.2.2.1
  have h256 := (pow8 (gS g) b8).2
  obtain ⟨v1, b1, h1⟩ := pwIf_n (lw := mlaw V) (D := gD g) (nR := gR g) (R := V 31) (r := a) true
  obtain ⟨v0, b0, h0v⟩ := pwIf_n (lw := mlaw V) (D := gD g) (nR := gR g) (R := V 31) (r := a) false
  refine g_iconst (pc := 0) (v := 0) dX1_worstAt_0 (by decide) ?_
  refine g_istore_n (pc := 1) (ls' := [_, _, _, _, _]) dX1_worstAt_1 (by decide) rfl rfl ?_
  refine l_kw0 (a := a) 100 0 h W rfl (Nat.zero_le _) hI hF aE.rf (fun v hv => absurd hv (Nat.not_lt_zero v)) (fun h W' hI hF he h22 => ?_)
  refine g_iconst (pc := 21) (v := 0) dX1_worstAt_21 (by decide) ?_
  rw [show (0 : Int32) = nI (wsN v1 v0 (ckN (islB (mlaw V) (gD g) (gS g) (gR g) (V 31) Ln X nL) (fun k => hasI (nI k) (nI (gD g 0 a))) 0)) from by unfold wsN ckN; split <;> rfl]
  refine g_istore_n (pc := 22) (ls' := [_, _, _, _, _]) dX1_worstAt_22 (by decide) rfl rfl ?_
  refine g_iconst (pc := 23) (v := 0) dX1_worstAt_23 (by decide) ?_
  refine g_istore_n (pc := 24) (ls' := [_, _, _, _, _]) dX1_worstAt_24 (by decide) rfl rfl ?_
  refine l_kw1 (d := d) (by omega) hz hrv hs ha h1 h0v b1 b0 (2 ^ gS g) 0 h W' _ rfl (Nat.zero_le _) hI hF he (fun v hv => by
    rw [h22 v hv]
    unfold lbN ckN
    split <;> split <;> rfl) (fun h W' u hI hF he => ?_)
  refine g_iload_n (pc := 86) dX1_worstAt_86 rfl ?_
  refine g_ireturn (pc := 87) dX1_worstAt_87 rfl (by first | exact rfl | exact j_nb _) ?_
  exact ⟨rv (ws_e h256 h1 h0v b1 b0).symm, W', hI, hF, he⟩
set_option maxHeartbeats 2000000 in
theorem l_kask {bc bs : Nat} {Q : jR → jH → Prop} {h0 : jH} (hd : 635 ≤ d) (hz : HZ g W 0 (V 31)) (hrv : RV (V 31) (2 ^ 30)) (hs : SL W Ln X nL (gR g)) (w : Int32) : ∀ (m r : Nat) (h : jH) (W' : mV) (u : Option jV), gR g - r = m → r ≤ gR g → InvC ac W' g (mlaw V) h → cFr h0 h → aE W W' → (∀ (h : jH) (W' : mV) (u : Option jV), InvC ac W' g (mlaw V) h → cFr h0 h → aE W W' → G E d bc bs mX1_ask 72 [some (vR (nC ac 1)), some (vI w), some (vI (askF (tldB Ln nL) (wstI (mlaw V) (gD g) (gR g) (V 31) (islB (mlaw V) (gD g) (gS g) (gR g) (V 31) Ln X nL) (2 ^ gS g)) (gR g)).1), some (vI (askF (tldB Ln nL) (wstI (mlaw V) (gD g) (gR g) (V 31) (islB (mlaw V) (gD g) (gS g) (gR g) (V 31) Ln X nL) (2 ^ gS g)) (gR g)).2), some (vI (nI (gR g))), u] [] h Q) → G E d bc bs mX1_ask 15 [some (vR (nC ac 1)), some (vI w), some (vI (askF (tldB Ln nL) (wstI (mlaw V) (gD g) (gR g) (V 31) (islB (mlaw V) (gD g) (gS g) (gR g) (V 31) Ln X nL) (2 ^ gS g)) r).1), some (vI (askF (tldB Ln nL) (wstI (mlaw V) (gD g) (gR g) (V 31) (islB (mlaw V) (gD g) (gS g) (gR g) (V 31) Ln X nL) (2 ^ gS g)) r).2), some (vI (nI r)), u] [] h Q := by
  intro m
  induction m with
  | zero =>
    intro r h W' u hm hr hI hF he kk
    have e : r = gR g := by omega
    subst e
    have b8 := hI.2.2.2.2.1.2.2.2.2.2.2.2.1
    have b10 := hI.2.2.2.2.1.2.2.2.2.2.2.2.2.1
    have bP := hI.2.2.2.2.1.2.2.2.2.2.2.2.2.2.1
    refine g_iload (pc := 15) dX1_ask_15 rfl ?_
    refine g_aload_n (pc := 17) dX1_ask_17 rfl ?_
    refine g_cV (pc := 18) (M' := mX1_relics) (as := []) (ci := 1) rfl i_X1_165_1 eX1_relics dX1_ask_18 hI.1 (k_relics (by omega) hI) (by omega) rfl rfl (Nat.le_of_ble_eq_true rfl) ?_
    refine g_icmp_ge (pc := 21) 72 dX1_ask_21 (by decide) (fun c_21 => ?_) (fun c_21 => absurd (nI_le (Nat.le_refl _) (by omega)) c_21)
    exact kk h W' u hI hF he
  | succ m ih =>
    intro r h W' u hm hr hI hF he kk
    have b8 := hI.2.2.2.2.1.2.2.2.2.2.2.2.1
    have b10 := hI.2.2.2.2.1.2.2.2.2.2.2.2.2.1
    have bP := hI.2.2.2.2.1.2.2.2.2.2.2.2.2.2.1
    refine g_iload (pc := 15) dX1_ask_15 rfl ?_
    refine g_aload_n (pc := 17) dX1_ask_17 rfl ?_
    refine g_cV (pc := 18) (M' := mX1_relics) (as := []) (ci := 1) rfl i_X1_165_1 eX1_relics dX1_ask_18 hI.1 (k_relics (by omega) hI) (by omega) rfl rfl (Nat.le_of_ble_eq_true rfl) ?_
    refine g_icmp_ge (pc := 21) 72 dX1_ask_21 (by decide) (fun c_21 => absurd c_21 (by intro w; have := (nI_leI (by omega) (by omega)).mp w; omega)) (fun c_21 => ?_)
    refine g_aload_n (pc := 24) dX1_ask_24 rfl ?_
    refine g_getfield (pc := 25) f_X1_47_1 dX1_ask_25 hI.1 rfl ?_
    refine g_iload (pc := 28) dX1_ask_28 rfl ?_
    refine g_iaload (pc := 30) dX1_ask_30 hI.2.1.1 (j := r) rfl (by omega) (by first | decide | omega) rfl ?_
    rw [he 3 (by decide)]
    refine g_iconst (pc := 31) (v := -1) dX1_ask_31 (by decide) ?_
    refine g_icmp_eq (pc := 32) 38 dX1_ask_32 (by decide) (fun c_32 => ?_) (fun c_32 => ?_)
    · refine g_aload_n (pc := 38) dX1_ask_38 rfl ?_
      refine g_iload (pc := 39) dX1_ask_39 rfl ?_
      refine g_callV (pc := 41) (M' := mX1_worstAt) (as := [_]) (ci := 1) rfl i_X1_371_1 eX1_worstAt dX1_ask_41 hI.1 (k_worstAt (by omega) hI (hz.aE he) hrv (hs.aE he) (show r < gR g by omega)) (by omega) rfl rfl (Nat.le_of_ble_eq_true rfl) (by omega) (by omega) (fun C9 x9 h9 q9 => ?_) (fun r9 h9 q9 => ?_)
      · cases q9.1
      obtain ⟨e9, W', hI, fr9, he9⟩ := q9
      cases e9
      replace hF := cFr.tr hF fr9
      replace he := he.tr he9
      refine g_istore (pc := 44) (ls' := [_, _, _, _, _, _]) dX1_ask_44 (by decide) rfl rfl ?_
      refine g_iload_n (pc := 46) dX1_ask_46 rfl ?_
      refine g_iconst (pc := 47) (v := -1) dX1_ask_47 (by decide) ?_
      refine g_icmp_eq (pc := 48) 60 dX1_ask_48 (by decide) (fun c_48 => ?_) (fun c_48 => ?_)
      · refine g_iload (pc := 60) dX1_ask_60 rfl ?_
        refine g_istore_n (pc := 62) (ls' := [_, _, _, _, _, _]) dX1_ask_62 (by decide) rfl rfl ?_
        refine g_iload (pc := 63) dX1_ask_63 rfl ?_
        refine g_istore_n (pc := 65) (ls' := [_, _, _, _, _, _]) dX1_ask_65 (by decide) rfl rfl ?_
        refine g_iinc (pc := 66) (ls' := [_, _, _, _, _, _]) dX1_ask_66 rfl (by first | exact nI_1 _ | exact rfl) (by decide) rfl rfl ?_
        refine g_goto (pc := 69) 15 dX1_ask_69 (by decide) ?_
        have htl : ¬ tldB Ln nL r = true := by
          rcases hs.1 r (by omega) with ⟨-, z⟩ | ⟨j, z1, z2, z3, z4⟩
          · exact fun e => by
              obtain ⟨j, z1, z2⟩ := of_decide_eq_true e
              exact z j z1 z2
          · exact absurd (z3.symm.trans c_32) z4
        have q := ih (r + 1) h9 W' (some (vI (wstI (mlaw V) (gD g) (gR g) (V 31) (islB (mlaw V) (gD g) (gS g) (gR g) (V 31) Ln X nL) (2 ^ gS g) r))) (by omega) (by omega) hI hF he kk
        rw [askF_y (t := tldB Ln nL) (w := wstI (mlaw V) (gD g) (gR g) (V 31) (islB (mlaw V) (gD g) (gS g) (gR g) (V 31) Ln X nL) (2 ^ gS g)) (r := r) htl (fun z => z.1 c_48)] at q
        exact q
      · refine g_iload (pc := 51) dX1_ask_51 rfl ?_
        refine g_iload_n (pc := 53) dX1_ask_53 rfl ?_
        refine g_icmp_lt (pc := 54) 60 dX1_ask_54 (by decide) (fun c_54 => ?_) (fun c_54 => ?_)
        · refine g_iload (pc := 60) dX1_ask_60 rfl ?_
          refine g_istore_n (pc := 62) (ls' := [_, _, _, _, _, _]) dX1_ask_62 (by decide) rfl rfl ?_
          refine g_iload (pc := 63) dX1_ask_63 rfl ?_
          refine g_istore_n (pc := 65) (ls' := [_, _, _, _, _, _]) dX1_ask_65 (by decide) rfl rfl ?_
          refine g_iinc (pc := 66) (ls' := [_, _, _, _, _, _]) dX1_ask_66 rfl (by first | exact nI_1 _ | exact rfl) (by decide) rfl rfl ?_
          refine g_goto (pc := 69) 15 dX1_ask_69 (by decide) ?_
          have htl : ¬ tldB Ln nL r = true := by
            rcases hs.1 r (by omega) with ⟨-, z⟩ | ⟨j, z1, z2, z3, z4⟩
            · exact fun e => by
                obtain ⟨j, z1, z2⟩ := of_decide_eq_true e
                exact z j z1 z2
            · exact absurd (z3.symm.trans c_32) z4
          have q := ih (r + 1) h9 W' (some (vI (wstI (mlaw V) (gD g) (gR g) (V 31) (islB (mlaw V) (gD g) (gS g) (gR g) (V 31) Ln X nL) (2 ^ gS g) r))) (by omega) (by omega) hI hF he kk
          rw [askF_y (t := tldB Ln nL) (w := wstI (mlaw V) (gD g) (gR g) (V 31) (islB (mlaw V) (gD g) (gS g) (gR g) (V 31) Ln X nL) (2 ^ gS g)) (r := r) htl (fun z => z.2 c_54)] at q
          exact q
        · refine g_goto (pc := 57) 66 dX1_ask_57 (by decide) ?_
          refine g_iinc (pc := 66) (ls' := [_, _, _, _, _, _]) dX1_ask_66 rfl (by first | exact nI_1 _ | exact rfl) (by decide) rfl rfl ?_
          refine g_goto (pc := 69) 15 dX1_ask_69 (by decide) ?_
          have htl : ¬ tldB Ln nL r = true := by
            rcases hs.1 r (by omega) with ⟨-, z⟩ | ⟨j, z1, z2, z3, z4⟩
            · exact fun e => by
                obtain ⟨j, z1, z2⟩ := of_decide_eq_true e
                exact z j z1 z2
            · exact absurd (z3.symm.trans c_32) z4
          rw [← askF_n (t := tldB Ln nL) (w := wstI (mlaw V) (gD g) (gR g) (V 31) (islB (mlaw V) (gD g) (gS g) (gR g) (V 31) Ln X nL) (2 ^ gS g)) (r := r) htl ⟨c_48, c_54⟩]
          exact ih (r + 1) h9 W' _ (by omega) (by omega) hI hF he kk
    · refine g_goto (pc := 35) 66 dX1_ask_35 (by decide) ?_
      refine g_iinc (pc := 66) (ls' := [_, _, _, _, _, _]) dX1_ask_66 rfl (by first | exact nI_1 _ | exact rfl) (by decide) rfl rfl ?_
      refine g_goto (pc := 69) 15 dX1_ask_69 (by decide) ?_
      have htl : tldB Ln nL r = true := by
        rcases hs.1 r (by omega) with ⟨z, -⟩ | ⟨j, z1, z2, z3, z4⟩
        · exact absurd z c_32
        · exact decide_eq_true ⟨j, z1, z2⟩
      rw [← askF_s (t := tldB Ln nL) (w := wstI (mlaw V) (gD g) (gR g) (V 31) (islB (mlaw V) (gD g) (gS g) (gR g) (V 31) Ln X nL) (2 ^ gS g)) (r := r) htl]
      exact ih (r + 1) h W' _ (by omega) (by omega) hI hF he kk
set_option maxHeartbeats 2000000 in
theorem k_ask (hd : 640 ≤ d) (hI : InvC ac W g (mlaw V) h) (hz : HZ g W 0 (V 31)) (hrv : RV (V 31) (2 ^ 30)) (hs : SL W Ln X nL (gR g)) (w : Int32) (hv : inR w 0 1 = true) : Ct E d 0 0 mX1_ask [vR (nC ac 1), vI w] h (aQ ac V W g h (if w = 0 then (askF (tldB Ln nL) (wstI (mlaw V) (gD g) (gR g) (V 31) (islB (mlaw V) (gD g) (gS g) (gR g) (V 31) Ln X nL) (2 ^ gS g)) (gR g)).1 else (askF (tldB Ln nL) (wstI (mlaw V) (gD g) (gR g) (V 31) (islB (mlaw V) (gD g) (gS g) (gR g) (V 31) Ln X nL) (2 ^ gS g)) (gR g)).2)) := by
  refine ct_of (by decide) (Nat.le_of_ble_eq_true rfl) rfl ?_
  have hF : cFr h h := cFr.rf
  have b8 := hI.2.2.2.2.1.2.2.2.2.2.2.2.1
  have b10 := hI.2.2.2.2.1.2.2.2.2.2.2.2.2.1
  have bP := hI.2.2.2.2.1.2.2.2.2.2.2.2.2.2.1
  refine g_aload_n (pc := 0) dX1_ask_0 rfl ?_
  refine g_iload_n (pc := 1) dX1_ask_1 rfl ?_
  refine g_cS (pc := 2) (M' := mX1_isPart) (as := [_]) i_X1_344 eX1_isPart dX1_ask_2 (k_isPartI _) (by omega) rfl rfl (Nat.le_of_ble_eq_true rfl) ?_
  rw [hv]
  refine g_cVv (pc := 5) (M' := mX1_need) (as := [_]) (ci := 1) rfl i_X1_183_1 eX1_need dX1_ask_5 hI.1 (k_needT) (by omega) rfl rfl (Nat.le_of_ble_eq_true rfl) ?_
  refine g_iconst (pc := 8) (v := -1) dX1_ask_8 (by decide) ?_
  refine g_istore_n (pc := 9) (ls' := [_, _, _, _, _, _]) dX1_ask_9 (by decide) rfl rfl ?_
  refine g_iconst (pc := 10) (v := -1) dX1_ask_10 (by decide) ?_
  refine g_istore_n (pc := 11) (ls' := [_, _, _, _, _, _]) dX1_ask_11 (by decide) rfl rfl ?_
  refine g_iconst (pc := 12) (v := 0) dX1_ask_12 (by decide) ?_
  refine g_istore (pc := 13) (ls' := [_, _, _, _, _, _]) dX1_ask_13 (by decide) rfl rfl ?_
  refine l_kask (by omega) hz hrv hs w (gR g) 0 h W _ rfl (Nat.zero_le _) hI hF aE.rf (fun h W' u hI hF he => ?_)
  refine g_iload_n (pc := 72) dX1_ask_72 rfl ?_
  refine g_if_ne (pc := 73) 80 dX1_ask_73 (by decide) (fun c_73 => ?_) (fun c_73 => ?_)
  · refine g_iload_n (pc := 80) dX1_ask_80 rfl ?_
    refine g_ireturn (pc := 81) dX1_ask_81 rfl (by first | exact rfl | exact j_nb _) ?_
    exact ⟨rv (by rw [if_neg c_73]), W', hI, hF, he⟩
  · refine g_iload_n (pc := 76) dX1_ask_76 rfl ?_
    refine g_goto (pc := 77) 81 dX1_ask_77 (by decide) ?_
    refine g_ireturn (pc := 81) dX1_ask_81 rfl (by first | exact rfl | exact j_nb _) ?_
    exact ⟨rv (by rw [if_pos c_73]), W', hI, hF, he⟩
end
section
variable {E : jE} {d : Nat} {h : jH} {ac : Nat → Nat} {W : mV} {g : HD} {F : (Nat → Int32) → Int32}
set_option maxHeartbeats 2000000 in
theorem x_lapsed (hd : 20 ≤ d) (hI : InvC ac W g F h) (x : Int32) (hv : inR x 0 2 = false) : Ct E d 1 6 mX1_lapsed [vR (nC ac 1), vI x] h (cX ac W g F h nmIA 1) := by
  refine ct_of (by decide) (Nat.le_of_ble_eq_true rfl) rfl ?_
  have hF : cFr h h := cFr.rf
  have b8 := hI.2.2.2.2.1.2.2.2.2.2.2.2.1
  have b10 := hI.2.2.2.2.1.2.2.2.2.2.2.2.2.1
  have bP := hI.2.2.2.2.1.2.2.2.2.2.2.2.2.2.1
  refine g_aload_n (pc := 0) dX1_lapsed_0 rfl ?_
  refine g_iload_n (pc := 1) dX1_lapsed_1 rfl ?_
  refine g_iconst (pc := 2) (v := 0) dX1_lapsed_2 (by decide) ?_
  refine g_iconst (pc := 3) (v := 2) dX1_lapsed_3 (by decide) ?_
  refine g_cS (pc := 4) (M' := mX1_isIn) (as := [_, _, _]) i_X1_252 eX1_isIn dX1_lapsed_4 (k_isIn _ _ _) (by omega) rfl rfl (Nat.le_of_ble_eq_true rfl) ?_
  rw [hv]
  exact c_tV (pc := 7) (M' := mX1_need) (as := [_]) (ci := 1) rfl i_X1_183_1 eX1_need dX1_lapsed_7 hI.1 (k_needF (by omega) hI) (by omega) rfl rfl (Nat.le_of_ble_eq_true rfl) (by decide) hF (by omega) (by omega)
set_option maxHeartbeats 2000000 in
theorem x_ask (hd : 20 ≤ d) (hI : InvC ac W g F h) (x : Int32) (hv : inR x 0 1 = false) : Ct E d 1 6 mX1_ask [vR (nC ac 1), vI x] h (cX ac W g F h nmIA 1) := by
  refine ct_of (by decide) (Nat.le_of_ble_eq_true rfl) rfl ?_
  have hF : cFr h h := cFr.rf
  have b8 := hI.2.2.2.2.1.2.2.2.2.2.2.2.1
  have b10 := hI.2.2.2.2.1.2.2.2.2.2.2.2.2.1
  have bP := hI.2.2.2.2.1.2.2.2.2.2.2.2.2.2.1
  refine g_aload_n (pc := 0) dX1_ask_0 rfl ?_
  refine g_iload_n (pc := 1) dX1_ask_1 rfl ?_
  refine g_cS (pc := 2) (M' := mX1_isPart) (as := [_]) i_X1_344 eX1_isPart dX1_ask_2 (k_isPartI _) (by omega) rfl rfl (Nat.le_of_ble_eq_true rfl) ?_
  rw [hv]
  exact c_tV (pc := 5) (M' := mX1_need) (as := [_]) (ci := 1) rfl i_X1_183_1 eX1_need dX1_ask_5 hI.1 (k_needF (by omega) hI) (by omega) rfl rfl (Nat.le_of_ble_eq_true rfl) (by decide) hF (by omega) (by omega)
end
