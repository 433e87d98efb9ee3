/-! THE COMPONENT: whom to cure by which. Printed by m_c12.py -/
set_option maxRecDepth 100000
theorem idx_all : ∀ p : Fin 9, ∀ s : Fin 1024, (nI p.1 <<< ((10 : Int32) &&& 31)) ||| nI s.1 = nI (1024 * p.1 + s.1) := by decide +kernel
theorem idx_e {p s : Nat} (hp : p ≤ 8) (hs : s < 1024) : (nI p <<< ((10 : Int32) &&& 31)) ||| nI s = nI (1024 * p + s) := idx_all ⟨p, by omega⟩ ⟨s, hs⟩
theorem orb_all : ∀ r : Fin 10, ∀ s : Fin 1024, nI s.1 ||| bitI r.1 = nI (s.1 ||| 2 ^ r.1) := by decide +kernel
theorem or_bit {s r : Nat} (hr : r < 10) (hs : s < 1024) : nI s ||| bitI r = nI (s ||| 2 ^ r) := orb_all ⟨r, hr⟩ ⟨s, hs⟩
theorem or_lt {s r n : Nat} (hr : r < n) (hs : s < 2 ^ n) : s ||| 2 ^ r < 2 ^ n := Nat.or_lt_two_pow hs (Nat.pow_lt_pow_right (by decide) hr)
theorem or_idx {p s r n : Nat} (hp : p ≤ 8) (hn : n ≤ 10) (hr : r < n) (hs : s < 2 ^ n) : ((nI p <<< ((10 : Int32) &&& 31)) ||| nI s) ||| bitI r = nI (1024 * p + (s ||| 2 ^ r)) := by
  have h1 : 2 ^ n ≤ 1024 := Nat.pow_le_pow_right (n := 2) (by decide) (show n ≤ 10 by omega)
  have h2 := or_lt hr hs
  rw [Int32.or_assoc, or_bit (by omega) (by omega), idx_e hp (by omega)]
theorem dec_e (p : Nat) : nI p + Int32.ofInt (-1) = nI p - 1 := by rw [Int32.sub_eq_add_neg]; rfl
theorem max_nI {a b : Nat} (ha : a < 2 ^ 31) (hb : b < 2 ^ 31) : (if nI a < nI b then nI b else nI a) = nI (max a b) := by
  by_cases q : a < b
  · rw [if_pos ((nI_ltI ha hb).mpr q), Nat.max_eq_right (by omega)]
  · rw [if_neg (fun w => q ((nI_ltI ha hb).mp w)), Nat.max_eq_left (by omega)]
theorem mxF_y {q : Nat → Bool} {f : Nat → Nat} {b r : Nat} (h : q r = true) : mxF q f b (r + 1) = max (mxF q f b r) (f r) := if_pos h
theorem mxF_n {q : Nat → Bool} {f : Nat → Nat} {b r : Nat} (h : ¬ q r = true) : mxF q f b (r + 1) = mxF q f b r := if_neg h
theorem mxF_le {q : Nat → Bool} {f : Nat → Nat} {b c : Nat} (hb : b ≤ c) (hf : ∀ r, f r ≤ c) : ∀ n, mxF q f b n ≤ c
  | 0 => hb
  | n + 1 => by
    have ih := mxF_le (q := q) hb hf n
    by_cases e : q n = true
    · rw [mxF_y e]; exact Nat.max_le.mpr ⟨ih, hf n⟩
    · rw [mxF_n e]; exact ih
theorem fstF_y {P : Nat → Bool} {m r : Nat} (h : P r = true) : fstF P (m + 1) r = r := if_pos h
theorem fstF_n {P : Nat → Bool} {m r : Nat} (h : ¬ P r = true) : fstF P (m + 1) r = fstF P m (r + 1) := if_neg h
/-- all but what the search for the best writes -/
def kE (W W' : mV) : Prop := ∀ r, ¬ r = 19 → ¬ r = 20 → ¬ r = 21 → W' r = W r
theorem kE.rf {W : mV} : kE W W := fun _ _ _ _ => rfl
theorem kE.sv {W W' : mV} {r j : Nat} {y : Int32} (h : kE W W') (hr : r = 19 ∨ r = 20 ∨ r = 21) : kE W (sv W' r j y) := fun q a b c => by rw [sv_ne (by omega)]; exact h q a b c
theorem HZ.kE {g : HD} {W W' : mV} {R : Nat → Int32} (hz : HZ g W 0 R) (h : kE W W') : HZ g W' 0 R := by
  have e1 : W' (100 + 0) = W (100 + 0) := h _ (by decide) (by decide) (by decide)
  have e2 : W' (200 + 0) = W (200 + 0) := h _ (by decide) (by decide) (by decide)
  have e3 : W' (300 + 0) = W (300 + 0) := h _ (by decide) (by decide) (by decide)
  have e4 : W' (400 + 0) = W (400 + 0) := h _ (by decide) (by decide) (by decide)
  unfold HZ
  rw [e1, e2, e3, e4]
  exact hz
/-- whom each pilgrim could be cured by -/
abbrev abV (V : mV) (g : HD) : Nat → Int32 := abI (mlaw V) (gD g) (gR g) (V 31)
def cuT (V : mV) (g : HD) (W : mV) (p : Nat) : Prop := ∀ j, j < p → W 21 j = abV V g j
def moT (V : mV) (g : HD) (W : mV) (p : Nat) : Prop := ∀ q, p ≤ q → q ≤ gP g → ∀ s, s < 2 ^ gR g → W 19 (1024 * q + s) = nI (moF (abV V g) (gR g) (gP g - q) q (nI s))
def mtC (ac : Nat → Nat) (V W : mV) (g : HD) (h : jH) : jR → jH → Prop := fun r h' => r = .inl none ∧ ∃ W', InvC ac W' g (mlaw V) h' ∧ cFr h h' ∧ kE W W' ∧ moT V g W' 0 ∧ ∀ j, j < gP g → W' 20 j = ptF (abV V g) (gR g) (gP g) 0 0 j
theorem cuT.up {V : mV} {g : HD} {W : mV} {p : Nat} (h : cuT V g W p) (e : W 21 p = abV V g p) : cuT V g W (p + 1) := fun j hj => by
  by_cases q : j = p
  · rw [q]; exact e
  · exact h j (by omega)
theorem cuT.sv {V : mV} {g : HD} {W : mV} {p r j : Nat} {y : Int32} (h : cuT V g W p) (hr : r ≠ 21 ∨ p ≤ j) : cuT V g (sv W r j y) p := fun q hq => by
  by_cases e : r = 21
  · subst e
    rw [sv_nj (by omega)]
    exact h q hq
  · rw [sv_ne (fun w => e w.symm)]
    exact h q hq
theorem moT.sv {V : mV} {g : HD} {W : mV} {p r j : Nat} {y : Int32} (h : moT V g W p) (hr : r ≠ 19) : moT V g (sv W r j y) p := fun q a b s c => by
  rw [sv_ne (fun w => hr w.symm)]
  exact h q a b s c
section
variable {E : jE} {d : Nat} {h : jH} {ac : Nat → Nat} {W V : mV} {g : HD}
set_option maxHeartbeats 2000000 in
theorem l_kmt1 {bc bs p : Nat} {Q : jR → jH → Prop} {h0 : jH} {x : Int32} (hd : 620 ≤ d) (hb : HB (V 31)) (hz : HZ g W 0 (V 31)) (hp : p < gP g) : ∀ (m r : Nat) (h : jH) (W' : mV), gR g - r = m → r ≤ gR g → InvC ac W' g (mlaw V) h → cFr h0 h → kE W W' → cuT V g W' p → W' 21 p = bitsI (fun r => ccI (mlaw V) (gD g) (gR g) (V 31) r p) r → (∀ (h : jH) (W' : mV), InvC ac W' g (mlaw V) h → cFr h0 h → kE W W' → cuT V g W' (p + 1) → G E d bc bs mX1_findMatch 68 [some (vR (nC ac 1)), some (vI x), some (vI (nI p)), some (vI (nI (gR g))), none, none] [] h Q) → G E d bc bs mX1_findMatch 26 [some (vR (nC ac 1)), some (vI x), some (vI (nI p)), some (vI (nI r)), none, none] [] h Q := by
  intro m
  induction m with
  | zero =>
    intro r h W' hm hr hI hF he hc h21 kk
    have e : r = gR g := by omega
    subst e
    have b8 := hI.2.2.2.2.1.2.2.2.2.2.2.2.1
    have b10 := hI.2.2.2.2.1.2.2.2.2.2.2.2.2.1
    have bP := hI.2.2.2.2.1.2.2.2.2.2.2.2.2.2.1
    have hN : 2 ^ gR g ≤ 1024 := Nat.pow_le_pow_right (n := 2) (by decide) (show gR g ≤ 10 by omega)
    refine g_iload_n (pc := 26) dX1_findMatch_26 rfl ?_
    refine g_aload_n (pc := 27) dX1_findMatch_27 rfl ?_
    refine g_cV (pc := 28) (M' := mX1_relics) (as := []) (ci := 1) rfl i_X1_165_1 eX1_relics dX1_findMatch_28 hI.1 (k_relics (by omega) hI) (by omega) rfl rfl (Nat.le_of_ble_eq_true rfl) ?_
    refine g_icmp_ge (pc := 31) 68 dX1_findMatch_31 (by decide) (fun c_31 => ?_) (fun c_31 => absurd (nI_le (Nat.le_refl _) (by omega)) c_31)
    exact kk h W' hI hF he (hc.up h21)
  | succ m ih =>
    intro r h W' hm hr hI hF he hc h21 kk
    have b8 := hI.2.2.2.2.1.2.2.2.2.2.2.2.1
    have b10 := hI.2.2.2.2.1.2.2.2.2.2.2.2.2.1
    have bP := hI.2.2.2.2.1.2.2.2.2.2.2.2.2.2.1
    have hN : 2 ^ gR g ≤ 1024 := Nat.pow_le_pow_right (n := 2) (by decide) (show gR g ≤ 10 by omega)
    refine g_iload_n (pc := 26) dX1_findMatch_26 rfl ?_
    refine g_aload_n (pc := 27) dX1_findMatch_27 rfl ?_
    refine g_cV (pc := 28) (M' := mX1_relics) (as := []) (ci := 1) rfl i_X1_165_1 eX1_relics dX1_findMatch_28 hI.1 (k_relics (by omega) hI) (by omega) rfl rfl (Nat.le_of_ble_eq_true rfl) ?_
    refine g_icmp_ge (pc := 31) 68 dX1_findMatch_31 (by decide) (fun c_31 => absurd c_31 (by intro w; have := (nI_leI (by omega) (by omega)).mp w; omega)) (fun c_31 => ?_)
    refine g_aload_n (pc := 34) dX1_findMatch_34 rfl ?_
    refine g_getfield (pc := 35) f_X1_92_1 dX1_findMatch_35 hI.1 rfl ?_
    refine g_iload_n (pc := 38) dX1_findMatch_38 rfl ?_
    refine g_dup2 (pc := 39) dX1_findMatch_39 rfl rfl ?_
    refine g_iaload (pc := 40) dX1_findMatch_40 hI.s31 (j := p) rfl (by omega) (by first | decide | omega) rfl ?_
    rw [h21]
    refine g_aload_n (pc := 41) dX1_findMatch_41 rfl ?_
    refine g_getfield (pc := 42) f_X1_58_1 dX1_findMatch_42 hI.1 rfl ?_
    refine g_iload_n (pc := 45) dX1_findMatch_45 rfl ?_
    refine g_iload_n (pc := 46) dX1_findMatch_46 rfl ?_
    refine c_cV (pc := 47) (M' := mX10_canCure) (as := [_, _]) (ci := 10) rfl i_X1_338_10 eX10_canCure dX1_findMatch_47 (hI.2.2.2.1 0 liv0).1 (k_canCure (by omega) hI liv0 (hz.kE he) hb r p (by omega) hp) (by omega) rfl rfl (Nat.le_of_ble_eq_true rfl) (fun h hI fr => ?_)
    replace hF := cFr.tr hF fr
    refine g_ifB_eq (pc := 50) 59 dX1_findMatch_50 (by decide) (fun c_50 => ?_) (fun c_50 => ?_)
    · refine g_iconst (pc := 59) (v := 0) dX1_findMatch_59 (by decide) ?_
      refine g_ior (pc := 60) dX1_findMatch_60 ?_
      refine c_rast (pc := 61) (k := 21) (n := 8) hI rfl (by decide) dX1_findMatch_61 (j := p) rfl (by omega) (by decide) (fun h hI fr => ?_)
      replace hF := cFr.tr hF fr
      refine g_iinc (pc := 62) (ls' := [_, _, _, _, _, _]) dX1_findMatch_62 rfl (by first | exact nI_1 _ | exact rfl) (by decide) rfl rfl ?_
      refine g_goto (pc := 65) 26 dX1_findMatch_65 (by decide) ?_
      have e := @bits_n (fun r => ccI (mlaw V) (gD g) (gR g) (V 31) r p) r (by show ¬ ccI (mlaw V) (gD g) (gR g) (V 31) r p = true; rw [c_50]; decide)
      exact ih (r + 1) h _ (by omega) (by omega) hI hF (he.sv (by omega)) (hc.sv (Or.inr (Nat.le_refl _))) (by rw [sv_same, e] <;> rfl) kk
    · refine g_iconst (pc := 53) (v := 1) dX1_findMatch_53 (by decide) ?_
      refine g_iload_n (pc := 54) dX1_findMatch_54 rfl ?_
      refine g_ishl (pc := 55) dX1_findMatch_55 ?_
      refine g_goto (pc := 56) 60 dX1_findMatch_56 (by decide) ?_
      refine g_ior (pc := 60) dX1_findMatch_60 ?_
      refine c_rast (pc := 61) (k := 21) (n := 8) hI rfl (by decide) dX1_findMatch_61 (j := p) rfl (by omega) (by decide) (fun h hI fr => ?_)
      replace hF := cFr.tr hF fr
      refine g_iinc (pc := 62) (ls' := [_, _, _, _, _, _]) dX1_findMatch_62 rfl (by first | exact nI_1 _ | exact rfl) (by decide) rfl rfl ?_
      refine g_goto (pc := 65) 26 dX1_findMatch_65 (by decide) ?_
      have e := @bits_y (fun r => ccI (mlaw V) (gD g) (gR g) (V 31) r p) r c_50
      exact ih (r + 1) h _ (by omega) (by omega) hI hF (he.sv (by omega)) (hc.sv (Or.inr (Nat.le_refl _))) (by rw [sv_same, e] <;> rfl) kk
set_option maxHeartbeats 2000000 in
theorem l_kmt2 {bc bs : Nat} {Q : jR → jH → Prop} {h0 : jH} {x : Int32} (hd : 620 ≤ d) (hb : HB (V 31)) (hz : HZ g W 0 (V 31)) : ∀ (m r : Nat) (h : jH) (W' : mV) (u : Option jV), gP g - r = m → r ≤ gP g → InvC ac W' g (mlaw V) h → cFr h0 h → kE W W' → cuT V g W' r → (∀ (h : jH) (W' : mV) (u : Option jV), InvC ac W' g (mlaw V) h → cFr h0 h → kE W W' → cuT V g W' (gP g) → G E d bc bs mX1_findMatch 74 [some (vR (nC ac 1)), some (vI x), some (vI (nI (gP g))), u, none, none] [] h Q) → G E d bc bs mX1_findMatch 9 [some (vR (nC ac 1)), some (vI x), some (vI (nI r)), u, none, none] [] h Q := by
  intro m
  induction m with
  | zero =>
    intro r h W' u hm hr hI hF he hc kk
    have e : r = gP g := by omega
    subst e
    have b8 := hI.2.2.2.2.1.2.2.2.2.2.2.2.1
    have b10 := hI.2.2.2.2.1.2.2.2.2.2.2.2.2.1
    have bP := hI.2.2.2.2.1.2.2.2.2.2.2.2.2.2.1
    have hN : 2 ^ gR g ≤ 1024 := Nat.pow_le_pow_right (n := 2) (by decide) (show gR g ≤ 10 by omega)
    refine g_iload_n (pc := 9) dX1_findMatch_9 rfl ?_
    refine g_aload_n (pc := 10) dX1_findMatch_10 rfl ?_
    refine g_cV (pc := 11) (M' := mX1_pilgrims) (as := []) (ci := 1) rfl i_X1_167_1 eX1_pilgrims dX1_findMatch_11 hI.1 (k_pilgrims (by omega) hI) (by omega) rfl rfl (Nat.le_of_ble_eq_true rfl) ?_
    refine g_icmp_ge (pc := 14) 74 dX1_findMatch_14 (by decide) (fun c_14 => ?_) (fun c_14 => absurd (nI_le (Nat.le_refl _) (by omega)) c_14)
    exact kk h W' u hI hF he hc
  | succ m ih =>
    intro r h W' u hm hr hI hF he hc kk
    have b8 := hI.2.2.2.2.1.2.2.2.2.2.2.2.1
    have b10 := hI.2.2.2.2.1.2.2.2.2.2.2.2.2.1
    have bP := hI.2.2.2.2.1.2.2.2.2.2.2.2.2.2.1
    have hN : 2 ^ gR g ≤ 1024 := Nat.pow_le_pow_right (n := 2) (by decide) (show gR g ≤ 10 by omega)
    refine g_iload_n (pc := 9) dX1_findMatch_9 rfl ?_
    refine g_aload_n (pc := 10) dX1_findMatch_10 rfl ?_
    refine g_cV (pc := 11) (M' := mX1_pilgrims) (as := []) (ci := 1) rfl i_X1_167_1 eX1_pilgrims dX1_findMatch_11 hI.1 (k_pilgrims (by omega) hI) (by omega) rfl rfl (Nat.le_of_ble_eq_true rfl) ?_
    refine g_icmp_ge (pc := 14) 74 dX1_findMatch_14 (by decide) (fun c_14 => absurd c_14 (by intro w; have := (nI_leI (by omega) (by omega)).mp w; omega)) (fun c_14 => ?_)
    refine g_aload_n (pc := 17) dX1_findMatch_17 rfl ?_
    refine g_getfield (pc := 18) f_X1_92_1 dX1_findMatch_18 hI.1 rfl ?_
    refine g_iload_n (pc := 21) dX1_findMatch_21 rfl ?_
    refine g_iconst (pc := 22) (v := 0) dX1_findMatch_22 (by decide) ?_
    refine c_rast (pc := 23) (k := 21) (n := 8) hI rfl (by decide) dX1_findMatch_23 (j := r) rfl (by omega) (by decide) (fun h hI fr => ?_)
    replace hF := cFr.tr hF fr
    refine g_iconst (pc := 24) (v := 0) dX1_findMatch_24 (by decide) ?_
    refine g_istore_n (pc := 25) (ls' := [_, _, _, _, _, _]) dX1_findMatch_25 (by decide) rfl rfl ?_
    refine l_kmt1 (by omega) hb hz (show r < gP g by omega) (gR g) 0 h _ rfl (Nat.zero_le _) hI hF (he.sv (by omega)) (hc.sv (Or.inr (Nat.le_refl _))) (by rw [sv_same]; rfl) (fun h W' hI hF he hc => ?_)
    refine g_iinc (pc := 68) (ls' := [_, _, _, _, _, _]) dX1_findMatch_68 rfl (by first | exact nI_1 _ | exact rfl) (by decide) rfl rfl ?_
    refine g_goto (pc := 71) 9 dX1_findMatch_71 (by decide) ?_
    exact ih (r + 1) h W' _ (by omega) (by omega) hI hF he hc kk
set_option maxHeartbeats 2000000 in
theorem l_kmt3 {bc bs : Nat} {Q : jR → jH → Prop} {h0 : jH} {u : Option jV} (hd : 620 ≤ d) : ∀ (m r : Nat) (h : jH) (W' : mV), 2 ^ gR g - r = m → r ≤ 2 ^ gR g → InvC ac W' g (mlaw V) h → cFr h0 h → kE W W' → cuT V g W' (gP g) → (∀ s, s < r → W' 19 (1024 * gP g + s) = 0) → (∀ (h : jH) (W' : mV), InvC ac W' g (mlaw V) h → cFr h0 h → kE W W' → cuT V g W' (gP g) → moT V g W' (gP g) → G E d bc bs mX1_findMatch 102 [some (vR (nC ac 1)), some (vI (nI (2 ^ gR g))), some (vI (nI (2 ^ gR g))), u, none, none] [] h Q) → G E d bc bs mX1_findMatch 76 [some (vR (nC ac 1)), some (vI (nI (2 ^ gR g))), some (vI (nI r)), u, none, none] [] h Q := by
  intro m
  induction m with
  | zero =>
    intro r h W' hm hr hI hF he hc h19 kk
    have e : r = 2 ^ gR g := by omega
    subst e
    have b8 := hI.2.2.2.2.1.2.2.2.2.2.2.2.1
    have b10 := hI.2.2.2.2.1.2.2.2.2.2.2.2.2.1
    have bP := hI.2.2.2.2.1.2.2.2.2.2.2.2.2.2.1
    have hN : 2 ^ gR g ≤ 1024 := Nat.pow_le_pow_right (n := 2) (by decide) (show gR g ≤ 10 by omega)
    refine g_iload_n (pc := 76) dX1_findMatch_76 rfl ?_
    refine g_iload_n (pc := 77) dX1_findMatch_77 rfl ?_
    refine g_icmp_ge (pc := 78) 102 dX1_findMatch_78 (by decide) (fun c_78 => ?_) (fun c_78 => absurd (nI_le (Nat.le_refl _) (by omega)) c_78)
    refine kk h W' hI hF he hc (fun q a b s c => ?_)
    have e9 : q = gP g := by omega
    subst e9
    rw [h19 s (by omega), Nat.sub_self]
    rfl
  | succ m ih =>
    intro r h W' hm hr hI hF he hc h19 kk
    have b8 := hI.2.2.2.2.1.2.2.2.2.2.2.2.1
    have b10 := hI.2.2.2.2.1.2.2.2.2.2.2.2.2.1
    have bP := hI.2.2.2.2.1.2.2.2.2.2.2.2.2.2.1
    have hN : 2 ^ gR g ≤ 1024 := Nat.pow_le_pow_right (n := 2) (by decide) (show gR g ≤ 10 by omega)
    refine g_iload_n (pc := 76) dX1_findMatch_76 rfl ?_
    refine g_iload_n (pc := 77) dX1_findMatch_77 rfl ?_
    refine g_icmp_ge (pc := 78) 102 dX1_findMatch_78 (by decide) (fun c_78 => absurd c_78 (by intro w; have := (nI_leI (by omega) (by omega)).mp w; omega)) (fun c_78 => ?_)
    refine g_aload_n (pc := 81) dX1_findMatch_81 rfl ?_
    refine g_getfield (pc := 82) f_X1_86_1 dX1_findMatch_82 hI.1 rfl ?_
    refine g_aload_n (pc := 85) dX1_findMatch_85 rfl ?_
    refine g_cV (pc := 86) (M' := mX1_pilgrims) (as := []) (ci := 1) rfl i_X1_167_1 eX1_pilgrims dX1_findMatch_86 hI.1 (k_pilgrims (by omega) hI) (by omega) rfl rfl (Nat.le_of_ble_eq_true rfl) ?_
    refine g_bipush (pc := 89) (v := 10) dX1_findMatch_89 (by decide) ?_
    refine g_ishl (pc := 91) dX1_findMatch_91 ?_
    refine g_iload_n (pc := 92) dX1_findMatch_92 rfl ?_
    refine g_ior (pc := 93) dX1_findMatch_93 ?_
    refine g_iconst (pc := 94) (v := 0) dX1_findMatch_94 (by decide) ?_
    rw [idx_e bP (show r < 1024 by omega)]
    refine c_rast (pc := 95) (k := 19) (n := 9216) hI rfl (by decide) dX1_findMatch_95 (j := 1024 * gP g + r) rfl (by omega) (by decide) (fun h hI fr => ?_)
    replace hF := cFr.tr hF fr
    refine g_iinc (pc := 96) (ls' := [_, _, _, _, _, _]) dX1_findMatch_96 rfl (by first | exact nI_1 _ | exact rfl) (by decide) rfl rfl ?_
    refine g_goto (pc := 99) 76 dX1_findMatch_99 (by decide) ?_
    exact ih (r + 1) h _ (by omega) (by omega) hI hF (he.sv (by omega)) (hc.sv (Or.inl (by decide))) (fun s hs => by
      by_cases w : s = r
      · rw [w, sv_same]
      · rw [sv_nj (by omega)]; exact h19 s (by omega)) kk
set_option maxHeartbeats 2000000 in
theorem l_kmt4 {bc bs p k s : Nat} {Q : jR → jH → Prop} {h : jH} {W' : mV} {x : Int32} (hd : 620 ≤ d) (hI : InvC ac W' g (mlaw V) h) (hp : p + 1 + k = gP g) (hs : s < 2 ^ gR g) (hc : cuT V g W' (gP g)) (hm9 : moT V g W' (p + 1)) : ∀ (m r : Nat), gR g - r = m → r ≤ gR g → G E d bc bs mX1_findMatch 203 [some (vR (nC ac 1)), some (vI x), some (vI (nI p)), some (vI (nI s)), some (vI (nI (mxF (freeB (abV V g) p (nI s)) (fun r => 1 + moF (abV V g) (gR g) k (p + 1) (nI s ||| bitI r)) (moF (abV V g) (gR g) k (p + 1) (nI s)) (gR g)))), some (vI (nI (gR g)))] [] h Q → G E d bc bs mX1_findMatch 138 [some (vR (nC ac 1)), some (vI x), some (vI (nI p)), some (vI (nI s)), some (vI (nI (mxF (freeB (abV V g) p (nI s)) (fun r => 1 + moF (abV V g) (gR g) k (p + 1) (nI s ||| bitI r)) (moF (abV V g) (gR g) k (p + 1) (nI s)) r))), some (vI (nI r))] [] h Q := by
  intro m
  induction m with
  | zero =>
    intro r hm hr kk
    have e : r = gR g := by omega
    subst e
    have b8 := hI.2.2.2.2.1.2.2.2.2.2.2.2.1
    have b10 := hI.2.2.2.2.1.2.2.2.2.2.2.2.2.1
    have bP := hI.2.2.2.2.1.2.2.2.2.2.2.2.2.2.1
    have hN : 2 ^ gR g ≤ 1024 := Nat.pow_le_pow_right (n := 2) (by decide) (show gR g ≤ 10 by omega)
    refine g_iload (pc := 138) dX1_findMatch_138 rfl ?_
    refine g_aload_n (pc := 140) dX1_findMatch_140 rfl ?_
    refine g_cV (pc := 141) (M' := mX1_relics) (as := []) (ci := 1) rfl i_X1_165_1 eX1_relics dX1_findMatch_141 hI.1 (k_relics (by omega) hI) (by omega) rfl rfl (Nat.le_of_ble_eq_true rfl) ?_
    refine g_icmp_ge (pc := 144) 203 dX1_findMatch_144 (by decide) (fun c_144 => ?_) (fun c_144 => absurd (nI_le (Nat.le_refl _) (by omega)) c_144)
    exact kk
  | succ m ih =>
    intro r hm hr kk
    have b8 := hI.2.2.2.2.1.2.2.2.2.2.2.2.1
    have b10 := hI.2.2.2.2.1.2.2.2.2.2.2.2.2.1
    have bP := hI.2.2.2.2.1.2.2.2.2.2.2.2.2.2.1
    have hN : 2 ^ gR g ≤ 1024 := Nat.pow_le_pow_right (n := 2) (by decide) (show gR g ≤ 10 by omega)
    refine g_iload (pc := 138) dX1_findMatch_138 rfl ?_
    refine g_aload_n (pc := 140) dX1_findMatch_140 rfl ?_
    refine g_cV (pc := 141) (M' := mX1_relics) (as := []) (ci := 1) rfl i_X1_165_1 eX1_relics dX1_findMatch_141 hI.1 (k_relics (by omega) hI) (by omega) rfl rfl (Nat.le_of_ble_eq_true rfl) ?_
    refine g_icmp_ge (pc := 144) 203 dX1_findMatch_144 (by decide) (fun c_144 => absurd c_144 (by intro w; have := (nI_leI (by omega) (by omega)).mp w; omega)) (fun c_144 => ?_)
    refine g_iload_n (pc := 147) dX1_findMatch_147 rfl ?_
    refine g_iload (pc := 148) dX1_findMatch_148 rfl ?_
    refine g_cS (pc := 150) (M' := mX1_has) (as := [_, _]) i_X1_350 eX1_has dX1_findMatch_150 (k_has _ _) (by omega) rfl rfl (Nat.le_of_ble_eq_true rfl) ?_
    refine g_ifB_ne (pc := 153) 197 dX1_findMatch_153 (by decide) (fun c_153 => ?_) (fun c_153 => ?_)
    · refine g_iinc (pc := 197) (ls' := [_, _, _, _, _, _]) dX1_findMatch_197 rfl (by first | exact nI_1 _ | exact rfl) (by decide) rfl rfl ?_
      refine g_goto (pc := 200) 138 dX1_findMatch_200 (by decide) ?_
      have q := ih (r + 1) (by omega) (by omega) kk
      rw [mxF_n (q := (freeB (abV V g) p (nI s))) (f := (fun r => 1 + moF (abV V g) (gR g) k (p + 1) (nI s ||| bitI r))) (b := (moF (abV V g) (gR g) k (p + 1) (nI s))) (r := r) (by unfold freeB; rw [c_153]; simp)] at q
      exact q
    · refine g_aload_n (pc := 156) dX1_findMatch_156 rfl ?_
      refine g_getfield (pc := 157) f_X1_92_1 dX1_findMatch_157 hI.1 rfl ?_
      refine g_iload_n (pc := 160) dX1_findMatch_160 rfl ?_
      refine g_iaload (pc := 161) dX1_findMatch_161 hI.s31 (j := p) rfl (by omega) (by first | decide | omega) rfl ?_
      rw [hc p (by omega)]
      refine g_iload (pc := 162) dX1_findMatch_162 rfl ?_
      refine g_cS (pc := 164) (M' := mX1_has) (as := [_, _]) i_X1_350 eX1_has dX1_findMatch_164 (k_has _ _) (by omega) rfl rfl (Nat.le_of_ble_eq_true rfl) ?_
      refine g_ifB_eq (pc := 167) 197 dX1_findMatch_167 (by decide) (fun c_167 => ?_) (fun c_167 => ?_)
      · refine g_iinc (pc := 197) (ls' := [_, _, _, _, _, _]) dX1_findMatch_197 rfl (by first | exact nI_1 _ | exact rfl) (by decide) rfl rfl ?_
        refine g_goto (pc := 200) 138 dX1_findMatch_200 (by decide) ?_
        have q := ih (r + 1) (by omega) (by omega) kk
        rw [mxF_n (q := (freeB (abV V g) p (nI s))) (f := (fun r => 1 + moF (abV V g) (gR g) k (p + 1) (nI s ||| bitI r))) (b := (moF (abV V g) (gR g) k (p + 1) (nI s))) (r := r) (by unfold freeB; rw [c_167]; simp)] at q
        exact q
      · refine g_iload (pc := 170) dX1_findMatch_170 rfl ?_
        refine g_iconst (pc := 172) (v := 1) dX1_findMatch_172 (by decide) ?_
        refine g_aload_n (pc := 173) dX1_findMatch_173 rfl ?_
        refine g_getfield (pc := 174) f_X1_86_1 dX1_findMatch_174 hI.1 rfl ?_
        refine g_iload_n (pc := 177) dX1_findMatch_177 rfl ?_
        refine g_iconst (pc := 178) (v := 1) dX1_findMatch_178 (by decide) ?_
        refine g_iadd (pc := 179) dX1_findMatch_179 ?_
        rw [nI_1]
        refine g_bipush (pc := 180) (v := 10) dX1_findMatch_180 (by decide) ?_
        refine g_ishl (pc := 182) dX1_findMatch_182 ?_
        refine g_iload_n (pc := 183) dX1_findMatch_183 rfl ?_
        refine g_ior (pc := 184) dX1_findMatch_184 ?_
        refine g_iconst (pc := 185) (v := 1) dX1_findMatch_185 (by decide) ?_
        refine g_iload (pc := 186) dX1_findMatch_186 rfl ?_
        refine g_ishl (pc := 188) dX1_findMatch_188 ?_
        refine g_ior (pc := 189) dX1_findMatch_189 ?_
        rw [show (1 : Int32) <<< (nI r &&& 31) = bitI r from rfl, or_idx (show p + 1 ≤ 8 by omega) b10 (show r < gR g by omega) hs]
        have hor := or_lt (show r < gR g by omega) hs
        refine g_iaload (pc := 190) dX1_findMatch_190 hI.s29 (j := 1024 * (p + 1) + (s ||| 2 ^ r)) rfl (by omega) (by first | decide | omega) rfl ?_
        rw [hm9 (p + 1) (Nat.le_refl _) (by omega) _ hor, ← or_bit (show r < 10 by omega) (show s < 1024 by omega), show gP g - (p + 1) = k by omega]
        refine g_iadd (pc := 191) dX1_findMatch_191 ?_
        rw [show (1 : Int32) + nI (moF (abV V g) (gR g) k (p + 1) (nI s ||| bitI r)) = nI (1 + moF (abV V g) (gR g) k (p + 1) (nI s ||| bitI r)) from nI_add 1 _]
        refine g_cS (pc := 192) (M' := mJ12_max) (as := [_, _]) i_X1_149 eJ12_max dX1_findMatch_192 (k_max _ _) (by omega) rfl rfl (Nat.le_of_ble_eq_true rfl) ?_
        rw [max_nI (by have := mxF_le (q := (freeB (abV V g) p (nI s))) (f := (fun r => 1 + moF (abV V g) (gR g) k (p + 1) (nI s ||| bitI r))) (b := (moF (abV V g) (gR g) k (p + 1) (nI s))) (c := k + 1) (by have := moF_le (ab := abV V g) (nR := gR g) k (p + 1) (nI s); omega) (fun r => by have := moF_le (ab := abV V g) (nR := gR g) k (p + 1) (nI s ||| bitI r); show 1 + moF (abV V g) (gR g) k (p + 1) (nI s ||| bitI r) ≤ k + 1; omega) r; omega) (by have := moF_le (ab := abV V g) (nR := gR g) k (p + 1) (nI s ||| bitI r); omega)]
        refine g_istore (pc := 195) (ls' := [_, _, _, _, _, _]) dX1_findMatch_195 (by decide) rfl rfl ?_
        refine g_iinc (pc := 197) (ls' := [_, _, _, _, _, _]) dX1_findMatch_197 rfl (by first | exact nI_1 _ | exact rfl) (by decide) rfl rfl ?_
        refine g_goto (pc := 200) 138 dX1_findMatch_200 (by decide) ?_
        have q := ih (r + 1) (by omega) (by omega) kk
        rw [mxF_y (q := (freeB (abV V g) p (nI s))) (f := (fun r => 1 + moF (abV V g) (gR g) k (p + 1) (nI s ||| bitI r))) (b := (moF (abV V g) (gR g) k (p + 1) (nI s))) (r := r) (by unfold freeB; rw [c_153, c_167]; rfl)] at q
        exact q
set_option maxHeartbeats 2000000 in
theorem l_kmt5 {bc bs p k : Nat} {Q : jR → jH → Prop} {h0 : jH} (hd : 620 ≤ d) (hp : p + 1 + k = gP g) : ∀ (m r : Nat) (h : jH) (W' : mV) (u4 u5 : Option jV), 2 ^ gR g - r = m → r ≤ 2 ^ gR g → InvC ac W' g (mlaw V) h → cFr h0 h → kE W W' → cuT V g W' (gP g) → moT V g W' (p + 1) → (∀ s, s < r → W' 19 (1024 * p + s) = nI (moF (abV V g) (gR g) (k + 1) p (nI s))) → (∀ (h : jH) (W' : mV) (u4 u5 : Option jV), InvC ac W' g (mlaw V) h → cFr h0 h → kE W W' → cuT V g W' (gP g) → moT V g W' p → G E d bc bs mX1_findMatch 222 [some (vR (nC ac 1)), some (vI (nI (2 ^ gR g))), some (vI (nI p)), some (vI (nI (2 ^ gR g))), u4, u5] [] h Q) → G E d bc bs mX1_findMatch 115 [some (vR (nC ac 1)), some (vI (nI (2 ^ gR g))), some (vI (nI p)), some (vI (nI r)), u4, u5] [] h Q := by
  intro m
  induction m with
  | zero =>
    intro r h W' u4 u5 hm hr hI hF he hc hmo h19 kk
    have e : r = 2 ^ gR g := by omega
    subst e
    have b8 := hI.2.2.2.2.1.2.2.2.2.2.2.2.1
    have b10 := hI.2.2.2.2.1.2.2.2.2.2.2.2.2.1
    have bP := hI.2.2.2.2.1.2.2.2.2.2.2.2.2.2.1
    have hN : 2 ^ gR g ≤ 1024 := Nat.pow_le_pow_right (n := 2) (by decide) (show gR g ≤ 10 by omega)
    refine g_iload_n (pc := 115) dX1_findMatch_115 rfl ?_
    refine g_iload_n (pc := 116) dX1_findMatch_116 rfl ?_
    refine g_icmp_ge (pc := 117) 222 dX1_findMatch_117 (by decide) (fun c_117 => ?_) (fun c_117 => absurd (nI_le (Nat.le_refl _) (by omega)) c_117)
    refine kk h W' u4 u5 hI hF he hc (fun q a b s c => ?_)
    by_cases w : q = p
    · subst w
      rw [h19 s c, show gP g - q = k + 1 by omega]
    · exact hmo q (by omega) b s c
  | succ m ih =>
    intro r h W' u4 u5 hm hr hI hF he hc hmo h19 kk
    have b8 := hI.2.2.2.2.1.2.2.2.2.2.2.2.1
    have b10 := hI.2.2.2.2.1.2.2.2.2.2.2.2.2.1
    have bP := hI.2.2.2.2.1.2.2.2.2.2.2.2.2.2.1
    have hN : 2 ^ gR g ≤ 1024 := Nat.pow_le_pow_right (n := 2) (by decide) (show gR g ≤ 10 by omega)
    refine g_iload_n (pc := 115) dX1_findMatch_115 rfl ?_
    refine g_iload_n (pc := 116) dX1_findMatch_116 rfl ?_
    refine g_icmp_ge (pc := 117) 222 dX1_findMatch_117 (by decide) (fun c_117 => absurd c_117 (by intro w; have := (nI_leI (by omega) (by omega)).mp w; omega)) (fun c_117 => ?_)
    refine g_aload_n (pc := 120) dX1_findMatch_120 rfl ?_
    refine g_getfield (pc := 121) f_X1_86_1 dX1_findMatch_121 hI.1 rfl ?_
    refine g_iload_n (pc := 124) dX1_findMatch_124 rfl ?_
    refine g_iconst (pc := 125) (v := 1) dX1_findMatch_125 (by decide) ?_
    refine g_iadd (pc := 126) dX1_findMatch_126 ?_
    rw [nI_1]
    refine g_bipush (pc := 127) (v := 10) dX1_findMatch_127 (by decide) ?_
    refine g_ishl (pc := 129) dX1_findMatch_129 ?_
    refine g_iload_n (pc := 130) dX1_findMatch_130 rfl ?_
    refine g_ior (pc := 131) dX1_findMatch_131 ?_
    rw [idx_e (show p + 1 ≤ 8 by omega) (show r < 1024 by omega)]
    refine g_iaload (pc := 132) dX1_findMatch_132 hI.s29 (j := 1024 * (p + 1) + r) rfl (by omega) (by first | decide | omega) rfl ?_
    rw [hmo (p + 1) (Nat.le_refl _) (by omega) r (by omega), show gP g - (p + 1) = k by omega]
    refine g_istore (pc := 133) (ls' := [_, _, _, _, _, _]) dX1_findMatch_133 (by decide) rfl rfl ?_
    refine g_iconst (pc := 135) (v := 0) dX1_findMatch_135 (by decide) ?_
    refine g_istore (pc := 136) (ls' := [_, _, _, _, _, _]) dX1_findMatch_136 (by decide) rfl rfl ?_
    refine l_kmt4 hd hI hp (show r < 2 ^ gR g by omega) hc hmo (gR g) 0 rfl (Nat.zero_le _) ?_
    refine g_aload_n (pc := 203) dX1_findMatch_203 rfl ?_
    refine g_getfield (pc := 204) f_X1_86_1 dX1_findMatch_204 hI.1 rfl ?_
    refine g_iload_n (pc := 207) dX1_findMatch_207 rfl ?_
    refine g_bipush (pc := 208) (v := 10) dX1_findMatch_208 (by decide) ?_
    refine g_ishl (pc := 210) dX1_findMatch_210 ?_
    refine g_iload_n (pc := 211) dX1_findMatch_211 rfl ?_
    refine g_ior (pc := 212) dX1_findMatch_212 ?_
    refine g_iload (pc := 213) dX1_findMatch_213 rfl ?_
    rw [idx_e (show p ≤ 8 by omega) (show r < 1024 by omega)]
    refine c_rast (pc := 215) (k := 19) (n := 9216) hI rfl (by decide) dX1_findMatch_215 (j := 1024 * p + r) rfl (by omega) (by decide) (fun h hI fr => ?_)
    replace hF := cFr.tr hF fr
    refine g_iinc (pc := 216) (ls' := [_, _, _, _, _, _]) dX1_findMatch_216 rfl (by first | exact nI_1 _ | exact rfl) (by decide) rfl rfl ?_
    refine g_goto (pc := 219) 115 dX1_findMatch_219 (by decide) ?_
    refine ih (r + 1) h _ _ _ (by omega) (by omega) hI hF (he.sv (by omega)) (hc.sv (Or.inl (by decide))) (fun q a b s c => ?_) (fun s hs => ?_) kk
    · rw [sv_nj (by omega)]
      exact hmo q a b s c
    · by_cases w : s = r
      · subst w
        rw [sv_same]
        rfl
      · rw [sv_nj (by omega)]
        exact h19 s (by omega)
set_option maxHeartbeats 2000000 in
theorem l_kmt6 {bc bs : Nat} {Q : jR → jH → Prop} {h0 : jH} (hd : 620 ≤ d) : ∀ (k : Nat) (h : jH) (W' : mV) (u3 u4 u5 : Option jV), k ≤ gP g → InvC ac W' g (mlaw V) h → cFr h0 h → kE W W' → cuT V g W' (gP g) → moT V g W' k → (∀ (h : jH) (W' : mV) (u3 u4 u5 : Option jV), InvC ac W' g (mlaw V) h → cFr h0 h → kE W W' → cuT V g W' (gP g) → moT V g W' 0 → G E d bc bs mX1_findMatch 228 [some (vR (nC ac 1)), some (vI (nI (2 ^ gR g))), some (vI (nI 0 - 1)), u3, u4, u5] [] h Q) → G E d bc bs mX1_findMatch 109 [some (vR (nC ac 1)), some (vI (nI (2 ^ gR g))), some (vI (nI k - 1)), u3, u4, u5] [] h Q := by
  intro k
  induction k with
  | zero =>
    intro h W' u3 u4 u5 hk hI hF he hc hmo kk
    refine g_iload_n (pc := 109) dX1_findMatch_109 rfl ?_
    refine g_if_lt (pc := 110) 228 dX1_findMatch_110 (by decide) (fun c_110 => ?_) (fun c_110 => absurd (by decide) c_110)
    exact kk h W' u3 u4 u5 hI hF he hc hmo
  | succ p ih =>
    intro h W' u3 u4 u5 hk hI hF he hc hmo kk
    rw [nI_pred]
    have b8 := hI.2.2.2.2.1.2.2.2.2.2.2.2.1
    have b10 := hI.2.2.2.2.1.2.2.2.2.2.2.2.2.1
    have bP := hI.2.2.2.2.1.2.2.2.2.2.2.2.2.2.1
    have hN : 2 ^ gR g ≤ 1024 := Nat.pow_le_pow_right (n := 2) (by decide) (show gR g ≤ 10 by omega)
    refine g_iload_n (pc := 109) dX1_findMatch_109 rfl ?_
    refine g_if_lt (pc := 110) 228 dX1_findMatch_110 (by decide) (fun c_110 => absurd c_110 (nI_pos (by omega))) (fun c_110 => ?_)
    refine g_iconst (pc := 113) (v := 0) dX1_findMatch_113 (by decide) ?_
    refine g_istore_n (pc := 114) (ls' := [_, _, _, _, _, _]) dX1_findMatch_114 (by decide) rfl rfl ?_
    refine l_kmt5 (k := gP g - (p + 1)) hd (by omega) (2 ^ gR g) 0 h W' _ _ rfl (Nat.zero_le _) hI hF he hc hmo (fun s hs => absurd hs (Nat.not_lt_zero s)) (fun h W' u4 u5 hI hF he hc hmo => ?_)
    refine g_iinc (pc := 222) (ls' := [_, _, _, _, _, _]) dX1_findMatch_222 rfl rfl (by decide) rfl rfl ?_
    refine g_goto (pc := 225) 109 dX1_findMatch_225 (by decide) ?_
    rw [dec_e]
    exact ih h W' _ _ _ (by omega) hI hF he hc hmo kk
set_option maxHeartbeats 2000000 in
theorem l_kmt7 {bc bs p k s : Nat} {Q : jR → jH → Prop} {h : jH} {W' : mV} {x : Int32} (hd : 620 ≤ d) (hI : InvC ac W' g (mlaw V) h) (hp : p + 1 + k = gP g) (hs : s < 2 ^ gR g) (hc : cuT V g W' (gP g)) (hmo : moT V g W' 0) : ∀ (m r : Nat), r + m = gR g → (∀ y : Option jV, G E d bc bs mX1_findMatch 328 [some (vR (nC ac 1)), some (vI x), some (vI (nI s)), some (vI (nI p)), some (vI (chV (gR g) (fstF (chP (abV V g) (gR g) k p (nI s)) m r))), y] [] h Q) → G E d bc bs mX1_findMatch 246 [some (vR (nC ac 1)), some (vI x), some (vI (nI s)), some (vI (nI p)), some (vI (-1)), some (vI (nI r))] [] h Q := by
  intro m
  induction m with
  | zero =>
    intro r hr kk
    have e : r = gR g := by omega
    subst e
    have b8 := hI.2.2.2.2.1.2.2.2.2.2.2.2.1
    have b10 := hI.2.2.2.2.1.2.2.2.2.2.2.2.2.1
    have bP := hI.2.2.2.2.1.2.2.2.2.2.2.2.2.2.1
    have hN : 2 ^ gR g ≤ 1024 := Nat.pow_le_pow_right (n := 2) (by decide) (show gR g ≤ 10 by omega)
    rw [show chV (gR g) (fstF (chP (abV V g) (gR g) k p (nI s)) 0 (gR g)) = -1 from if_neg (Nat.lt_irrefl _)] at kk
    refine g_iload (pc := 246) dX1_findMatch_246 rfl ?_
    refine g_aload_n (pc := 248) dX1_findMatch_248 rfl ?_
    refine g_cV (pc := 249) (M' := mX1_relics) (as := []) (ci := 1) rfl i_X1_165_1 eX1_relics dX1_findMatch_249 hI.1 (k_relics (by omega) hI) (by omega) rfl rfl (Nat.le_of_ble_eq_true rfl) ?_
    refine g_icmp_ge (pc := 252) 328 dX1_findMatch_252 (by decide) (fun c_252 => ?_) (fun c_252 => absurd (nI_le (Nat.le_refl _) (by omega)) c_252)
    exact kk _
  | succ m ih =>
    intro r hr kk
    have b8 := hI.2.2.2.2.1.2.2.2.2.2.2.2.1
    have b10 := hI.2.2.2.2.1.2.2.2.2.2.2.2.2.1
    have bP := hI.2.2.2.2.1.2.2.2.2.2.2.2.2.2.1
    have hN : 2 ^ gR g ≤ 1024 := Nat.pow_le_pow_right (n := 2) (by decide) (show gR g ≤ 10 by omega)
    refine g_iload (pc := 246) dX1_findMatch_246 rfl ?_
    refine g_aload_n (pc := 248) dX1_findMatch_248 rfl ?_
    refine g_cV (pc := 249) (M' := mX1_relics) (as := []) (ci := 1) rfl i_X1_165_1 eX1_relics dX1_findMatch_249 hI.1 (k_relics (by omega) hI) (by omega) rfl rfl (Nat.le_of_ble_eq_true rfl) ?_
    refine g_icmp_ge (pc := 252) 328 dX1_findMatch_252 (by decide) (fun c_252 => absurd c_252 (by intro w; have := (nI_leI (by omega) (by omega)).mp w; omega)) (fun c_252 => ?_)
    refine g_iload (pc := 255) dX1_findMatch_255 rfl ?_
    refine g_iconst (pc := 257) (v := -1) dX1_findMatch_257 (by decide) ?_
    refine g_icmp_ne (pc := 258) 328 dX1_findMatch_258 (by decide) (fun c_258 => absurd rfl c_258) (fun c_258 => ?_)
    refine g_iload_n (pc := 261) dX1_findMatch_261 rfl ?_
    refine g_iload (pc := 262) dX1_findMatch_262 rfl ?_
    refine g_cS (pc := 264) (M' := mX1_has) (as := [_, _]) i_X1_350 eX1_has dX1_findMatch_264 (k_has _ _) (by omega) rfl rfl (Nat.le_of_ble_eq_true rfl) ?_
    refine g_ifB_ne (pc := 267) 322 dX1_findMatch_267 (by decide) (fun c_267 => ?_) (fun c_267 => ?_)
    · refine g_iinc (pc := 322) (ls' := [_, _, _, _, _, _]) dX1_findMatch_322 rfl (by first | exact nI_1 _ | exact rfl) (by decide) rfl rfl ?_
      refine g_goto (pc := 325) 246 dX1_findMatch_325 (by decide) ?_
      rw [fstF_n (P := (chP (abV V g) (gR g) k p (nI s))) (m := m) (r := r) (by unfold chP freeB; rw [c_267]; simp)] at kk
      exact ih (r + 1) (by omega) kk
    · refine g_aload_n (pc := 270) dX1_findMatch_270 rfl ?_
      refine g_getfield (pc := 271) f_X1_92_1 dX1_findMatch_271 hI.1 rfl ?_
      refine g_iload_n (pc := 274) dX1_findMatch_274 rfl ?_
      refine g_iaload (pc := 275) dX1_findMatch_275 hI.s31 (j := p) rfl (by omega) (by first | decide | omega) rfl ?_
      rw [hc p (by omega)]
      refine g_iload (pc := 276) dX1_findMatch_276 rfl ?_
      refine g_cS (pc := 278) (M' := mX1_has) (as := [_, _]) i_X1_350 eX1_has dX1_findMatch_278 (k_has _ _) (by omega) rfl rfl (Nat.le_of_ble_eq_true rfl) ?_
      refine g_ifB_eq (pc := 281) 322 dX1_findMatch_281 (by decide) (fun c_281 => ?_) (fun c_281 => ?_)
      · refine g_iinc (pc := 322) (ls' := [_, _, _, _, _, _]) dX1_findMatch_322 rfl (by first | exact nI_1 _ | exact rfl) (by decide) rfl rfl ?_
        refine g_goto (pc := 325) 246 dX1_findMatch_325 (by decide) ?_
        rw [fstF_n (P := (chP (abV V g) (gR g) k p (nI s))) (m := m) (r := r) (by unfold chP freeB; rw [c_281]; simp)] at kk
        exact ih (r + 1) (by omega) kk
      · refine g_iconst (pc := 284) (v := 1) dX1_findMatch_284 (by decide) ?_
        refine g_aload_n (pc := 285) dX1_findMatch_285 rfl ?_
        refine g_getfield (pc := 286) f_X1_86_1 dX1_findMatch_286 hI.1 rfl ?_
        refine g_iload_n (pc := 289) dX1_findMatch_289 rfl ?_
        refine g_iconst (pc := 290) (v := 1) dX1_findMatch_290 (by decide) ?_
        refine g_iadd (pc := 291) dX1_findMatch_291 ?_
        rw [nI_1]
        refine g_bipush (pc := 292) (v := 10) dX1_findMatch_292 (by decide) ?_
        refine g_ishl (pc := 294) dX1_findMatch_294 ?_
        refine g_iload_n (pc := 295) dX1_findMatch_295 rfl ?_
        refine g_ior (pc := 296) dX1_findMatch_296 ?_
        refine g_iconst (pc := 297) (v := 1) dX1_findMatch_297 (by decide) ?_
        refine g_iload (pc := 298) dX1_findMatch_298 rfl ?_
        refine g_ishl (pc := 300) dX1_findMatch_300 ?_
        refine g_ior (pc := 301) dX1_findMatch_301 ?_
        rw [show (1 : Int32) <<< (nI r &&& 31) = bitI r from rfl, or_idx (show p + 1 ≤ 8 by omega) b10 (show r < gR g by omega) hs]
        have hor := or_lt (show r < gR g by omega) hs
        refine g_iaload (pc := 302) dX1_findMatch_302 hI.s29 (j := 1024 * (p + 1) + (s ||| 2 ^ r)) rfl (by omega) (by first | decide | omega) rfl ?_
        rw [hmo (p + 1) (Nat.zero_le _) (by omega) _ hor, ← or_bit (show r < 10 by omega) (show s < 1024 by omega), show gP g - (p + 1) = k by omega]
        refine g_iadd (pc := 303) dX1_findMatch_303 ?_
        rw [show (1 : Int32) + nI (moF (abV V g) (gR g) k (p + 1) (nI s ||| bitI r)) = nI (1 + moF (abV V g) (gR g) k (p + 1) (nI s ||| bitI r)) from nI_add 1 _]
        refine g_aload_n (pc := 304) dX1_findMatch_304 rfl ?_
        refine g_getfield (pc := 305) f_X1_86_1 dX1_findMatch_305 hI.1 rfl ?_
        refine g_iload_n (pc := 308) dX1_findMatch_308 rfl ?_
        refine g_bipush (pc := 309) (v := 10) dX1_findMatch_309 (by decide) ?_
        refine g_ishl (pc := 311) dX1_findMatch_311 ?_
        refine g_iload_n (pc := 312) dX1_findMatch_312 rfl ?_
        refine g_ior (pc := 313) dX1_findMatch_313 ?_
        rw [idx_e (show p ≤ 8 by omega) (show s < 1024 by omega)]
        refine g_iaload (pc := 314) dX1_findMatch_314 hI.s29 (j := 1024 * p + s) rfl (by omega) (by first | decide | omega) rfl ?_
        rw [hmo p (Nat.zero_le _) (by omega) s hs, show gP g - p = k + 1 by omega]
        refine g_icmp_ne (pc := 315) 322 dX1_findMatch_315 (by decide) (fun c_315 => ?_) (fun c_315 => ?_)
        · refine g_iinc (pc := 322) (ls' := [_, _, _, _, _, _]) dX1_findMatch_322 rfl (by first | exact nI_1 _ | exact rfl) (by decide) rfl rfl ?_
          refine g_goto (pc := 325) 246 dX1_findMatch_325 (by decide) ?_
          rw [fstF_n (P := (chP (abV V g) (gR g) k p (nI s))) (m := m) (r := r) (by unfold chP; rw [decide_eq_false (fun e => c_315 (by rw [e])), Bool.and_false]; decide)] at kk
          exact ih (r + 1) (by omega) kk
        · refine g_iload (pc := 318) dX1_findMatch_318 rfl ?_
          refine g_istore (pc := 320) (ls' := [_, _, _, _, _, _]) dX1_findMatch_320 (by decide) rfl rfl ?_
          refine g_iinc (pc := 322) (ls' := [_, _, _, _, _, _]) dX1_findMatch_322 rfl (by first | exact nI_1 _ | exact rfl) (by decide) rfl rfl ?_
          refine g_goto (pc := 325) 246 dX1_findMatch_325 (by decide) ?_
          rw [fstF_y (P := (chP (abV V g) (gR g) k p (nI s))) (m := m) (r := r) (by unfold chP freeB; rw [c_267, c_281, decide_eq_true ((nI_eq (by have := moF_le (ab := abV V g) (nR := gR g) k (p + 1) (nI s ||| bitI r); omega) (by have := moF_le (ab := abV V g) (nR := gR g) (k + 1) p (nI s); omega)).mp c_315)]; rfl), show chV (gR g) r = nI r from if_pos (by omega)] at kk
          refine g_iload (pc := 246) dX1_findMatch_246 rfl ?_
          refine g_aload_n (pc := 248) dX1_findMatch_248 rfl ?_
          refine g_cV (pc := 249) (M' := mX1_relics) (as := []) (ci := 1) rfl i_X1_165_1 eX1_relics dX1_findMatch_249 hI.1 (k_relics (by omega) hI) (by omega) rfl rfl (Nat.le_of_ble_eq_true rfl) ?_
          refine g_icmp_ge (pc := 252) 328 dX1_findMatch_252 (by decide) (fun c_252 => ?_) (fun c_252 => ?_)
          · exact kk _
          · refine g_iload (pc := 255) dX1_findMatch_255 rfl ?_
            refine g_iconst (pc := 257) (v := -1) dX1_findMatch_257 (by decide) ?_
            refine g_icmp_ne (pc := 258) 328 dX1_findMatch_258 (by decide) (fun c_258 => ?_) (fun c_258 => absurd c_258 (nI_nm (by omega)))
            exact kk _
set_option maxHeartbeats 2000000 in
theorem l_kmt8 {bc bs : Nat} {h0 : jH} {x : Int32} (hd : 620 ≤ d) : ∀ (m p s : Nat) (h : jH) (W' : mV) (u4 u5 : Option jV), p + m = gP g → s < 2 ^ gR g → InvC ac W' g (mlaw V) h → cFr h0 h → kE W W' → cuT V g W' (gP g) → moT V g W' 0 → (∀ j, j < p → W' 20 j = ptF (abV V g) (gR g) (gP g) 0 0 j) → (∀ j, ptF (abV V g) (gR g) (gP g) 0 0 (p + j) = ptF (abV V g) (gR g) m p (nI s) j) → G E d bc bs mX1_findMatch 232 [some (vR (nC ac 1)), some (vI x), some (vI (nI s)), some (vI (nI p)), u4, u5] [] h (mtC ac V W g h0) := by
  intro m
  induction m with
  | zero =>
    intro p s h W' u4 u5 hp hs hI hF he hc hmo h20 hpt
    have e : p = gP g := by omega
    subst e
    have b8 := hI.2.2.2.2.1.2.2.2.2.2.2.2.1
    have b10 := hI.2.2.2.2.1.2.2.2.2.2.2.2.2.1
    have bP := hI.2.2.2.2.1.2.2.2.2.2.2.2.2.2.1
    have hN : 2 ^ gR g ≤ 1024 := Nat.pow_le_pow_right (n := 2) (by decide) (show gR g ≤ 10 by omega)
    refine g_iload_n (pc := 232) dX1_findMatch_232 rfl ?_
    refine g_aload_n (pc := 233) dX1_findMatch_233 rfl ?_
    refine g_cV (pc := 234) (M' := mX1_pilgrims) (as := []) (ci := 1) rfl i_X1_167_1 eX1_pilgrims dX1_findMatch_234 hI.1 (k_pilgrims (by omega) hI) (by omega) rfl rfl (Nat.le_of_ble_eq_true rfl) ?_
    refine g_icmp_ge (pc := 237) 359 dX1_findMatch_237 (by decide) (fun c_237 => ?_) (fun c_237 => absurd (nI_le (Nat.le_refl _) (by omega)) c_237)
    refine g_return (pc := 359) dX1_findMatch_359 rfl ?_
    exact ⟨rfl, W', hI, hF, he, hmo, h20⟩
  | succ k ih =>
    intro p s h W' u4 u5 hp hs hI hF he hc hmo h20 hpt
    have b8 := hI.2.2.2.2.1.2.2.2.2.2.2.2.1
    have b10 := hI.2.2.2.2.1.2.2.2.2.2.2.2.2.1
    have bP := hI.2.2.2.2.1.2.2.2.2.2.2.2.2.2.1
    have hN : 2 ^ gR g ≤ 1024 := Nat.pow_le_pow_right (n := 2) (by decide) (show gR g ≤ 10 by omega)
    refine g_iload_n (pc := 232) dX1_findMatch_232 rfl ?_
    refine g_aload_n (pc := 233) dX1_findMatch_233 rfl ?_
    refine g_cV (pc := 234) (M' := mX1_pilgrims) (as := []) (ci := 1) rfl i_X1_167_1 eX1_pilgrims dX1_findMatch_234 hI.1 (k_pilgrims (by omega) hI) (by omega) rfl rfl (Nat.le_of_ble_eq_true rfl) ?_
    refine g_icmp_ge (pc := 237) 359 dX1_findMatch_237 (by decide) (fun c_237 => absurd c_237 (by intro w; have := (nI_leI (by omega) (by omega)).mp w; omega)) (fun c_237 => ?_)
    refine g_iconst (pc := 240) (v := -1) dX1_findMatch_240 (by decide) ?_
    refine g_istore (pc := 241) (ls' := [_, _, _, _, _, _]) dX1_findMatch_241 (by decide) rfl rfl ?_
    refine g_iconst (pc := 243) (v := 0) dX1_findMatch_243 (by decide) ?_
    refine g_istore (pc := 244) (ls' := [_, _, _, _, _, _]) dX1_findMatch_244 (by decide) rfl rfl ?_
    refine l_kmt7 hd hI (show p + 1 + k = gP g by omega) hs hc hmo (gR g) 0 (Nat.zero_add _) (fun y => ?_)
    have hpt0 := hpt 0
    rw [Nat.add_zero] at hpt0
    have hpt1 : ∀ j, ptF (abV V g) (gR g) (gP g) 0 0 (p + 1 + j) = ptF (abV V g) (gR g) k (p + 1) (chS (gR g) (chN (abV V g) (gR g) k p (nI s)) (nI s)) j := fun j => by rw [show p + 1 + j = p + (j + 1) by omega, hpt (j + 1)]; rfl
    change ptF (abV V g) (gR g) (gP g) 0 0 p = chV (gR g) (chN (abV V g) (gR g) k p (nI s)) at hpt0
    change G E d bc bs mX1_findMatch 328 [_, _, _, _, some (vI (chV (gR g) (chN (abV V g) (gR g) k p (nI s)))), _] [] h _
    generalize chN (abV V g) (gR g) k p (nI s) = c at hpt0 hpt1 ⊢
    refine g_aload_n (pc := 328) dX1_findMatch_328 rfl ?_
    refine g_getfield (pc := 329) f_X1_89_1 dX1_findMatch_329 hI.1 rfl ?_
    refine g_iload_n (pc := 332) dX1_findMatch_332 rfl ?_
    refine g_iload (pc := 333) dX1_findMatch_333 rfl ?_
    refine c_rast (pc := 335) (k := 20) (n := 8) hI rfl (by decide) dX1_findMatch_335 (j := p) rfl (by omega) (by decide) (fun h hI fr => ?_)
    replace hF := cFr.tr hF fr
    refine g_iload_n (pc := 336) dX1_findMatch_336 rfl ?_
    refine g_iload (pc := 337) dX1_findMatch_337 rfl ?_
    refine g_iconst (pc := 339) (v := -1) dX1_findMatch_339 (by decide) ?_
    refine g_icmp_ne (pc := 340) 347 dX1_findMatch_340 (by decide) (fun c_340 => ?_) (fun c_340 => ?_)
    · refine g_iconst (pc := 347) (v := 1) dX1_findMatch_347 (by decide) ?_
      refine g_iload (pc := 348) dX1_findMatch_348 rfl ?_
      refine g_ishl (pc := 350) dX1_findMatch_350 ?_
      refine g_ior (pc := 351) dX1_findMatch_351 ?_
      refine g_istore_n (pc := 352) (ls' := [_, _, _, _, _, _]) dX1_findMatch_352 (by decide) rfl rfl ?_
      refine g_iinc (pc := 353) (ls' := [_, _, _, _, _, _]) dX1_findMatch_353 rfl (by first | exact nI_1 _ | exact rfl) (by decide) rfl rfl ?_
      refine g_goto (pc := 356) 232 dX1_findMatch_356 (by decide) ?_
      have h20' : ∀ j, j < p + 1 → sv W' 20 p (chV (gR g) c) 20 j = ptF (abV V g) (gR g) (gP g) 0 0 j := fun j hj => by
        by_cases w : j = p
        · rw [w, sv_same, hpt0]
        · rw [sv_nj (by omega)]
          exact h20 j (by omega)
      have hcl : c < gR g := by
        by_cases w : c < gR g
        · exact w
        · exact absurd (show chV (gR g) c = -1 from if_neg w) c_340
      rw [show chV (gR g) c = nI c from if_pos hcl] at hI h20' ⊢
      rw [show chS (gR g) c (nI s) = nI (s ||| 2 ^ c) from (if_pos hcl).trans (or_bit (by omega) (by omega))] at hpt1
      rw [show (1 : Int32) <<< (nI c &&& 31) = bitI c from rfl, or_bit (show c < 10 by omega) (show s < 1024 by omega)]
      exact ih (p + 1) _ h _ _ _ (by omega) (or_lt hcl hs) hI hF (he.sv (by omega)) (hc.sv (Or.inl (by decide))) (hmo.sv (by decide)) h20' hpt1
    · refine g_iconst (pc := 343) (v := 0) dX1_findMatch_343 (by decide) ?_
      refine g_goto (pc := 344) 351 dX1_findMatch_344 (by decide) ?_
      refine g_ior (pc := 351) dX1_findMatch_351 ?_
      refine g_istore_n (pc := 352) (ls' := [_, _, _, _, _, _]) dX1_findMatch_352 (by decide) rfl rfl ?_
      refine g_iinc (pc := 353) (ls' := [_, _, _, _, _, _]) dX1_findMatch_353 rfl (by first | exact nI_1 _ | exact rfl) (by decide) rfl rfl ?_
      refine g_goto (pc := 356) 232 dX1_findMatch_356 (by decide) ?_
      have h20' : ∀ j, j < p + 1 → sv W' 20 p (chV (gR g) c) 20 j = ptF (abV V g) (gR g) (gP g) 0 0 j := fun j hj => by
        by_cases w : j = p
        · rw [w, sv_same, hpt0]
        · rw [sv_nj (by omega)]
          exact h20 j (by omega)
      have hcl : ¬ c < gR g := fun w => by
        rw [show chV (gR g) c = nI c from if_pos w] at c_340
        exact nI_nm (by omega) c_340
      rw [show chS (gR g) c (nI s) = nI s from if_neg hcl] at hpt1
      rw [Int32.or_zero]
      exact ih (p + 1) _ h _ _ _ (by omega) hs hI hF (he.sv (by omega)) (hc.sv (Or.inl (by decide))) (hmo.sv (by decide)) h20' hpt1
set_option maxHeartbeats 2000000 in
theorem k_findMatch (hd : 620 ≤ d) (hI : InvC ac W g (mlaw V) h) (hb : HB (V 31)) (hz : HZ g W 0 (V 31)) : Ct E d 0 0 mX1_findMatch [vR (nC ac 1)] h (mtC ac V W g h) := by
  refine ct_of (by decide) (Nat.le_of_ble_eq_true rfl) rfl ?_
  have hF : cFr h h := cFr.rf
  have b8 := hI.2.2.2.2.1.2.2.2.2.2.2.2.1
  have b10 := hI.2.2.2.2.1.2.2.2.2.2.2.2.2.1
  have bP := hI.2.2.2.2.1.2.2.2.2.2.2.2.2.2.1
  refine g_iconst (pc := 0) (v := 1) dX1_findMatch_0 (by decide) ?_
  refine g_aload_n (pc := 1) dX1_findMatch_1 rfl ?_
  refine g_cV (pc := 2) (M' := mX1_relics) (as := []) (ci := 1) rfl i_X1_165_1 eX1_relics dX1_findMatch_2 hI.1 (k_relics (by omega) hI) (by omega) rfl rfl (Nat.le_of_ble_eq_true rfl) ?_
  refine g_ishl (pc := 5) dX1_findMatch_5 ?_
  refine g_istore_n (pc := 6) (ls' := [_, _, _, _, _, _]) dX1_findMatch_6 (by decide) rfl rfl ?_
  refine g_iconst (pc := 7) (v := 0) dX1_findMatch_7 (by decide) ?_
  refine g_istore_n (pc := 8) (ls' := [_, _, _, _, _, _]) dX1_findMatch_8 (by decide) rfl rfl ?_
  rw [show (1 : Int32) <<< (nI (gR g) &&& 31) = bitI (gR g) from rfl, bitI_pow _ b10]
  refine l_kmt2 hd hb hz (gP g) 0 h W _ rfl (Nat.zero_le _) hI hF kE.rf (fun j hj => absurd hj (Nat.not_lt_zero j)) (fun h W' u hI hF he hc => ?_)
  refine g_iconst (pc := 74) (v := 0) dX1_findMatch_74 (by decide) ?_
  refine g_istore_n (pc := 75) (ls' := [_, _, _, _, _, _]) dX1_findMatch_75 (by decide) rfl rfl ?_
  refine l_kmt3 hd (2 ^ gR g) 0 h W' rfl (Nat.zero_le _) hI hF he hc (fun s hs => absurd hs (Nat.not_lt_zero s)) (fun h W' hI hF he hc hmo => ?_)
  refine g_aload_n (pc := 102) dX1_findMatch_102 rfl ?_
  refine g_cV (pc := 103) (M' := mX1_pilgrims) (as := []) (ci := 1) rfl i_X1_167_1 eX1_pilgrims dX1_findMatch_103 hI.1 (k_pilgrims (by omega) hI) (by omega) rfl rfl (Nat.le_of_ble_eq_true rfl) ?_
  refine g_iconst (pc := 106) (v := 1) dX1_findMatch_106 (by decide) ?_
  refine g_isub (pc := 107) dX1_findMatch_107 ?_
  refine g_istore_n (pc := 108) (ls' := [_, _, _, _, _, _]) dX1_findMatch_108 (by decide) rfl rfl ?_
  refine l_kmt6 hd (gP g) h W' _ _ _ (Nat.le_refl _) hI hF he hc hmo (fun h W' u3 u4 u5 hI hF he hc hmo => ?_)
  refine g_iconst (pc := 228) (v := 0) dX1_findMatch_228 (by decide) ?_
  refine g_istore_n (pc := 229) (ls' := [_, _, _, _, _, _]) dX1_findMatch_229 (by decide) rfl rfl ?_
  refine g_iconst (pc := 230) (v := 0) dX1_findMatch_230 (by decide) ?_
  refine g_istore_n (pc := 231) (ls' := [_, _, _, _, _, _]) dX1_findMatch_231 (by decide) rfl rfl ?_
  exact l_kmt8 hd (gP g) 0 0 h W' _ _ (Nat.zero_add _) (Nat.two_pow_pos _) hI hF he hc hmo (fun j hj => absurd hj (Nat.not_lt_zero j)) (fun j => by rw [Nat.zero_add]; rfl)
def mQ20 (ac : Nat → Nat) (V W : mV) (g : HD) (h : jH) (v : Int32) : jR → jH → Prop := fun r h' => r = .inl (some (vI v)) ∧ ∃ W', InvC ac W' g (mlaw V) h' ∧ cFr h h' ∧ kE W W'
set_option maxHeartbeats 2000000 in
theorem k_match (hd : 640 ≤ d) (hI : InvC ac W g (mlaw V) h) (hz : HZ g W 0 (V 31)) (hb : HB (V 31))  : Ct E d 0 0 mX1_match [vR (nC ac 1)] h (mQ20 ac V W g h (nI (moF (abI (mlaw V) (gD g) (gR g) (V 31)) (gR g) (gP g) 0 0))) := by
  refine ct_of (by decide) (Nat.le_of_ble_eq_true rfl) rfl ?_
  have hF : cFr h h := cFr.rf
  have b8 := hI.2.2.2.2.1.2.2.2.2.2.2.2.1
  have b10 := hI.2.2.2.2.1.2.2.2.2.2.2.2.2.1
  have bP := hI.2.2.2.2.1.2.2.2.2.2.2.2.2.2.1
  refine g_aload_n (pc := 0) dX1_match_0 rfl ?_
  refine g_callV (pc := 1) (M' := mX1_findMatch) (as := []) (ci := 1) rfl i_X1_356_1 eX1_findMatch dX1_match_1 hI.1 (k_findMatch (by omega) hI hb hz) (by omega) rfl rfl (Nat.le_of_ble_eq_true rfl) (by omega) (by omega) (fun C9 x9 h9 q9 => ?_) (fun r9 h9 q9 => ?_)
  · cases q9.1
  obtain ⟨e9, W', hI, fr9, he, hmo, h20⟩ := q9
  cases e9
  replace hF := cFr.tr hF fr9
  refine g_aload_n (pc := 4) dX1_match_4 rfl ?_
  refine g_getfield (pc := 5) f_X1_86_1 dX1_match_5 hI.1 rfl ?_
  refine g_iconst (pc := 8) (v := 0) dX1_match_8 (by decide) ?_
  refine g_iaload (pc := 9) dX1_match_9 hI.s29 (j := 0) rfl (by omega) (by first | decide | omega) rfl ?_
  refine g_ireturn (pc := 10) dX1_match_10 rfl (by first | exact rfl | exact j_nb _) ?_
  exact ⟨rv (hmo 0 (Nat.le_refl _) (Nat.zero_le _) 0 (Nat.two_pow_pos _)), W', hI, hF, he⟩
set_option maxHeartbeats 2000000 in
theorem k_matched (hd : 640 ≤ d) (hI : InvC ac W g (mlaw V) h) (hz : HZ g W 0 (V 31)) (hb : HB (V 31)) (p : Nat) (hp : p < gP g) : Ct E d 0 0 mX1_matched [vR (nC ac 1), vI (nI p)] h (mQ20 ac V W g h (ptF (abI (mlaw V) (gD g) (gR g) (V 31)) (gR g) (gP g) 0 0 p)) := by
  refine ct_of (by decide) (Nat.le_of_ble_eq_true rfl) rfl ?_
  have hF : cFr h h := cFr.rf
  have b8 := hI.2.2.2.2.1.2.2.2.2.2.2.2.1
  have b10 := hI.2.2.2.2.1.2.2.2.2.2.2.2.2.1
  have bP := hI.2.2.2.2.1.2.2.2.2.2.2.2.2.2.1
  refine g_aload_n (pc := 0) dX1_matched_0 rfl ?_
  refine g_iload_n (pc := 1) dX1_matched_1 rfl ?_
  refine g_cVv (pc := 2) (M' := mX1_needPilgrim) (as := [_]) (ci := 1) rfl i_X1_320_1 eX1_needPilgrim dX1_matched_2 hI.1 (k_needPT (by omega) hI p hp) (by omega) rfl rfl (Nat.le_of_ble_eq_true rfl) ?_
  refine g_aload_n (pc := 5) dX1_matched_5 rfl ?_
  refine g_callV (pc := 6) (M' := mX1_findMatch) (as := []) (ci := 1) rfl i_X1_356_1 eX1_findMatch dX1_matched_6 hI.1 (k_findMatch (by omega) hI hb hz) (by omega) rfl rfl (Nat.le_of_ble_eq_true rfl) (by omega) (by omega) (fun C9 x9 h9 q9 => ?_) (fun r9 h9 q9 => ?_)
  · cases q9.1
  obtain ⟨e9, W', hI, fr9, he, hmo, h20⟩ := q9
  cases e9
  replace hF := cFr.tr hF fr9
  refine g_aload_n (pc := 9) dX1_matched_9 rfl ?_
  refine g_getfield (pc := 10) f_X1_89_1 dX1_matched_10 hI.1 rfl ?_
  refine g_iload_n (pc := 13) dX1_matched_13 rfl ?_
  refine g_iaload (pc := 14) dX1_matched_14 hI.s30 (j := p) rfl (by omega) (by first | decide | omega) rfl ?_
  refine g_ireturn (pc := 15) dX1_matched_15 rfl (by first | exact rfl | exact j_nb _) ?_
  exact ⟨rv (h20 p hp), W', hI, hF, he⟩
end
section
variable {E : jE} {d : Nat} {h : jH} {ac : Nat → Nat} {W : mV} {g : HD} {F : (Nat → Int32) → Int32}
set_option maxHeartbeats 2000000 in
theorem x_matched (hd : 20 ≤ d) (hI : InvC ac W g F h) (s : Int32) (hv : inR s 0 (nI (gP g) - 1) = false) : Ct E d 1 6 mX1_matched [vR (nC ac 1), vI s] h (cX ac W g F h nmNS 0) := by
  refine ct_of (by decide) (Nat.le_of_ble_eq_true rfl) rfl ?_
  have hF : cFr h h := cFr.rf
  have b8 := hI.2.2.2.2.1.2.2.2.2.2.2.2.1
  have b10 := hI.2.2.2.2.1.2.2.2.2.2.2.2.2.1
  have bP := hI.2.2.2.2.1.2.2.2.2.2.2.2.2.2.1
  refine g_aload_n (pc := 0) dX1_matched_0 rfl ?_
  refine g_iload_n (pc := 1) dX1_matched_1 rfl ?_
  exact c_tV (pc := 2) (M' := mX1_needPilgrim) (as := [_]) (ci := 1) rfl i_X1_320_1 eX1_needPilgrim dX1_matched_2 hI.1 (k_needPF (by omega) hI s hv) (by omega) rfl rfl (Nat.le_of_ble_eq_true rfl) (by decide) hF (by omega) (by omega)
end
