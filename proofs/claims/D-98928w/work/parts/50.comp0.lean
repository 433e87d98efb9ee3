/-! THE COMPONENT: its world -/
set_option maxRecDepth 100000
def nC (ac : Nat → Nat) (k : Nat) : jN := (k, ac k)
theorem nC_1 {ac : Nat → Nat} {k : Nat} : (nC ac k).1 = k := rfl
theorem nC_ne {ac : Nat → Nat} {k j : Nat} (h : k ≠ j) : nC ac k ≠ nC ac j := fun e => h (congrArg Prod.fst e)
/-- W 0 k: its whole numbers by field; W 3, 4, 10, 18, 19, 20, 21, 22: its rows; W 7 i: whether there is a house i; W (100 + i): the house i by field (3 living, 4 used, 5 day, 6 steps, 7 done, 8 refused); W (200 + i), W (300 + i), W (400 + i): its days, lapses, cures -/
def cF (ac : Nat → Nat) (W : mV) : List jV := [vR (nC ac 50), vR (nC ac 80), vR (nC ac 12), vR (nC ac 13), vR (nC ac 14), vR (nC ac 100), vR (nC ac 101), vR (nC ac 17), vR (nC ac 18), vR (nC ac 19), vR (nC ac 20), vI (W 0 11), vI (W 0 12), vI (W 0 13), vI (W 0 14), vI (W 0 15), vI (W 0 16), vI (W 0 17), vR (nC ac 28), vR (nC ac 29), vR (nC ac 30), vR (nC ac 31), vR (nC ac 32), vI (W 0 23), vI (W 0 24)]
def hF (ac : Nat → Nat) (Z : Nat → Int32) (i : Nat) : List jV := [vR (nC ac (200 + i)), vR (nC ac (300 + i)), vR (nC ac (400 + i)), vI (Z 3), vI (Z 4), vI (Z 5), vI (Z 6), vI (Z 7), vI (Z 8), vR (nC ac 1)]
def liv (W : mV) (i : Nat) : Prop := i < 2 ∨ (i < 69 ∧ W 7 i = 1)
theorem liv0 {W : mV} : liv W 0 := Or.inl (by decide)
theorem liv1 {W : mV} : liv W 1 := Or.inl (by decide)
theorem liv.lt {W : mV} {i : Nat} (h : liv W i) : i < 69 := by rcases h with h | h <;> omega
def hs17 (ac : Nat → Nat) (W : mV) (b n : Nat) : Nat → Option jN := fun k => if k < n ∧ W 7 (b + k) = 1 then some (nC ac (100 + (b + k))) else none
/-- terms -/
def isT (h : jH) : Nat → jN → ((Nat → Int32) → Int32) → Prop
  | 0, _, _ => False
  | m + 1, x, F => x.1 = 80 ∧ ((∃ n, h x = some (oO 9 [vI n]) ∧ F = fun _ => n) ∨ (∃ k, k < 8 ∧ h x = some (oO 7 [vI (nI k)]) ∧ F = fun f => f k) ∨
    ∃ a b A B ci, isT h m a A ∧ isT h m b B ∧ h x = some (oO ci [vR a, vR b]) ∧ ((ci = 6 ∧ F = fun f => A f + B f) ∨ (ci = 5 ∧ F = fun f => A f - B f) ∨ (ci = 8 ∧ F = fun f => A f * B f) ∨ (ci = 20 ∧ F = fun f => if B f = 0 then 0 else A f / B f) ∨ (ci = 21 ∧ F = fun f => if B f = 0 then 0 else A f - A f / B f * B f) ∨ (ci = 18 ∧ F = fun f => if A f ≤ B f then A f else B f) ∨ (ci = 19 ∧ F = fun f => if A f ≤ B f then B f else A f)))
theorem isT.mono {h h' : jH} (e : ∀ x o, x.1 = 80 → h x = some o → h' x = some o) : ∀ {m : Nat} {x : jN} {F : (Nat → Int32) → Int32}, isT h m x F → isT h' m x F
  | 0, _, _, q => q
  | m + 1, x, F, q => by
    obtain ⟨r, q⟩ := q
    refine ⟨r, ?_⟩
    rcases q with ⟨n, q1, q2⟩ | ⟨k, q0, q1, q2⟩ | ⟨a, b, A, B, ci, q1, q2, q3, q4⟩
    · exact Or.inl ⟨n, e x _ r q1, q2⟩
    · exact Or.inr (Or.inl ⟨k, q0, e x _ r q1, q2⟩)
    · exact Or.inr (Or.inr ⟨a, b, A, B, ci, isT.mono e q1, isT.mono e q2, e x _ r q3, q4⟩)
/-- more steps do no harm -/
theorem isT.up {h : jH} : ∀ {m : Nat} {x : jN} {F : (Nat → Int32) → Int32}, isT h m x F → isT h (m + 1) x F
  | 0, _, _, q => q.elim
  | m + 1, x, F, q => by
    obtain ⟨r, q⟩ := q
    refine ⟨r, ?_⟩
    rcases q with q | q | ⟨a, b, A, B, ci, q1, q2, q3, q4⟩
    · exact Or.inl q
    · exact Or.inr (Or.inl q)
    · exact Or.inr (Or.inr ⟨a, b, A, B, ci, q1.up, q2.up, q3, q4⟩)
theorem isT.le {h : jH} {m n : Nat} {x : jN} {F : (Nat → Int32) → Int32} (q : isT h m x F) (hm : m ≤ n) : isT h n x F := by
  induction n with
  | zero => rw [Nat.le_zero.mp hm] at q; exact q
  | succ n ih =>
    by_cases e : m = n + 1
    · rw [← e]; exact q
    · exact (ih (by omega)).up
theorem isT.at {h : jH} {m : Nat} {x : jN} {F : (Nat → Int32) → Int32} (q : isT h m x F) : x.1 = 80 ∧ ∃ ci fs, h x = some (oO ci fs) := by
  cases m with
  | zero => exact q.elim
  | succ m =>
    obtain ⟨r, q⟩ := q
    rcases q with ⟨n, q1, q2⟩ | ⟨k, q0, q1, q2⟩ | ⟨a, b, A, B, ci, q1, q2, q3, q4⟩
    · exact ⟨r, _, _, q1⟩
    · exact ⟨r, _, _, q1⟩
    · exact ⟨r, _, _, q3⟩
/-- a list of n things x 0, x 1, .. -/
def liL (h : jH) (l e : jN) (n : Nat) (x : Nat → jN) : Prop := ∃ (mc : Int32) (cap : Nat) (f : Nat → Option jN), h l = some (oO 33 [vI mc, vR e, vI (nI n)]) ∧ h e = some (rA 3 cap f) ∧ n ≤ cap ∧ cap < 2 ^ 20 ∧ ∀ r, r < n → f r = some (x r)
def iTo (ac : Nat → Nat) (g : HD) (h : jH) : Prop := (∃ c, h (nC ac 50) = some (oO 2 [vR (nC ac 51), vR (nC ac 52), vR (nC ac 53), vR (nC ac 54), vI (nI (gS g)), vI c])) ∧ (∃ f, h (nC ac 51) = some (iA 8 f) ∧ ∀ s, s < gS g → f s = nI (gD g 5 s)) ∧ h (nC ac 52) = some (iA 8 (gW g)) ∧
  liL h (nC ac 53) (nC ac 55) (gR g) (fun r => nC ac (60 + r)) ∧ liL h (nC ac 54) (nC ac 56) (gP g) (fun p => nC ac (70 + p)) ∧ (∀ r, r < gR g → h (nC ac (60 + r)) = some (oO 15 [vI (nI (gD g 0 r)), vI (nI (gD g 1 r)), vI (nI (gD g 2 r))])) ∧ (∀ p, p < gP g → h (nC ac (70 + p)) = some (oO 16 [vI (nI (gD g 3 p)), vI (nI (gD g 4 p))])) ∧ okH g
def iHo (ac : Nat → Nat) (W : mV) (h : jH) (i : Nat) : Prop := h (nC ac (100 + i)) = some (oO 10 (hF ac (W (100 + i)) i)) ∧ h (nC ac (200 + i)) = some (iA 10 (W (200 + i))) ∧ h (nC ac (300 + i)) = some (iA 8 (W (300 + i))) ∧ h (nC ac (400 + i)) = some (iA 8 (W (400 + i)))
def iAr (ac : Nat → Nat) (W : mV) (h : jH) : Prop := h (nC ac 13) = some (iA 10 (W 3)) ∧ h (nC ac 14) = some (iA 2 (W 4)) ∧ h (nC ac 20) = some (iA 3 (W 10)) ∧ h (nC ac 28) = some (bA 600 (W 18)) ∧ h (nC ac 17) = some (rA 4 16 (hs17 ac W 2 16)) ∧ h (nC ac 18) = some (rA 4 3 (hs17 ac W 18 3)) ∧ h (nC ac 19) = some (rA 4 48 (hs17 ac W 21 48)) ∧ h (nC ac 29) = some (iA 9216 (W 19)) ∧ h (nC ac 30) = some (iA 8 (W 20)) ∧ h (nC ac 31) = some (iA 8 (W 21)) ∧ h (nC ac 32) = some (iA 100 (W 22))
/-- how long what is forgotten is -/
def scl (k : Nat) : Nat := if k = 12 then 8 else 0
def iSc (ac : Nat → Nat) (h : jH) : Prop := ∀ k, scl k ≠ 0 → ∃ f, h (nC ac k) = some (iA (scl k) f)
def InvC (ac : Nat → Nat) (W : mV) (g : HD) (F : (Nat → Int32) → Int32) (h : jH) : Prop := h (nC ac 1) = some (oO 1 (cF ac W)) ∧ iAr ac W h ∧ iSc ac h ∧ (∀ i, liv W i → iHo ac W h i) ∧ iTo ac g h ∧ isT h 200 (nC ac 80) F
/-- nothing outside the component has changed -/
def cFr (h h' : jH) : Prop := ∀ x : jN, 900 ≤ x.1 → h' x = h x
theorem cFr.rf {h : jH} : cFr h h := fun _ _ => rfl
theorem cFr.tr {h1 h2 h3 : jH} (a : cFr h1 h2) (b : cFr h2 h3) : cFr h1 h3 := fun x hx => (b x hx).trans (a x hx)
theorem cFr.set {h : jH} {x : jN} {o : jO} (hx : x.1 < 900) : cFr h (hs h x o) := fun y hy => hs_ne (fun e => by rw [e] at hy; omega)
theorem scl_k {k : Nat} (h : scl k ≠ 0) : k = 12 := by
  unfold scl at h
  repeat' split at h
  all_goals omega
theorem liL.mono {h h' : jH} {l e : jN} {n : Nat} {x : Nat → jN} (k : liL h l e n x) (h1 : ∀ o, h l = some o → h' l = some o) (h2 : ∀ o, h e = some o → h' e = some o) : liL h' l e n x := by
  obtain ⟨mc, cap, f, q1, q2, q3⟩ := k
  exact ⟨mc, cap, f, h1 _ q1, h2 _ q2, q3⟩
theorem iTo.mono {ac : Nat → Nat} {g : HD} {h h' : jH} (k : iTo ac g h) (e : ∀ x o, 50 ≤ x.1 → x.1 < 80 → h x = some o → h' x = some o) : iTo ac g h' := by
  obtain ⟨⟨c, q1⟩, ⟨f, q2, q3⟩, q4, q5, q6, q7, q8, q9⟩ := k
  have b1 := q9.2.1
  have b2 := q9.2.2.1
  exact ⟨⟨c, e _ _ (Nat.le_of_ble_eq_true rfl) (Nat.le_of_ble_eq_true rfl) q1⟩, ⟨f, e _ _ (Nat.le_of_ble_eq_true rfl) (Nat.le_of_ble_eq_true rfl) q2, q3⟩, e _ _ (Nat.le_of_ble_eq_true rfl) (Nat.le_of_ble_eq_true rfl) q4, q5.mono (fun o w => e _ _ (Nat.le_of_ble_eq_true rfl) (Nat.le_of_ble_eq_true rfl) w) (fun o w => e _ _ (Nat.le_of_ble_eq_true rfl) (Nat.le_of_ble_eq_true rfl) w), q6.mono (fun o w => e _ _ (Nat.le_of_ble_eq_true rfl) (Nat.le_of_ble_eq_true rfl) w) (fun o w => e _ _ (Nat.le_of_ble_eq_true rfl) (Nat.le_of_ble_eq_true rfl) w), fun r hr => e _ _ (by show 50 ≤ 60 + r; omega) (by show 60 + r < 80; omega) (q7 r hr), fun r hr => e _ _ (by show 50 ≤ 70 + r; omega) (by show 70 + r < 80; omega) (q8 r hr), q9⟩
theorem iSc.set {ac : Nat → Nat} {h : jH} {x : jN} {o : jO} (k : iSc ac h) (hx : x.1 ≠ 12) : iSc ac (hs h x o) := fun q hq => by
  have := scl_k hq
  obtain ⟨f, e⟩ := k q hq
  exact ⟨f, by rw [hs_nr (by rw [nC_1]; omega)]; exact e⟩
/-- new things do no harm -/
theorem InvC.ext {ac : Nat → Nat} {W : mV} {g : HD} {F : (Nat → Int32) → Int32} {h h' : jH} (hI : InvC ac W g F h) (e : ∀ x o, 0 < x.1 → x.1 < 900 → h x = some o → h' x = some o) : InvC ac W g F h' := by
  obtain ⟨h1, ⟨a1, a2, a3, a4, a5, a6, a7, a8, a9, a10, a11⟩, h3, h4, h5, h6⟩ := hI
  refine ⟨e _ _ (Nat.le_of_ble_eq_true rfl) (Nat.le_of_ble_eq_true rfl) h1, ⟨e _ _ (Nat.le_of_ble_eq_true rfl) (Nat.le_of_ble_eq_true rfl) a1, e _ _ (Nat.le_of_ble_eq_true rfl) (Nat.le_of_ble_eq_true rfl) a2, e _ _ (Nat.le_of_ble_eq_true rfl) (Nat.le_of_ble_eq_true rfl) a3, e _ _ (Nat.le_of_ble_eq_true rfl) (Nat.le_of_ble_eq_true rfl) a4, e _ _ (Nat.le_of_ble_eq_true rfl) (Nat.le_of_ble_eq_true rfl) a5, e _ _ (Nat.le_of_ble_eq_true rfl) (Nat.le_of_ble_eq_true rfl) a6, e _ _ (Nat.le_of_ble_eq_true rfl) (Nat.le_of_ble_eq_true rfl) a7, e _ _ (Nat.le_of_ble_eq_true rfl) (Nat.le_of_ble_eq_true rfl) a8, e _ _ (Nat.le_of_ble_eq_true rfl) (Nat.le_of_ble_eq_true rfl) a9, e _ _ (Nat.le_of_ble_eq_true rfl) (Nat.le_of_ble_eq_true rfl) a10, e _ _ (Nat.le_of_ble_eq_true rfl) (Nat.le_of_ble_eq_true rfl) a11⟩, fun q hq => ?_, fun i hi => ?_, h5.mono (fun x o w1 w2 => e x o (by omega) (by omega)), h6.mono (fun x o w => e x o (by omega) (by omega))⟩
  · have := scl_k hq
    obtain ⟨f, q1⟩ := h3 q hq
    exact ⟨f, e _ _ (by show 0 < q; omega) (by show q < 900; omega) q1⟩
  · have := hi.lt
    obtain ⟨q1, q2, q3, q4⟩ := h4 i hi
    exact ⟨e _ _ (by show 0 < 100 + i; omega) (by show 100 + i < 900; omega) q1, e _ _ (by show 0 < 200 + i; omega) (by show 200 + i < 900; omega) q2, e _ _ (by show 0 < 300 + i; omega) (by show 300 + i < 900; omega) q3, e _ _ (by show 0 < 400 + i; omega) (by show 400 + i < 900; omega) q4⟩
theorem InvC.new {ac : Nat → Nat} {W : mV} {g : HD} {F : (Nat → Int32) → Int32} {h : jH} {kd a : Nat} {o : jO} (hI : InvC ac W g F h) (hn : ∀ k, h (k, a) = none) : InvC ac W g F (hs h (kd, a) o) :=
  hI.ext (fun x o' _ _ q => by
    rw [hs_ne (fun e => by rw [e, hn] at q; cases q)]
    exact q)
theorem cF_sv {ac : Nat → Nat} {W : mV} {r j : Nat} {y : Int32} (h : r ≠ 0) : cF ac (sv W r j y) = cF ac W := by
  have e : sv W r j y 0 = W 0 := sv_ne (fun q => h q.symm)
  unfold cF
  rw [e]
theorem hs17_sv {ac : Nat → Nat} {W : mV} {r j b n : Nat} {y : Int32} (h : r ≠ 7) : hs17 ac (sv W r j y) b n = hs17 ac W b n := by
  have e : sv W r j y 7 = W 7 := sv_ne (fun q => h q.symm)
  unfold hs17
  rw [e]
theorem liv_sv {W : mV} {r j i : Nat} {y : Int32} (h : r ≠ 7) : liv (sv W r j y) i ↔ liv W i := by
  have e : sv W r j y 7 = W 7 := sv_ne (fun q => h q.symm)
  unfold liv
  rw [e]
def cint (k : Nat) : Bool := decide ((11 ≤ k ∧ k ≤ 17) ∨ k = 23 ∨ k = 24)
theorem cF_put {ac : Nat → Nat} {W : mV} {k : Nat} {y : Int32} (h : cint k = true) : (cF ac W).set k (vI y) = cF ac (sv W 0 k y) := by
  have e : ∀ q, sv W 0 k y 0 q = if q = k then y else W 0 q := fun q => by rw [sv_row]; rfl
  unfold cF
  simp only [e]
  have : k = 11 ∨ k = 12 ∨ k = 13 ∨ k = 14 ∨ k = 15 ∨ k = 16 ∨ k = 17 ∨ k = 23 ∨ k = 24 := by
    have := of_decide_eq_true h
    omega
  rcases this with rfl | rfl | rfl | rfl | rfl | rfl | rfl | rfl | rfl <;> rfl
theorem InvC.fld {ac : Nat → Nat} {W : mV} {g : HD} {F : (Nat → Int32) → Int32} {h : jH} {k : Nat} {y : Int32} (hI : InvC ac W g F h) (hk : cint k = true) : InvC ac (sv W 0 k y) g F (hs h (nC ac 1) (oO 1 ((cF ac W).set k (vI y)))) := by
  obtain ⟨h1, ⟨a1, a2, a3, a4, a5, a6, a7, a8, a9, a10, a11⟩, h3, h4, h5, h6⟩ := hI
  have n : ∀ q, ¬ q = 1 → ∀ o : jO, hs h (nC ac 1) o (nC ac q) = h (nC ac q) := fun q hq o => hs_nr (by rw [nC_1, nC_1]; exact hq)
  refine ⟨by rw [hs_same, cF_put hk], ⟨?_, ?_, ?_, ?_, ?_, ?_, ?_, ?_, ?_, ?_, ?_⟩, h3.set (by rw [nC_1]; omega), fun i hi => ?_, h5.mono (fun x o w1 w2 q => by rw [hs_nr (by rw [nC_1]; omega)]; exact q), h6.mono (fun x o w q => by rw [hs_nr (by rw [nC_1]; omega)]; exact q)⟩
  · rw [n _ (by decide), sv_ne (by decide)]; exact a1
  · rw [n _ (by decide), sv_ne (by decide)]; exact a2
  · rw [n _ (by decide), sv_ne (by decide)]; exact a3
  · rw [n _ (by decide), sv_ne (by decide)]; exact a4
  · rw [n _ (by decide), hs17_sv (by decide)]; exact a5
  · rw [n _ (by decide), hs17_sv (by decide)]; exact a6
  · rw [n _ (by decide), hs17_sv (by decide)]; exact a7
  · rw [n _ (by decide), sv_ne (by decide)]; exact a8
  · rw [n _ (by decide), sv_ne (by decide)]; exact a9
  · rw [n _ (by decide), sv_ne (by decide)]; exact a10
  · rw [n _ (by decide), sv_ne (by decide)]; exact a11
  · have hi' := (liv_sv (by decide)).mp hi
    obtain ⟨q1, q2, q3, q4⟩ := h4 i hi'
    unfold iHo
    rw [n _ (by omega), n _ (by omega), n _ (by omega), n _ (by omega), sv_ne (by omega), sv_ne (by omega), sv_ne (by omega), sv_ne (by omega)]
    exact ⟨q1, q2, q3, q4⟩
/-- a row of its own: 3, 4, 10, 19 .. 22 -/
def crl (k : Nat) : Nat := if k = 3 then 10 else if k = 4 then 2 else if k = 10 then 3 else if k = 19 then 9216 else if k = 20 then 8 else if k = 21 then 8 else if k = 22 then 100 else 0
theorem crl_k {k : Nat} (h : crl k ≠ 0) : k = 3 ∨ k = 4 ∨ k = 10 ∨ k = 19 ∨ k = 20 ∨ k = 21 ∨ k = 22 := by
  unfold crl at h
  repeat' split at h
  all_goals omega
theorem InvC.row {ac : Nat → Nat} {W : mV} {g : HD} {F : (Nat → Int32) → Int32} {h : jH} {k j : Nat} {y : Int32} (hI : InvC ac W g F h) (hk : crl k ≠ 0) : InvC ac (sv W k j y) g F (hs h (nC ac (10 + k)) (iA (crl k) (j_up (W k) j y))) := by
  have hk' := crl_k hk
  obtain ⟨h1, ⟨a1, a2, a3, a4, a5, a6, a7, a8, a9, a10, a11⟩, h3, h4, h5, h6⟩ := hI
  have n : ∀ q, ¬ q = 10 + k → ∀ o : jO, hs h (nC ac (10 + k)) o (nC ac q) = h (nC ac q) := fun q hq o => hs_nr (by rw [nC_1, nC_1]; exact hq)
  refine ⟨by rw [n _ (by omega), cF_sv (by omega)]; exact h1, ⟨?_, ?_, ?_, ?_, ?_, ?_, ?_, ?_, ?_, ?_, ?_⟩, h3.set (by rw [nC_1]; omega), fun i hi => ?_, h5.mono (fun x o w1 w2 q => by rw [hs_nr (by rw [nC_1]; omega)]; exact q), h6.mono (fun x o w q => by rw [hs_nr (by rw [nC_1]; omega)]; exact q)⟩
  · by_cases e : k = 3
    · subst e; rw [hs_same, sv_row]; rfl
    · rw [n _ (by omega), sv_ne (fun q => e q.symm)]; exact a1
  · by_cases e : k = 4
    · subst e; rw [hs_same, sv_row]; rfl
    · rw [n _ (by omega), sv_ne (fun q => e q.symm)]; exact a2
  · by_cases e : k = 10
    · subst e; rw [hs_same, sv_row]; rfl
    · rw [n _ (by omega), sv_ne (fun q => e q.symm)]; exact a3
  · rw [n _ (by omega), sv_ne (by omega)]; exact a4
  · rw [n _ (by omega), hs17_sv (by omega)]; exact a5
  · rw [n _ (by omega), hs17_sv (by omega)]; exact a6
  · rw [n _ (by omega), hs17_sv (by omega)]; exact a7
  · by_cases e : k = 19
    · subst e; rw [hs_same, sv_row]; rfl
    · rw [n _ (by omega), sv_ne (fun q => e q.symm)]; exact a8
  · by_cases e : k = 20
    · subst e; rw [hs_same, sv_row]; rfl
    · rw [n _ (by omega), sv_ne (fun q => e q.symm)]; exact a9
  · by_cases e : k = 21
    · subst e; rw [hs_same, sv_row]; rfl
    · rw [n _ (by omega), sv_ne (fun q => e q.symm)]; exact a10
  · by_cases e : k = 22
    · subst e; rw [hs_same, sv_row]; rfl
    · rw [n _ (by omega), sv_ne (fun q => e q.symm)]; exact a11
  · have hi' := (liv_sv (by omega)).mp hi
    obtain ⟨q1, q2, q3, q4⟩ := h4 i hi'
    unfold iHo
    rw [n _ (by omega), n _ (by omega), n _ (by omega), n _ (by omega), sv_ne (by omega), sv_ne (by omega), sv_ne (by omega), sv_ne (by omega)]
    exact ⟨q1, q2, q3, q4⟩
/-- the tape -/
theorem InvC.tap {ac : Nat → Nat} {W : mV} {g : HD} {F : (Nat → Int32) → Int32} {h : jH} {j : Nat} {y : Int32} (hI : InvC ac W g F h) : InvC ac (sv W 18 j y) g F (hs h (nC ac 28) (bA 600 (j_up (W 18) j y))) := by
  obtain ⟨h1, ⟨a1, a2, a3, a4, a5, a6, a7, a8, a9, a10, a11⟩, h3, h4, h5, h6⟩ := hI
  have n : ∀ q, ¬ q = 28 → ∀ o : jO, hs h (nC ac 28) o (nC ac q) = h (nC ac q) := fun q hq o => hs_nr (by rw [nC_1, nC_1]; exact hq)
  refine ⟨by rw [n _ (by omega), cF_sv (by omega)]; exact h1, ⟨?_, ?_, ?_, ?_, ?_, ?_, ?_, ?_, ?_, ?_, ?_⟩, h3.set (by rw [nC_1]; omega), fun i hi => ?_, h5.mono (fun x o w1 w2 q => by rw [hs_nr (by rw [nC_1]; omega)]; exact q), h6.mono (fun x o w q => by rw [hs_nr (by rw [nC_1]; omega)]; exact q)⟩
  · rw [n _ (by omega), sv_ne (by omega)]; exact a1
  · rw [n _ (by omega), sv_ne (by omega)]; exact a2
  · rw [n _ (by omega), sv_ne (by omega)]; exact a3
  · rw [hs_same, sv_row]
  · rw [n _ (by omega), hs17_sv (by omega)]; exact a5
  · rw [n _ (by omega), hs17_sv (by omega)]; exact a6
  · rw [n _ (by omega), hs17_sv (by omega)]; exact a7
  · rw [n _ (by omega), sv_ne (by omega)]; exact a8
  · rw [n _ (by omega), sv_ne (by omega)]; exact a9
  · rw [n _ (by omega), sv_ne (by omega)]; exact a10
  · rw [n _ (by omega), sv_ne (by omega)]; exact a11
  · have hi' := (liv_sv (by omega)).mp hi
    obtain ⟨q1, q2, q3, q4⟩ := h4 i hi'
    unfold iHo
    rw [n _ (by omega), n _ (by omega), n _ (by omega), n _ (by omega), sv_ne (by omega), sv_ne (by omega), sv_ne (by omega), sv_ne (by omega)]
    exact ⟨q1, q2, q3, q4⟩
/-- what is forgotten -/
theorem InvC.scr {ac : Nat → Nat} {W : mV} {g : HD} {F : (Nat → Int32) → Int32} {h : jH} {k n : Nat} {f : Nat → Int32} (hI : InvC ac W g F h) (hn : scl k = n) (h0 : n ≠ 0) : InvC ac W g F (hs h (nC ac k) (iA n f)) := by
  subst hn
  have hk' := scl_k h0
  obtain ⟨h1, ⟨a1, a2, a3, a4, a5, a6, a7, a8, a9, a10, a11⟩, h3, h4, h5, h6⟩ := hI
  have n : ∀ q, ¬ q = k → ∀ o : jO, hs h (nC ac k) o (nC ac q) = h (nC ac q) := fun q hq o => hs_nr (by rw [nC_1, nC_1]; exact hq)
  refine ⟨by rw [n _ (by omega)]; exact h1, ⟨by rw [n _ (by omega)]; exact a1, by rw [n _ (by omega)]; exact a2, by rw [n _ (by omega)]; exact a3, by rw [n _ (by omega)]; exact a4, by rw [n _ (by omega)]; exact a5, by rw [n _ (by omega)]; exact a6, by rw [n _ (by omega)]; exact a7, by rw [n _ (by omega)]; exact a8, by rw [n _ (by omega)]; exact a9, by rw [n _ (by omega)]; exact a10, by rw [n _ (by omega)]; exact a11⟩, fun q hq => ?_, fun i hi => ?_, h5.mono (fun x o w1 w2 q => by rw [hs_nr (by rw [nC_1]; omega)]; exact q), h6.mono (fun x o w q => by rw [hs_nr (by rw [nC_1]; omega)]; exact q)⟩
  · by_cases e : q = k
    · subst e; exact ⟨f, hs_same⟩
    · rw [n _ e]; exact h3 q hq
  · have := hi.lt
    obtain ⟨q1, q2, q3, q4⟩ := h4 i hi
    unfold iHo
    rw [n _ (by omega), n _ (by omega), n _ (by omega), n _ (by omega)]
    exact ⟨q1, q2, q3, q4⟩
/-- a house changes -/
theorem InvC.hou {ac : Nat → Nat} {W W' : mV} {g : HD} {F : (Nat → Int32) → Int32} {h h' : jH} {i : Nat} (hI : InvC ac W g F h) (hl : liv W i) (eW : ∀ r, ¬ r = 100 + i → ¬ r = 200 + i → ¬ r = 300 + i → ¬ r = 400 + i → W' r = W r) (e : ∀ x, ¬ (x = nC ac (100 + i) ∨ x = nC ac (200 + i) ∨ x = nC ac (300 + i) ∨ x = nC ac (400 + i)) → h' x = h x) (hh : iHo ac W' h' i) : InvC ac W' g F h' := by
  have hi := hl.lt
  obtain ⟨h1, ⟨a1, a2, a3, a4, a5, a6, a7, a8, a9, a10, a11⟩, h3, h4, h5, h6⟩ := hI
  have n : ∀ q, ¬ q = 100 + i → ¬ q = 200 + i → ¬ q = 300 + i → ¬ q = 400 + i → h' (nC ac q) = h (nC ac q) := fun q w1 w2 w3 w4 => e _ (fun w => by rcases w with w | w | w | w <;> (have := congrArg Prod.fst w; rw [nC_1, nC_1] at this; omega))
  have s : ∀ r, r < 100 → W' r = W r := fun r hr => eW r (by omega) (by omega) (by omega) (by omega)
  refine ⟨?_, ⟨?_, ?_, ?_, ?_, ?_, ?_, ?_, ?_, ?_, ?_, ?_⟩, fun q hq => ?_, fun j hj => ?_, h5.mono (fun x o w1 w2 q => by rw [e x (fun w => by rcases w with w | w | w | w <;> (rw [w, nC_1] at w2; omega))]; exact q), h6.mono (fun x o w q => by rw [e x (fun w9 => by rcases w9 with w9 | w9 | w9 | w9 <;> (rw [w9, nC_1] at w; omega))]; exact q)⟩
  · rw [n 1 (by omega) (by omega) (by omega) (by omega)]
    unfold cF
    rw [s 0 (by decide)]
    exact h1
  · rw [n 13 (by omega) (by omega) (by omega) (by omega), s _ (by decide)]; exact a1
  · rw [n 14 (by omega) (by omega) (by omega) (by omega), s _ (by decide)]; exact a2
  · rw [n 20 (by omega) (by omega) (by omega) (by omega), s _ (by decide)]; exact a3
  · rw [n 28 (by omega) (by omega) (by omega) (by omega), s _ (by decide)]; exact a4
  · rw [n 17 (by omega) (by omega) (by omega) (by omega)]; unfold hs17; rw [s 7 (by decide)]; exact a5
  · rw [n 18 (by omega) (by omega) (by omega) (by omega)]; unfold hs17; rw [s 7 (by decide)]; exact a6
  · rw [n 19 (by omega) (by omega) (by omega) (by omega)]; unfold hs17; rw [s 7 (by decide)]; exact a7
  · rw [n 29 (by omega) (by omega) (by omega) (by omega), s _ (by decide)]; exact a8
  · rw [n 30 (by omega) (by omega) (by omega) (by omega), s _ (by decide)]; exact a9
  · rw [n 31 (by omega) (by omega) (by omega) (by omega), s _ (by decide)]; exact a10
  · rw [n 32 (by omega) (by omega) (by omega) (by omega), s _ (by decide)]; exact a11
  · have := scl_k hq
    obtain ⟨f, q1⟩ := h3 q hq
    exact ⟨f, by rw [n q (by omega) (by omega) (by omega) (by omega)]; exact q1⟩
  · by_cases w : j = i
    · subst w; exact hh
    · have hj' : liv W j := by unfold liv at hj ⊢; rw [s 7 (by decide)] at hj; exact hj
      have := hj'.lt
      obtain ⟨q1, q2, q3, q4⟩ := h4 j hj'
      unfold iHo
      rw [n (100 + j) (by omega) (by omega) (by omega) (by omega), n (200 + j) (by omega) (by omega) (by omega) (by omega), n (300 + j) (by omega) (by omega) (by omega) (by omega), n (400 + j) (by omega) (by omega) (by omega) (by omega), eW (100 + j) (by omega) (by omega) (by omega) (by omega), eW (200 + j) (by omega) (by omega) (by omega) (by omega), eW (300 + j) (by omega) (by omega) (by omega) (by omega), eW (400 + j) (by omega) (by omega) (by omega) (by omega)]
      exact ⟨q1, q2, q3, q4⟩
