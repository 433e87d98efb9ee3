/-! WHAT A TEXT OF A HOUSE SAYS: one account for both sides -/
set_option maxRecDepth 100000
/-- a reader's answer: a fault (its kind, its place), or the next place and what was read -/
abbrev pR (α : Type) : Type := (Nat × Nat) ⊕ (Nat × α)
def pB {α β : Type} (x : pR α) (f : Nat → α → pR β) : pR β := match x with
  | .inl e => .inl e
  | .inr q => f q.1 q.2
def nuP (t : Nat → Nat) (n : Nat) (lo hi : Int32) (a : Nat) : pR Nat := if nuK t n lo hi a = 0 then .inr (nuE t n a) else .inl (nuK t n lo hi a, bl t n a)
def sgP (t : Nat → Nat) (n : Nat) (c : Int32) (a : Nat) : pR Unit := if sgI t n a = c then .inr (bl t n a + 1, ()) else .inl (1, bl t n a)
/-- what is told: D (0 sister, 1 ill, 2 worth; 3 ill, 4 need; 5 tempted), vows, how many -/
abbrev HD : Type := (Nat → Nat → Nat) × (Nat → Int32) × Nat × Nat × Nat
abbrev gD (g : HD) : Nat → Nat → Nat := g.1
abbrev gW (g : HD) : Nat → Int32 := g.2.1
abbrev gS (g : HD) : Nat := g.2.2.1
abbrev gR (g : HD) : Nat := g.2.2.2.1
abbrev gP (g : HD) : Nat := g.2.2.2.2
def hd0 : HD := (fun _ _ => 0, fun _ => -1, 0, 0, 0)
def dU (D : Nat → Nat → Nat) (k i v : Nat) : Nat → Nat → Nat := fun k' i' => if k' = k ∧ i' = i then v else D k' i'
def clFull (g : HD) (c k : Nat) : Bool := decide (c = 60) || (decide (k = 0 ∧ gS g = 8) || (decide (k = 1 ∧ gR g = 10) || decide (k = 2 ∧ gP g = 8)))
def clE (t : Nat → Nat) (n : Nat) (g : HD) (p : Nat) : pR HD := pB (sgP t n 59 p) fun p _ => .inr (p, g)
/-- a clause, its word behind it -/
def clK (t : Nat → Nat) (n : Nat) (g : HD) (k b : Nat) : pR HD :=
  if k = 0 then pB (nuP t n 0 15 b) fun p v => clE t n (dU (gD g) 5 (gS g) v, gW g, gS g + 1, gR g, gP g) p
  else if k = 1 then pB (nuP t n 0 (nI (gS g) - 1) b) fun p s => pB (nuP t n 0 5 p) fun p i => pB (nuP t n 1 30 p) fun p w => clE t n (dU (dU (dU (gD g) 0 (gR g) s) 1 (gR g) i) 2 (gR g) w, gW g, gS g, gR g + 1, gP g) p
  else if k = 2 then pB (nuP t n 0 5 b) fun p i => pB (nuP t n 1 99 p) fun p w => clE t n (dU (dU (gD g) 3 (gP g) i) 4 (gP g) w, gW g, gS g, gR g, gP g + 1) p
  else pB (nuP t n 0 (nI (gS g) - 1) b) fun p x => pB (nuP t n 0 (nI (gS g) - 1) p) fun p y => clE t n (gD g, j_up (gW g) x (nI y), gS g, gR g, gP g) p
def clP (t : Nat → Nat) (n c : Nat) (g : HD) (a : Nat) : pR HD :=
  if kdN t n a = 4 then .inl (1, a) else if clFull g c (kdN t n a) = true then .inl (3, a) else clK t n g (kdN t n a) (a + wl t n a)
/-- the clauses from a on (a: no blank), c were read -/
def hsP (t : Nat → Nat) (n : Nat) : Nat → Nat → HD → Nat → pR HD
  | 0, _, g, a => .inr (a, g)
  | m + 1, c, g, a => if a < n then pB (clP t n c g a) fun p g' => hsP t n m (c + 1) g' (bl t n p) else .inr (a, g)
/-- what was read is in its bounds -/
def okH (g : HD) : Prop := gS g ≤ 8 ∧ gR g ≤ 10 ∧ gP g ≤ 8 ∧ (∀ r, r < gR g → gD g 0 r < gS g ∧ gD g 1 r < 6 ∧ 1 ≤ gD g 2 r ∧ gD g 2 r ≤ 30) ∧ (∀ p, p < gP g → gD g 3 p < 6 ∧ 1 ≤ gD g 4 p ∧ gD g 4 p ≤ 99) ∧ (∀ s, s < gS g → gD g 5 s ≤ 15) ∧ ∀ s, gW g s = -1 ∨ ∃ j, j < gS g ∧ s < gS g ∧ gW g s = nI j
theorem nuF_more {t : Nat → Nat} : ∀ m a v, a < (nuF t (m + 1) a v).1 ∨ ¬ (48 ≤ t a ∧ t a ≤ 57) := by
  intro m a v
  by_cases q : 48 ≤ t a ∧ t a ≤ 57
  · left
    unfold nuF
    rw [if_pos q]
    have : ∀ m a v, a ≤ (nuF t m a v).1 := by
      intro m
      induction m with
      | zero => intro a v; exact Nat.le_refl _
      | succ m ih =>
        intro a v
        unfold nuF
        by_cases w : 48 ≤ t a ∧ t a ≤ 57
        · rw [if_pos w]; exact Nat.le_trans (Nat.le_succ a) (ih _ _)
        · rw [if_neg w]; exact Nat.le_refl _
    exact this m (a + 1) _
  · exact Or.inr q
/-- a number that was read -/
theorem nuP_ok {t : Nat → Nat} {n a p v : Nat} {lo hi : Int32} (ha : a ≤ n) (h : nuP t n lo hi a = .inr (p, v)) : nuK t n lo hi a = 0 ∧ p = (nuE t n a).1 ∧ v = (nuE t n a).2 ∧ v ≤ 100000 ∧ inR (nI v) lo hi = true ∧ bl t n a < p ∧ p ≤ n := by
  unfold nuP at h
  by_cases q : nuK t n lo hi a = 0
  · rw [if_pos q] at h
    have e : nuE t n a = (p, v) := Sum.inr.inj h
    have hb := bl_le (t := t) ha
    have hl := nuF_le t (n - bl t n a) (bl t n a) 0 (by decide)
    have e1 : nuF t (n - bl t n a) (bl t n a) 0 = (p, v) := e
    rw [e1] at hl
    refine ⟨q, by rw [e], by rw [e], hl.2.2, ?_, ?_, by have := hl.2.1; dsimp only at this; omega⟩
    · unfold nuK at q
      rw [e] at q
      by_cases w : isD t n (bl t n a) = true
      · rw [if_pos w] at q
        by_cases z : inR (nI v) lo hi = true
        · exact z
        · rw [if_neg z] at q; omega
      · rw [if_neg w] at q; omega
    · unfold nuK at q
      by_cases w : isD t n (bl t n a) = true
      · have w2 : bl t n a < n ∧ 48 ≤ t (bl t n a) ∧ t (bl t n a) ≤ 57 := by simpa [isD] using w
        obtain ⟨m, hm⟩ : ∃ m, n - bl t n a = m + 1 := ⟨n - bl t n a - 1, by omega⟩
        rw [hm] at e1
        rcases nuF_more (t := t) m (bl t n a) 0 with z | z
        · rw [e1] at z; exact z
        · exact absurd w2.2 z
      · rw [if_neg w] at q; omega
  · rw [if_neg q] at h; cases h
theorem nuP_no {t : Nat → Nat} {n a k p : Nat} {lo hi : Int32} (h : nuP t n lo hi a = .inl (k, p)) : nuK t n lo hi a = k ∧ p = bl t n a ∧ (k = 1 ∨ k = 2) := by
  unfold nuP at h
  by_cases q : nuK t n lo hi a = 0
  · rw [if_pos q] at h; cases h
  · rw [if_neg q] at h
    have e := Sum.inl.inj h
    have e1 : nuK t n lo hi a = k := (Prod.mk.inj e).1
    have e2 : bl t n a = p := (Prod.mk.inj e).2
    refine ⟨e1, e2.symm, ?_⟩
    rw [← e1]
    unfold nuK at q ⊢
    split
    · split
      · rename_i a1 a2; rw [if_pos a1, if_pos a2] at q; exact absurd rfl q
      · exact Or.inr rfl
    · exact Or.inl rfl
theorem inR_n {v n : Nat} {w : Int32} (hv : v ≤ 100000) (hn : n ≤ 100000) (hw : w = nI n) (h : inR (nI v) 0 w = true) : v ≤ n := by
  subst hw
  obtain ⟨j, hj, e⟩ := of_inC h (by omega)
  rw [nI_eq (by omega) (by omega)] at e
  omega
theorem inR_1 {v n : Nat} {w : Int32} (hv : v ≤ 100000) (hn : n ≤ 100000) (hw : w = nI n) (h : inR (nI v) 1 w = true) : 1 ≤ v ∧ v ≤ n := by
  subst hw
  unfold inR at h
  rw [Bool.and_eq_true, Bool.not_eq_true', Bool.not_eq_true', decide_eq_false_iff_not, decide_eq_false_iff_not, show (1 : Int32) = nI 1 from rfl, nI_ltI (by omega) (by omega), nI_ltI (by omega) (by omega)] at h
  omega
theorem inR_m {v n : Nat} (hv : v ≤ 100000) (hn : n ≤ 100) (h : inR (nI v) 0 (nI n - 1) = true) : v < n := by
  obtain ⟨j, hj, e⟩ := of_in h (by omega)
  rw [nI_eq (by omega) (by omega)] at e
  omega
theorem dU_same {D : Nat → Nat → Nat} {k i v : Nat} : dU D k i v k i = v := if_pos ⟨rfl, rfl⟩
theorem dU_k {D : Nat → Nat → Nat} {k i v k' i' : Nat} (h : k' ≠ k) : dU D k i v k' i' = D k' i' := if_neg (fun q => h q.1)
theorem dU_i {D : Nat → Nat → Nat} {k i v k' i' : Nat} (h : i' ≠ i) : dU D k i v k' i' = D k' i' := if_neg (fun q => h q.2)
