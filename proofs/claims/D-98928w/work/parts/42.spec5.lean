/-! WHAT IS WORKED: how it goes. One account for both sides -/
set_option maxRecDepth 100000
def dieF (D : Nat → Nat → Nat) (R : Nat → Int32) (s r : Nat) : Nat → Int32 := fun j => if 16 ≤ j ∧ j < 16 + r ∧ D 0 (j - 16) = s then -1 else R j
def dieR (D : Nat → Nat → Nat) (nR : Nat) (R : Nat → Int32) (s : Nat) : Nat → Int32 := j_up (dieF D R s nR) s 1
theorem dieF_0 {D : Nat → Nat → Nat} {R : Nat → Int32} {s : Nat} : dieF D R s 0 = R := by
  funext j
  unfold dieF
  rw [if_neg (by omega)]
theorem dieF_s {D : Nat → Nat → Nat} {R : Nat → Int32} {s r : Nat} {y : Int32} (hy : y = if D 0 r = s then -1 else R (16 + r)) : j_up (dieF D R s r) (16 + r) y = dieF D R s (r + 1) := by
  funext j
  by_cases e : j = 16 + r
  · subst e
    rw [j_up_same, hy]
    unfold dieF
    by_cases q : D 0 r = s
    · rw [if_pos q, if_pos ⟨by omega, by omega, by rw [show 16 + r - 16 = r by omega]; exact q⟩]
    · rw [if_neg q, if_neg (fun w => q (by have := w.2.2; rw [show 16 + r - 16 = r by omega] at this; exact this))]
  · rw [j_up_ne e]
    unfold dieF
    by_cases q : 16 ≤ j ∧ j < 16 + r ∧ D 0 (j - 16) = s
    · rw [if_pos q, if_pos ⟨q.1, by omega, q.2.2⟩]
    · rw [if_neg q, if_neg (fun w => q ⟨w.1, by omega, w.2.2⟩)]
/-- whether a step is done -/
def actB (lw : (Nat → Int32) → Int32) (D : Nat → Nat → Nat) (nR : Nat) (R : Nat → Int32) (x : sr) : Bool :=
  if x.1 = 0 then !(kpd R x.2.1) && !(decide (R (D 0 x.2.1) = 1)) else if x.1 = 1 then kpd R x.2.1 else if x.1 = 2 then clI D nR R x.2.1 else if x.1 = 3 then ccI lw D nR R x.2.1 x.2.2.1 else if x.1 = 4 then !(decide (R x.2.1 = 1)) else decide (R 44 < 500)
/-- the house, were it done -/
def actF (D : Nat → Nat → Nat) (nR : Nat) (R : Nat → Int32) (x : sr) : Nat → Int32 :=
  if x.1 = 0 then j_up R (16 + x.2.1) 0 else if x.1 = 1 then j_up R (16 + x.2.1) (-1) else if x.1 = 2 then lapR D nR R x.2.1 else if x.1 = 3 then curR R x.2.1 x.2.2.1 else if x.1 = 4 then dieR D nR R x.2.1 else dayR nR R
def actR (lw : (Nat → Int32) → Int32) (D : Nat → Nat → Nat) (nR : Nat) (R : Nat → Int32) (x : sr) : Nat → Int32 := if actB lw D nR R x = true then actF D nR R x else R
def okA (nS nR nP : Nat) (x : sr) : Prop := (x.1 < 2 ∧ x.2.1 < nR) ∨ (x.1 = 3 ∧ x.2.1 < nR ∧ x.2.2.1 < nP) ∨ ((x.1 = 2 ∨ x.1 = 4) ∧ x.2.1 < nS) ∨ x.1 = 5
/-- a house's days are numbered -/
def RG (R : Nat → Int32) : Prop := (∃ y, y ≤ 500 ∧ R 44 = nI y ∧ RV R (y + 1)) ∧ ∀ s, s < 8 → R s = 0 ∨ R s = 1
theorem RV.set {R : Nat → Int32} {b j : Nat} {y : Int32} (h : RV R b) (hy : y = -1 ∨ ∃ x, x < b ∧ y = nI x) : RV (j_up R j y) b := by
  intro r hr
  by_cases e : 16 + r = j
  · rw [e, j_up_same]; exact hy
  · rw [j_up_ne e]; exact h r hr
theorem lap_o {D : Nat → Nat → Nat} {nR s j : Nat} {R : Nat → Int32} (hR : nR ≤ 10) (hj : j < 8 ∨ 26 ≤ j) (hs : s < 8) : lapR D nR R s j = R j := by
  unfold lapR
  rw [j_up_ne (by omega)]
  unfold lapF
  rw [if_neg (by omega)]
theorem day_o {nR j : Nat} {R : Nat → Int32} (hj : j < 8) : dayR nR R j = R j := by
  unfold dayR
  rw [j_up_ne (by omega)]
  unfold dayF
  rw [if_neg (by omega), if_neg (by omega)]
theorem day_44 {nR : Nat} {R : Nat → Int32} : dayR nR R 44 = R 44 + 1 := by
  unfold dayR
  rw [j_up_same]
theorem cur_o {R : Nat → Int32} {r p j : Nat} (hr : r < 10) (hp : p < 8) (hj : j < 8 ∨ j = 44) : curR R r p j = R j := by
  unfold curR
  rw [j_up_ne (by omega), j_up_ne (by omega)]
theorem RG.act {lw : (Nat → Int32) → Int32} {D : Nat → Nat → Nat} {nS nR nP : Nat} {R : Nat → Int32} {x : sr} (h : RG R) (bS : nS ≤ 8) (bR : nR ≤ 10) (bP : nP ≤ 8) (ok : okA nS nR nP x) : RG (actR lw D nR R x) := by
  unfold actR
  by_cases q : actB lw D nR R x = true
  · rw [if_pos q]
    obtain ⟨⟨y, h1, h2, h3⟩, h4⟩ := h
    unfold actF
    by_cases k0 : x.1 = 0
    · have hx : x.2.1 < nR := by rcases ok with w | w | w | w <;> omega
      rw [if_pos k0]
      exact ⟨⟨y, h1, by rw [j_up_ne (by omega)]; exact h2, h3.set (Or.inr ⟨0, by omega, rfl⟩)⟩, fun s hs => by rw [j_up_ne (by omega)]; exact h4 s hs⟩
    rw [if_neg k0]
    by_cases k1 : x.1 = 1
    · have hx : x.2.1 < nR := by rcases ok with w | w | w | w <;> omega
      rw [if_pos k1]
      exact ⟨⟨y, h1, by rw [j_up_ne (by omega)]; exact h2, h3.set (Or.inl rfl)⟩, fun s hs => by rw [j_up_ne (by omega)]; exact h4 s hs⟩
    rw [if_neg k1]
    by_cases k2 : x.1 = 2
    · have hx : x.2.1 < nS := by rcases ok with w | w | w | w <;> omega
      rw [if_pos k2]
      exact ⟨⟨y, h1, by rw [lap_o bR (by omega) (by omega)]; exact h2, h3.lap (by omega) (by omega)⟩, fun s hs => by rw [lap_o bR (by omega) (by omega)]; exact h4 s hs⟩
    rw [if_neg k2]
    by_cases k3 : x.1 = 3
    · have hx : x.2.1 < nR ∧ x.2.2.1 < nP := by rcases ok with w | w | w | w <;> omega
      rw [if_pos k3]
      exact ⟨⟨y, h1, by rw [cur_o (by omega) (by omega) (by omega)]; exact h2, h3.cur⟩, fun s hs => by rw [cur_o (by omega) (by omega) (by omega)]; exact h4 s hs⟩
    rw [if_neg k3]
    by_cases k4 : x.1 = 4
    · have hx : x.2.1 < nS := by rcases ok with w | w | w | w <;> omega
      rw [if_pos k4]
      unfold dieR
      refine ⟨⟨y, h1, ?_, fun r hr => ?_⟩, fun s hs => ?_⟩
      · rw [j_up_ne (by omega)]
        unfold dieF
        rw [if_neg (by omega)]
        exact h2
      · rw [j_up_ne (by omega)]
        unfold dieF
        by_cases w : 16 ≤ 16 + r ∧ 16 + r < 16 + nR ∧ D 0 (16 + r - 16) = x.2.1
        · rw [if_pos w]; exact Or.inl rfl
        · rw [if_neg w]; exact h3 r hr
      · by_cases e : s = x.2.1
        · rw [e, j_up_same]; exact Or.inr rfl
        · rw [j_up_ne e]
          unfold dieF
          rw [if_neg (by omega)]
          exact h4 s hs
    rw [if_neg k4]
    have h5 : R 44 < 500 := by
      unfold actB at q
      rw [if_neg k0, if_neg k1, if_neg k2, if_neg k3, if_neg k4] at q
      exact of_decide_eq_true q
    have hy : y < 500 := by
      rcases Nat.lt_or_ge y 500 with w | w
      · exact w
      · exfalso
        have : y = 500 := by omega
        rw [h2, this] at h5
        exact absurd h5 (by decide)
    exact ⟨⟨y + 1, by omega, by rw [day_44, h2, nI_1], h3.day⟩, fun s hs => by rw [day_o hs]; exact h4 s hs⟩
  · rw [if_neg q]; exact h
/-- how it stands: the house, steps begun, done, refused -/
abbrev xS : Type := (Nat → Int32) × Nat × Nat × Nat
def xAct (lw : (Nat → Int32) → Int32) (D : Nat → Nat → Nat) (nR : Nat) (x : sr) (g : xS) : xS := (actR lw D nR g.1 x, g.2.1 + 1, g.2.2.1 + (if actB lw D nR g.1 x = true then 1 else 0), g.2.2.2 + (if actB lw D nR g.1 x = true then 0 else 1))
/-- 0 the step a, 1 what the again a holds, b times, 2 the steps from a on under b -/
def wx (lw : (Nat → Int32) → Int32) (D : Nat → Nat → Nat) (nR : Nat) (L : List sr) : Nat → Nat → Nat → Nat → xS → xS
  | 0, _, _, _, g => g
  | m + 1, md, a, b, g =>
    if md = 0 then (if g.2.1 = 200 then g else if (L.getD a s0).1 = 6 then wx lw D nR L m 1 a (L.getD a s0).2.1 (g.1, g.2.1 + 1, g.2.2) else xAct lw D nR (L.getD a s0) g)
    else if md = 1 then (if b = 0 then g else if g.2.1 = 200 then g else wx lw D nR L m 1 a (b - 1) (wx lw D nR L m 2 (a + 1) (L.getD a s0).2.2.2 g))
    else (if a < b then wx lw D nR L m 2 (L.getD a s0).2.2.2 b (wx lw D nR L m 0 a 0 g) else g)
def okX (g : xS) : Prop := RG g.1 ∧ g.2.1 ≤ 200 ∧ g.2.2.1 + g.2.2.2 ≤ g.2.1
/-- steps that may go -/
def okV (nS nR nP : Nat) (L : List sr) : Prop := ∀ k, k < L.length → ((L.getD k s0).1 = 6 ∧ (L.getD k s0).2.1 ≤ 40 ∨ okA nS nR nP (L.getD k s0) ∧ (L.getD k s0).2.2.2 = k + 1) ∧ k < (L.getD k s0).2.2.2 ∧ (L.getD k s0).2.2.2 ≤ L.length ∧ ∀ k', k < k' → k' < (L.getD k s0).2.2.2 → (L.getD k' s0).2.2.2 ≤ (L.getD k s0).2.2.2
theorem okV_of {g : HD} {L : List sr} (h : okK g 0 L.length L) : okV (gS g) (gR g) (gP g) L := by
  intro k hk
  obtain ⟨h1, h2, h3, h4, h5⟩ := h.2 k hk
  simp only [Nat.zero_add] at h2 h4 h5
  refine ⟨?_, h2, h3, fun k' a b => h5 k' a (by omega) b⟩
  by_cases e : (L.getD k s0).1 = 6
  · refine Or.inl ⟨e, ?_⟩
    rcases h1 with w | w | w | w | w <;> omega
  · refine Or.inr ⟨?_, h4 e⟩
    rcases h1 with w | w | w | w | w
    · exact Or.inl w
    · exact Or.inr (Or.inl w)
    · exact Or.inr (Or.inr (Or.inl w))
    · exact Or.inr (Or.inr (Or.inr w))
    · exact absurd w.1 e
/-- from a to b the steps end within -/
def okE (L : List sr) (a b : Nat) : Prop := b ≤ L.length ∧ ∀ k, a ≤ k → k < b → (L.getD k s0).2.2.2 ≤ b
theorem wx_ok {lw : (Nat → Int32) → Int32} {D : Nat → Nat → Nat} {nS nR nP : Nat} {L : List sr} (bS : nS ≤ 8) (bR : nR ≤ 10) (bP : nP ≤ 8) (hL : okV nS nR nP L) : ∀ (m md a b : Nat) (g : xS), okX g → (md < 2 → a < L.length) → (2 ≤ md → okE L a b) → okX (wx lw D nR L m md a b g)
  | 0, _, _, _, _, h, _, _ => h
  | m + 1, md, a, b, g, h, h1, h2 => by
    unfold wx
    by_cases k0 : md = 0
    · rw [if_pos k0]
      have hk := hL a (h1 (by omega))
      by_cases q : g.2.1 = 200
      · rw [if_pos q]; exact h
      · rw [if_neg q]
        have hlt : g.2.1 + 1 ≤ 200 := by have := h.2.1; omega
        by_cases e : (L.getD a s0).1 = 6
        · rw [if_pos e]
          exact wx_ok bS bR bP hL m 1 a _ _ ⟨h.1, hlt, by have := h.2.2; show g.2.2.1 + g.2.2.2 ≤ g.2.1 + 1; omega⟩ (fun _ => h1 (by omega)) (fun w => absurd w (by decide))
        · rw [if_neg e]
          have ok := (hk.1.resolve_left (fun w => e w.1)).1
          refine ⟨h.1.act bS bR bP ok, hlt, ?_⟩
          have := h.2.2
          show g.2.2.1 + (if _ then 1 else 0) + (g.2.2.2 + (if _ then 0 else 1)) ≤ g.2.1 + 1
          split <;> omega
    · rw [if_neg k0]
      by_cases k1 : md = 1
      · rw [if_pos k1]
        by_cases b0 : b = 0
        · rw [if_pos b0]; exact h
        rw [if_neg b0]
        by_cases q : g.2.1 = 200
        · rw [if_pos q]; exact h
        rw [if_neg q]
        have hk := hL a (h1 (by omega))
        refine wx_ok bS bR bP hL m 1 a _ _ (wx_ok bS bR bP hL m 2 (a + 1) _ g h (fun w => absurd w (by decide)) (fun _ => ⟨hk.2.2.1, fun k w1 w2 => hk.2.2.2 k (by omega) w2⟩)) (fun _ => h1 (by omega)) (fun w => absurd w (by decide))
      · rw [if_neg k1]
        by_cases q : a < b
        · rw [if_pos q]
          have e2 := h2 (by omega)
          have := e2.1
          have hk := hL a (by omega)
          exact wx_ok bS bR bP hL m 2 _ b _ (wx_ok bS bR bP hL m 0 a 0 g h (fun _ => by omega) (fun w => absurd w (by decide))) (fun w => absurd w (by decide)) (fun _ => ⟨e2.1, fun k w1 w2 => e2.2 k (by omega) w2⟩)
        · rw [if_neg q]; exact h
