/-! WHAT IS WORKED: the steps read are well made -/
set_option maxRecDepth 100000
abbrev s0 : sr := (0, 0, 0, 0)
def okK (g : HD) (i j : Nat) (L : List sr) : Prop := i + L.length = j ∧ ∀ k, k < L.length → okW g (L.getD k s0) ∧ i + k < (L.getD k s0).2.2.2 ∧ (L.getD k s0).2.2.2 ≤ j ∧ (¬ (L.getD k s0).1 = 6 → (L.getD k s0).2.2.2 = i + k + 1) ∧ ∀ k', k < k' → k' < L.length → i + k' < (L.getD k s0).2.2.2 → (L.getD k' s0).2.2.2 ≤ (L.getD k s0).2.2.2
theorem okK_nil {g : HD} {i : Nat} : okK g i i [] := ⟨rfl, fun k hk => absurd hk (Nat.not_lt_zero k)⟩
theorem getD_l {A B : List sr} {k : Nat} (h : k < A.length) : (A ++ B).getD k s0 = A.getD k s0 := by simp [List.getD, List.getElem?_append_left h]
theorem getD_r {A B : List sr} {k : Nat} (h : A.length ≤ k) : (A ++ B).getD k s0 = B.getD (k - A.length) s0 := by simp [List.getD, List.getElem?_append_right h]
theorem okK_app {g : HD} {i j k : Nat} {A B : List sr} (ha : okK g i j A) (hb : okK g j k B) : okK g i k (A ++ B) := by
  refine ⟨by rw [List.length_append, ← Nat.add_assoc, ha.1]; exact hb.1, fun q hq => ?_⟩
  rw [List.length_append] at hq
  have hjk : j ≤ k := by have := hb.1; omega
  by_cases w : q < A.length
  · obtain ⟨h1, h2, h3, h4, h5⟩ := ha.2 q w
    rw [getD_l w]
    refine ⟨h1, h2, by omega, h4, fun k' a b c => ?_⟩
    have : k' < A.length := by have := ha.1; omega
    rw [getD_l this]
    exact h5 k' a this c
  · have hw : A.length ≤ q := by omega
    obtain ⟨h1, h2, h3, h4, h5⟩ := hb.2 (q - A.length) (by omega)
    have e := ha.1
    rw [getD_r hw]
    refine ⟨h1, by omega, h3, fun z => by have := h4 z; omega, fun k' a b c => ?_⟩
    rw [getD_r (show A.length ≤ k' by omega)]
    exact h5 (k' - A.length) (by omega) (by rw [List.length_append] at b; omega) (by omega)
theorem okK_one {g : HD} {i k x y : Nat} (h : okW g (k, x, y, i + 1)) : okK g i (i + 1) [(k, x, y, i + 1)] := by
  refine ⟨rfl, fun q hq => ?_⟩
  have e : q = 0 := by simpa using hq
  subst e
  exact ⟨h, Nat.lt_succ_self i, Nat.le_refl _, fun _ => rfl, fun k' a b => by simp at b; omega⟩
theorem okK_again {g : HD} {i x : Nat} {c : List sr} (hx : x ≤ 40) (h : okK g (i + 1) (i + 1 + c.length) c) : okK g i (i + 1 + c.length) ((6, x, 0, i + 1 + c.length) :: c) := by
  refine ⟨by simp; omega, fun q hq => ?_⟩
  cases q with
  | zero =>
    refine ⟨Or.inr (Or.inr (Or.inr (Or.inr ⟨rfl, hx⟩))), by show i + 0 < i + 1 + c.length; omega, Nat.le_refl _, fun z => absurd rfl z, fun k' a b _ => ?_⟩
    cases k' with
    | zero => omega
    | succ k' => exact (h.2 k' (by simp at b; omega)).2.2.1
  | succ q =>
    obtain ⟨h1, h2, h3, h4, h5⟩ := h.2 q (by simp at hq; omega)
    refine ⟨h1, by show i + (q + 1) < (c.getD q s0).2.2.2; omega, h3, fun z => by show (c.getD q s0).2.2.2 = i + (q + 1) + 1; have := h4 z; omega, fun k' a b z => ?_⟩
    cases k' with
    | zero => omega
    | succ k' => exact h5 k' (by omega) (by simp at b; omega) (by have : i + (k' + 1) < (c.getD q s0).2.2.2 := z; omega)
/-- what the reading of work gives -/
theorem wk_ok {t : Nat → Nat} {n : Nat} {g : HD} (hg : okH g) : ∀ (m md o i a : Nat) (acc : List sr) (p : Nat) (c : List sr), md ≤ 2 → a ≤ n → wk t n g m md o i a acc = .inr (p, c) → p ≤ n ∧ (md = 0 → a + 4 * c.length ≤ p ∧ 1 ≤ c.length ∧ okK g i (i + c.length) c) ∧ (1 ≤ md → a + 4 * c.length ≤ p + 4 * acc.length ∧ acc.length ≤ c.length ∧ (okK g i (i + acc.length) acc → okK g i (i + c.length) c))
  | 0, _, _, _, _, _, _, _, _, _, h => by cases h
  | m + 1, md, o, i, a, acc, p, c, hmd, ha, h => by
    have hwl := wl_le (t := t) (n := n) (a := a)
    have b8 := hg.1
    have b10 := hg.2.1
    have bP := hg.2.2.1
    unfold wk at h
    by_cases k0 : md = 0
    · rw [if_pos k0] at h
      by_cases s7 : stN t n a = 7
      · rw [if_pos s7] at h; cases h
      · rw [if_neg s7] at h
        have hpos := st_pos s7
        by_cases s6 : stN t n a = 6
        · rw [if_pos s6] at h
          by_cases o6 : o = 6
          · rw [if_pos o6] at h; cases h
          · rw [if_neg o6] at h
            obtain ⟨p1, x, h1, h2⟩ := pB_ok h
            have a1 := nuP_lt (by omega) h1
            obtain ⟨-, -, -, v1, v2, -, -⟩ := nuP_ok (by omega) h1
            have hx := inR_n v1 (by decide) (show (40 : Int32) = nI 40 from rfl) v2
            obtain ⟨p2, u2, h3, h4⟩ := pB_ok h2
            obtain ⟨e1, e2⟩ := sgP_ok h3
            have e3 := sg_lt (by decide) e1
            have e4 := bl_ge (t := t) (n := n) (a := p1)
            have e5 := bl_le (t := t) (n := n) (a := p2) (by omega)
            obtain ⟨p3, c3, h5, h6⟩ := pB_ok h4
            obtain ⟨r1, -, r2⟩ := wk_ok hg m 1 (o + 1) (i + 1) (bl t n p2) [] p3 c3 (by omega) e5.2 h5
            have r3 := r2 (by omega)
            obtain ⟨p4, u4, h7, h8⟩ := pB_ok h6
            obtain ⟨f1, f2⟩ := sgP_ok h7
            have f3 := sg_lt (by decide) f1
            have f4 := bl_ge (t := t) (n := n) (a := p3)
            obtain ⟨q1, q2, q3⟩ := stE_ok h8
            have r4 := r3.1
            simp only [List.length_nil] at r4
            rw [q3]
            refine ⟨q2, fun _ => ⟨by simp; omega, by simp, ?_⟩, fun z => by omega⟩
            have := okK_again (i := i) hx (r3.2.2 okK_nil)
            rw [List.length_cons, show i + (c3.length + 1) = i + 1 + c3.length by omega]
            exact this
        · rw [if_neg s6] at h
          have w4 : 3 ≤ wl t n a := hpos
          by_cases s5 : stN t n a = 5
          · rw [if_pos s5] at h
            obtain ⟨q1, q2, q3⟩ := stE_ok h
            rw [q3]
            exact ⟨q2, fun _ => ⟨by simp; omega, by simp, okK_one (Or.inr (Or.inr (Or.inr (Or.inl rfl))))⟩, fun z => by omega⟩
          · rw [if_neg s5] at h
            by_cases s3 : stN t n a = 3
            · rw [if_pos s3] at h
              obtain ⟨p1, x, h1, h2⟩ := pB_ok h
              have a1 := nuP_lt (by omega) h1
              obtain ⟨-, -, -, v1, v2, -, -⟩ := nuP_ok (by omega) h1
              have hx := inR_m v1 (by omega) v2
              obtain ⟨p2, y, h3, h4⟩ := pB_ok h2
              have a2 := nuP_lt a1.2 h3
              obtain ⟨-, -, -, v3, v4, -, -⟩ := nuP_ok a1.2 h3
              have hy := inR_m v3 (by omega) v4
              obtain ⟨q1, q2, q3⟩ := stE_ok h4
              rw [q3]
              exact ⟨q2, fun _ => ⟨by simp; omega, by simp, okK_one (Or.inr (Or.inl ⟨rfl, hx, hy⟩))⟩, fun z => by omega⟩
            · rw [if_neg s3] at h
              by_cases s2 : stN t n a < 2
              · rw [if_pos s2] at h
                obtain ⟨p1, x, h1, h2⟩ := pB_ok h
                have a1 := nuP_lt (by omega) h1
                obtain ⟨-, -, -, v1, v2, -, -⟩ := nuP_ok (by omega) h1
                have hx := inR_m v1 (by omega) v2
                obtain ⟨q1, q2, q3⟩ := stE_ok h2
                rw [q3]
                exact ⟨q2, fun _ => ⟨by simp; omega, by simp, okK_one (Or.inl ⟨s2, hx⟩)⟩, fun z => by omega⟩
              · rw [if_neg s2] at h
                obtain ⟨p1, x, h1, h2⟩ := pB_ok h
                have a1 := nuP_lt (by omega) h1
                obtain ⟨-, -, -, v1, v2, -, -⟩ := nuP_ok (by omega) h1
                have hx := inR_m v1 (by omega) v2
                obtain ⟨q1, q2, q3⟩ := stE_ok h2
                have hc := stN_c t n a
                rw [q3]
                exact ⟨q2, fun _ => ⟨by simp; omega, by simp, okK_one (Or.inr (Or.inr (Or.inl ⟨by show stN t n a = 2 ∨ stN t n a = 4; omega, hx⟩)))⟩, fun z => by omega⟩
    · rw [if_neg k0] at h
      have step : ∀ (md : Nat), md ≤ 2 → 1 ≤ md → (pB (wk t n g m 0 o (i + acc.length) a []) fun p c => wk t n g m md o i (bl t n p) (acc ++ c)) = .inr (p, c) → p ≤ n ∧ (1 ≤ md → a + 4 * c.length ≤ p + 4 * acc.length ∧ acc.length ≤ c.length ∧ (okK g i (i + acc.length) acc → okK g i (i + c.length) c)) := by
        intro md hm1 hm2 h
        obtain ⟨p1, c1, h1, h2⟩ := pB_ok h
        obtain ⟨r1, r2, -⟩ := wk_ok hg m 0 o (i + acc.length) a [] p1 c1 (by omega) ha h1
        obtain ⟨r3, r4, r5⟩ := r2 rfl
        have e1 := bl_le (t := t) r1
        obtain ⟨q1, -, q2⟩ := wk_ok hg m md o i (bl t n p1) (acc ++ c1) p c hm1 e1.2 h2
        obtain ⟨q3, q4, q5⟩ := q2 hm2
        rw [List.length_append] at q3 q4 q5
        refine ⟨q1, fun _ => ⟨by omega, by omega, fun z => q5 ?_⟩⟩
        have := okK_app z r5
        rw [Nat.add_assoc] at this
        exact this
      by_cases k1 : md = 1
      · rw [if_pos k1] at h
        by_cases h93 : bN t n a = 93
        · rw [if_pos h93] at h
          have e := Prod.mk.inj (Sum.inr.inj h)
          rw [← e.2]
          exact ⟨by omega, fun z => absurd z k0, fun _ => ⟨by omega, Nat.le_refl _, id⟩⟩
        · rw [if_neg h93] at h
          have := step 1 (by omega) (by omega) h
          exact ⟨this.1, fun z => absurd z k0, fun _ => this.2 (by omega)⟩
      · rw [if_neg k1] at h
        by_cases hlt : a < n
        · rw [if_pos hlt] at h
          have := step 2 (by omega) (by omega) h
          exact ⟨this.1, fun z => absurd z k0, fun _ => this.2 (by omega)⟩
        · rw [if_neg hlt] at h
          have e := Prod.mk.inj (Sum.inr.inj h)
          rw [← e.2]
          exact ⟨by omega, fun z => absurd z k0, fun _ => ⟨by omega, Nat.le_refl _, id⟩⟩
