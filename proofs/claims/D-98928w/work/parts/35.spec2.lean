/-! WHAT A TEXT OF A LAW SAYS: codes, one account for both sides -/
set_option maxRecDepth 100000
abbrev cd : Type := Int32 × Int32
def stp (f : Nat → Int32) (c : cd) (st : List Int32) : List Int32 := if c.1 < 2 then st ++ [if c.1 = 0 then c.2 else f c.2.toNatClampNeg] else st.take (st.length - 2) ++ [byI c.1 (st.getD (st.length - 2) 0) (st.getD (st.length - 1) 0)]
def runL (f : Nat → Int32) : List cd → List Int32 → List Int32
  | [], st => st
  | c :: r, st => runL f r (stp f c st)
theorem runL_app (f : Nat → Int32) : ∀ (a b : List cd) (st : List Int32), runL f (a ++ b) st = runL f b (runL f a st)
  | [], _, _ => rfl
  | c :: r, b, st => runL_app f r b (stp f c st)
def isOp (w : Int32) : Prop := w = 2 ∨ w = 3 ∨ w = 4 ∨ w = 5 ∨ w = 6 ∨ w = 7 ∨ w = 8
def okc (c : cd) : Prop := c.1 = 0 ∨ (c.1 = 1 ∧ ∃ j, j < 8 ∧ c.2 = nI j) ∨ isOp c.1
/-- every code can be run -/
def sfe (f : Nat → Int32) : List cd → List Int32 → Prop
  | [], _ => True
  | c :: r, st => okc c ∧ (isOp c.1 → 2 ≤ st.length) ∧ sfe f r (stp f c st)
theorem sfe_app (f : Nat → Int32) : ∀ (a b : List cd) (st : List Int32), sfe f a st → sfe f b (runL f a st) → sfe f (a ++ b) st
  | [], _, _, _, h => h
  | c :: r, b, st, h, k => ⟨h.1, h.2.1, sfe_app f r b _ h.2.2 k⟩
/-- the codes put one number more, F, upon the stack -/
def okR (cs : List cd) (F : (Nat → Int32) → Int32) : Prop := ∀ f st, runL f cs st = st ++ [F f] ∧ sfe f cs st
theorem not_op0 : ¬ isOp 0 := by unfold isOp; decide
theorem not_op1 : ¬ isOp 1 := by unfold isOp; decide
theorem stp_0 (f : Nat → Int32) (v : Int32) (st : List Int32) : stp f (0, v) st = st ++ [v] := by
  unfold stp
  rw [if_pos (show (0 : Int32) < 2 by decide), if_pos rfl]
theorem stp_1 (f : Nat → Int32) (v : Int32) (st : List Int32) : stp f (1, v) st = st ++ [f v.toNatClampNeg] := by
  unfold stp
  rw [if_pos (show (1 : Int32) < 2 by decide), if_neg (show ¬ (1 : Int32) = 0 by decide)]
theorem okR_num (v : Int32) : okR [(0, v)] (fun _ => v) := fun f st => ⟨stp_0 f v st, Or.inl rfl, fun h => absurd h not_op0, trivial⟩
theorem okR_fact {j : Nat} (hj : j < 8) : okR [(1, nI j)] (fun f => f j) := fun f st => ⟨by
  have := stp_1 f (nI j) st
  rw [nI_clamp (by omega)] at this
  exact this, Or.inr (Or.inl ⟨rfl, j, hj, rfl⟩), fun h => absurd h not_op1, trivial⟩
theorem isOp_ge {w : Int32} (h : isOp w) : ¬ w < 2 := by
  unfold isOp at h
  rcases h with h | h | h | h | h | h | h <;> subst h <;> decide
theorem okR_op {a b : List cd} {F G : (Nat → Int32) → Int32} {w : Int32} (hw : isOp w) (ha : okR a F) (hb : okR b G) : okR (a ++ b ++ [(w, 0)]) (fun f => byI w (F f) (G f)) := fun f st => by
  have h1 := ha f st
  have h2 := hb f (st ++ [F f])
  have e : runL f (a ++ b) st = st ++ [F f] ++ [G f] := by rw [runL_app, h1.1, h2.1]
  refine ⟨?_, sfe_app f _ _ _ (sfe_app f _ _ _ h1.2 (by rw [h1.1]; exact h2.2)) (by rw [e]; exact ⟨Or.inr (Or.inr hw), fun _ => by simp, trivial⟩)⟩
  rw [runL_app, e]
  show (if w < 2 then _ else _) = _
  rw [if_neg (isOp_ge hw)]
  have l1 : (st ++ [F f] ++ [G f]).length = st.length + 2 := by simp
  rw [l1, show st.length + 2 - 2 = st.length by omega, show st.length + 2 - 1 = st.length + 1 by omega]
  have g1 : (st ++ [F f] ++ [G f]).getD st.length 0 = F f := by simp [List.getD]
  have g2 : (st ++ [F f] ++ [G f]).getD (st.length + 1) 0 = G f := by simp [List.getD, List.getElem?_append]
  rw [g1, g2, List.append_assoc, List.take_left' rfl]
/-- which of the known: 8 none -/
def knN (t : Nat → Nat) (n a : Nat) : Nat := if wdB t n a W_worth = true then 0 else if wdB t n a W_days = true then 1 else if wdB t n a W_lapses = true then 2 else if wdB t n a W_tempted = true then 3 else if wdB t n a W_ill = true then 4 else if wdB t n a W_others = true then 5 else if wdB t n a W_sister = true then 6 else if wdB t n a W_day = true then 7 else 8
/-- least 7, most 8, none 0 -/
def lmN (t : Nat → Nat) (n a : Nat) : Nat := if wdB t n a W_least = true then 7 else if wdB t n a W_most = true then 8 else 0
/-- what joins terms here (3: sums, 4: products); 0 nothing -/
def jnN (md : Nat) (x : Int32) : Nat := if md = 3 then (if x = 43 then 2 else if x = 45 then 3 else 0) else if x = 42 then 4 else if x = 47 then 5 else if x = 37 then 6 else 0
/-- 0 a sum, 1 a product, 2 one, 3 a sum goes on, 4 a product goes on; o: how many are open; acc: the codes so far of what goes on -/
def lw (t : Nat → Nat) (n : Nat) : Nat → Nat → Nat → Nat → List cd → pR (List cd)
  | 0, _, _, _, _ => .inl (1, 0)
  | m + 1, md, o, a, acc =>
    if md < 2 then pB (lw t n m (md + 1) o a []) fun p c => lw t n m (md + 3) o p c
    else if md = 2 then
      (if ¬ lmN t n (bl t n a) = 0 then
        (if o = 6 then .inl (3, bl t n a) else pB (sgP t n 91 (bl t n a + wl t n (bl t n a))) fun p _ => pB (lw t n m 0 (o + 1) p []) fun p c1 => pB (sgP t n 44 p) fun p _ => pB (lw t n m 0 (o + 1) p []) fun p c2 => pB (sgP t n 93 p) fun p _ => .inr (p, c1 ++ c2 ++ [(nI (lmN t n (bl t n a)), 0)]))
      else if bN t n (bl t n a) = 40 then (if o = 6 then .inl (3, bl t n a) else pB (lw t n m 0 (o + 1) (bl t n a + 1) []) fun p c => pB (sgP t n 41 p) fun p _ => .inr (p, c))
      else if knN t n (bl t n a) < 8 then .inr (bl t n a + wl t n (bl t n a), [(1, nI (knN t n (bl t n a)))])
      else pB (nuP t n 0 999 (bl t n a)) fun p v => .inr (p, [(0, nI v)]))
    else (if jnN md (sgI t n a) = 0 then .inr (bl t n a, acc) else pB (lw t n m (md - 2) o (bl t n a + 1) []) fun p c => lw t n m md o p (acc ++ c ++ [(nI (jnN md (sgI t n a)), 0)]))
theorem lmN_c (t : Nat → Nat) (n a : Nat) : lmN t n a = 0 ∨ lmN t n a = 7 ∨ lmN t n a = 8 := by
  unfold lmN
  repeat' split
  all_goals omega
theorem jnN_c (md : Nat) (x : Int32) : jnN md x = 0 ∨ (2 ≤ jnN md x ∧ jnN md x ≤ 6) := by
  unfold jnN
  repeat' split
  all_goals omega
theorem nI_isOp : ∀ k, 2 ≤ k → k ≤ 8 → isOp (nI k) := by
  intro k h1 h2
  have : k = 2 ∨ k = 3 ∨ k = 4 ∨ k = 5 ∨ k = 6 ∨ k = 7 ∨ k = 8 := by omega
  unfold isOp
  rcases this with rfl | rfl | rfl | rfl | rfl | rfl | rfl <;> decide
theorem sg_lt {t : Nat → Nat} {n a : Nat} {c : Int32} (hc : ¬ c = -1) (h : sgI t n a = c) : bl t n a < n := by
  unfold sgI bN at h
  by_cases w : bl t n a < n
  · exact w
  · rw [if_neg w] at h; exact absurd h.symm hc
theorem wd_pos {t : Nat → Nat} {n a : Nat} {L : List Nat} (h : wdB t n a L = true) : wl t n a = L.length := by
  unfold wdB at h
  exact (of_decide_eq_true h).1
theorem lm_pos {t : Nat → Nat} {n a : Nat} (h : ¬ lmN t n a = 0) : 4 ≤ wl t n a := by
  unfold lmN at h
  by_cases q : wdB t n a W_least = true
  · rw [wd_pos q]; decide
  · rw [if_neg q] at h
    by_cases w : wdB t n a W_most = true
    · rw [wd_pos w]; decide
    · rw [if_neg w] at h; exact absurd rfl h
theorem kn_pos {t : Nat → Nat} {n a : Nat} (h : knN t n a < 8) : 3 ≤ wl t n a := by
  unfold knN at h
  repeat' split at h
  all_goals first | (rename_i q; rw [wd_pos q]; decide) | omega
/-- what a law's reading gives: it goes on, a code for a sign at least; the codes put one number upon the stack -/
theorem lw_ok {t : Nat → Nat} {n : Nat} : ∀ (m md o a : Nat) (acc : List cd) (p : Nat) (c : List cd), md ≤ 4 → a ≤ n → lw t n m md o a acc = .inr (p, c) → p ≤ n ∧ (md ≤ 2 → a < p ∧ c.length + a ≤ p ∧ ∃ F, okR c F) ∧ (3 ≤ md → a ≤ p ∧ c.length + a ≤ p + acc.length ∧ ((∃ F, okR acc F) → ∃ F, okR c F))
  | 0, _, _, _, _, _, _, _, _, h => by cases h
  | m + 1, md, o, a, acc, p, c, hmd, ha, h => by
    have hbl := bl_le (t := t) ha
    have hwl := wl_le (t := t) (n := n) (a := bl t n a)
    unfold lw at h
    by_cases k0 : md < 2
    · rw [if_pos k0] at h
      obtain ⟨p1, c1, h1, h2⟩ := pB_ok h
      obtain ⟨a1, a2, -⟩ := lw_ok m (md + 1) o a [] p1 c1 (by omega) ha h1
      obtain ⟨b1, -, b3⟩ := lw_ok m (md + 3) o p1 c1 p c (by omega) a1 h2
      have a3 := a2 (by omega)
      have b4 := b3 (by omega)
      exact ⟨b1, fun _ => ⟨by omega, by omega, b4.2.2 a3.2.2⟩, fun q => by omega⟩
    · rw [if_neg k0] at h
      by_cases k2 : md = 2
      · rw [if_pos k2] at h
        by_cases hl : lmN t n (bl t n a) = 0
        · rw [if_neg (fun w => w hl)] at h
          by_cases h40 : bN t n (bl t n a) = 40
          · rw [if_pos h40] at h
            by_cases ho : o = 6
            · rw [if_pos ho] at h; cases h
            · rw [if_neg ho] at h
              have hlt : bl t n a < n := by
                unfold bN at h40
                by_cases w : bl t n a < n
                · exact w
                · rw [if_neg w] at h40; exact absurd h40 (by decide)
              obtain ⟨p1, c1, h1, h2⟩ := pB_ok h
              obtain ⟨a1, a2, -⟩ := lw_ok m 0 (o + 1) (bl t n a + 1) [] p1 c1 (by omega) (by omega) h1
              have a3 := a2 (by omega)
              obtain ⟨p2, u, h3, h4⟩ := pB_ok h2
              obtain ⟨s1, s2⟩ := sgP_ok h3
              have s3 := sg_lt (by decide) s1
              have e := Prod.mk.inj (Sum.inr.inj h4)
              have hb2 := bl_ge (t := t) (n := n) (a := p1)
              rw [← e.2]
              exact ⟨by omega, fun _ => ⟨by omega, by omega, a3.2.2⟩, fun q => by omega⟩
          · rw [if_neg h40] at h
            by_cases hk : knN t n (bl t n a) < 8
            · rw [if_pos hk] at h
              have e := Prod.mk.inj (Sum.inr.inj h)
              have := kn_pos hk
              rw [← e.2]
              exact ⟨by omega, fun _ => ⟨by omega, by simp; omega, _, okR_fact hk⟩, fun q => by omega⟩
            · rw [if_neg hk] at h
              obtain ⟨p1, v, h1, h2⟩ := pB_ok h
              have := nuP_lt hbl.2 h1
              have e := Prod.mk.inj (Sum.inr.inj h2)
              rw [← e.2]
              exact ⟨by omega, fun _ => ⟨by omega, by simp; omega, _, okR_num _⟩, fun q => by omega⟩
        · rw [if_pos hl] at h
          by_cases ho : o = 6
          · rw [if_pos ho] at h; cases h
          · rw [if_neg ho] at h
            have hlp := lm_pos hl
            obtain ⟨p0, u0, h01, h02⟩ := pB_ok h
            obtain ⟨s1, s2⟩ := sgP_ok h01
            have s3 := sg_lt (by decide) s1
            have hb0 := bl_ge (t := t) (n := n) (a := bl t n a + wl t n (bl t n a))
            obtain ⟨p1, c1, h1, h2⟩ := pB_ok h02
            obtain ⟨a1, a2, -⟩ := lw_ok m 0 (o + 1) p0 [] p1 c1 (by omega) (by omega) h1
            have a3 := a2 (by omega)
            obtain ⟨p2, u, h3, h4⟩ := pB_ok h2
            obtain ⟨s4, s5⟩ := sgP_ok h3
            have s6 := sg_lt (by decide) s4
            have hb2 := bl_ge (t := t) (n := n) (a := p1)
            obtain ⟨p3, c2, h5, h6⟩ := pB_ok h4
            obtain ⟨b1, b2, -⟩ := lw_ok m 0 (o + 1) p2 [] p3 c2 (by omega) (by omega) h5
            have b3 := b2 (by omega)
            obtain ⟨p4, u4, h7, h8⟩ := pB_ok h6
            obtain ⟨s7, s8⟩ := sgP_ok h7
            have s9 := sg_lt (by decide) s7
            have hb4 := bl_ge (t := t) (n := n) (a := p3)
            have e := Prod.mk.inj (Sum.inr.inj h8)
            have hc := lmN_c t n (bl t n a)
            obtain ⟨F, hF⟩ := a3.2.2
            obtain ⟨G', hG⟩ := b3.2.2
            rw [← e.2]
            exact ⟨by omega, fun _ => ⟨by omega, by simp; omega, _, okR_op (nI_isOp _ (by omega) (by omega)) hF hG⟩, fun q => by omega⟩
      · rw [if_neg k2] at h
        by_cases hj : jnN md (sgI t n a) = 0
        · rw [if_pos hj] at h
          have e := Prod.mk.inj (Sum.inr.inj h)
          rw [← e.2]
          exact ⟨by omega, fun q => by omega, fun _ => ⟨by omega, by omega, id⟩⟩
        · rw [if_neg hj] at h
          have hlt : bl t n a < n := by
            by_cases w : bl t n a < n
            · exact w
            · exfalso
              apply hj
              have : sgI t n a = -1 := by unfold sgI bN; rw [if_neg w]
              rw [this]
              unfold jnN
              split <;> decide
          obtain ⟨p1, c1, h1, h2⟩ := pB_ok h
          have hm2 : md - 2 ≤ 2 := by omega
          obtain ⟨a1, a2, -⟩ := lw_ok m (md - 2) o (bl t n a + 1) [] p1 c1 (by omega) (by omega) h1
          have a3 := a2 hm2
          obtain ⟨b1, -, b3⟩ := lw_ok m md o p1 _ p c (by omega) a1 h2
          have b4 := b3 (by omega)
          have hc := jnN_c md (sgI t n a)
          refine ⟨b1, fun q => by omega, fun _ => ⟨by omega, ?_, fun ⟨F, hF⟩ => ?_⟩⟩
          · have := b4.2.1
            simp at this
            omega
          · obtain ⟨G', hG⟩ := a3.2.2
            exact b4.2.2 ⟨_, okR_op (nI_isOp _ (by omega) (by omega)) hF hG⟩
