/-! WHAT IS SEEN, WHAT IS WORKED: one account for both sides -/
set_option maxRecDepth 100000
/-- the lines of what is seen: relic, what it could -/
def snP (t : Nat → Nat) (n nR : Nat) : Nat → List (Nat × Nat) → Nat → pR (List (Nat × Nat))
  | 0, L, a => .inr (a, L)
  | m + 1, L, a => if a < n then pB (nuP t n 0 (nI nR - 1) a) fun p r => if r ∈ L.map Prod.fst then .inl (2, a) else pB (nuP t n 0 99 p) fun p v => pB (sgP t n 59 p) fun p _ => snP t n nR m (L ++ [(r, v)]) (bl t n p) else .inr (a, L)
theorem ph_len : ∀ (n : Nat) (L : List Nat), L.Nodup → (∀ x, x ∈ L → x < n) → L.length ≤ n
  | 0, [], _, _ => Nat.le_refl _
  | 0, x :: r, _, h => absurd (h x List.mem_cons_self) (Nat.not_lt_zero x)
  | n + 1, L, hd, h => by
    by_cases e : n ∈ L
    · have h1 := ph_len n (L.erase n) (hd.erase n) (fun x hx => by
        have h2 := (hd.mem_erase_iff).mp hx
        have := h x h2.2
        omega)
      have h3 := List.length_erase_of_mem e
      omega
    · have h1 := ph_len n L hd (fun x hx => by
        have := h x hx
        have : x ≠ n := fun q => e (q ▸ hx)
        omega)
      omega
/-- lines that may stand -/
def okS (nR : Nat) (L : List (Nat × Nat)) : Prop := (L.map Prod.fst).Nodup ∧ ∀ x, x ∈ L → x.1 < nR ∧ x.2 ≤ 99
theorem okS.len {nR : Nat} {L : List (Nat × Nat)} (h : okS nR L) : L.length ≤ nR := by
  have := ph_len nR (L.map Prod.fst) h.1 (fun x hx => by
    obtain ⟨y, hy, e⟩ := List.mem_map.mp hx
    rw [← e]
    exact (h.2 y hy).1)
  simpa using this
theorem okS.add {nR r v : Nat} {L : List (Nat × Nat)} (h : okS nR L) (hn : ¬ r ∈ L.map Prod.fst) (hr : r < nR) (hv : v ≤ 99) : okS nR (L ++ [(r, v)]) := by
  refine ⟨?_, fun x hx => ?_⟩
  · rw [List.map_append, List.nodup_append]
    refine ⟨h.1, by simp, fun a ha b hb e => ?_⟩
    simp at hb
    subst hb
    subst e
    exact hn ha
  · rcases List.mem_append.mp hx with q | q
    · exact h.2 x q
    · simp at q
      subst q
      exact ⟨hr, hv⟩
/-- the relics of the lines, as bits -/
def snB : List (Nat × Nat) → Int32
  | [] => 0
  | x :: r => snB r ||| bitI x.1
theorem snB_app (x : Nat × Nat) : ∀ L, (∀ y, y ∈ L → y.1 < 32) → x.1 < 32 → ∀ i, i < 32 → bt (snB (L ++ [x])) i = bt (snB L ||| bitI x.1) i
  | [], _, _, _, _ => rfl
  | y :: r, h, hx, i, hi => by
    show bt (snB (r ++ [x]) ||| bitI y.1) i = bt ((snB r ||| bitI y.1) ||| bitI x.1) i
    rw [b_or, snB_app x r (fun z hz => h z (List.mem_cons_of_mem _ hz)) hx i hi, b_or, b_or, b_or]
    cases bt (snB r) i <;> cases bt (bitI x.1) i <;> cases bt (bitI y.1) i <;> rfl
theorem snB_s {L : List (Nat × Nat)} {x : Nat × Nat} (h : ∀ y, y ∈ L → y.1 < 32) (hx : x.1 < 32) : snB (L ++ [x]) = snB L ||| bitI x.1 := b_ext (snB_app x L h hx)
theorem snB_has : ∀ {L : List (Nat × Nat)} {r : Nat}, (∀ y, y ∈ L → y.1 < 32) → r < 32 → hasI (snB L) (nI r) = decide (r ∈ L.map Prod.fst)
  | [], r, _, hr => by
    rw [hasI_bt hr]
    show bt 0 r = _
    rw [b_0]
    simp
  | y :: L, r, h, hr => by
    have ih := snB_has (L := L) (r := r) (fun z hz => h z (List.mem_cons_of_mem _ hz)) hr
    rw [hasI_bt hr] at ih ⊢
    show bt (snB L ||| bitI y.1) r = _
    rw [b_or, ih, bt_bit (h y List.mem_cons_self) hr]
    by_cases e : r = y.1
    · subst e; simp
    · simp [e]
/-- the kind of a step: 7 none -/
def stN (t : Nat → Nat) (n a : Nat) : Nat := if wdB t n a W_give = true then 0 else if wdB t n a W_back = true then 1 else if wdB t n a W_lapse = true then 2 else if wdB t n a W_cure = true then 3 else if wdB t n a W_die = true then 4 else if wdB t n a W_day = true then 5 else if wdB t n a W_again = true then 6 else 7
/-- a step: its kind, two numbers, where it ends -/
abbrev sr : Type := Nat × Nat × Nat × Nat
def stE (t : Nat → Nat) (n : Nat) (L : List sr) (p : Nat) : pR (List sr) := pB (sgP t n 59 p) fun p _ => .inr (p, L)
/-- 0 one step (the i-th), 1 the steps of an again, 2 all; o open; acc: the steps so far -/
def wk (t : Nat → Nat) (n : Nat) (g : HD) : Nat → Nat → Nat → Nat → Nat → List sr → pR (List sr)
  | 0, _, _, _, _, _ => .inl (1, 0)
  | m + 1, md, o, i, a, acc =>
    if md = 0 then
      (if stN t n a = 7 then .inl (1, a)
       else if stN t n a = 6 then (if o = 6 then .inl (3, a) else pB (nuP t n 0 40 (a + wl t n a)) fun p x => pB (sgP t n 91 p) fun p _ => pB (wk t n g m 1 (o + 1) (i + 1) (bl t n p) []) fun p c => pB (sgP t n 93 p) fun p _ => stE t n ((6, x, 0, i + 1 + c.length) :: c) p)
       else if stN t n a = 5 then stE t n [(5, 0, 0, i + 1)] (a + wl t n a)
       else if stN t n a = 3 then pB (nuP t n 0 (nI (gR g) - 1) (a + wl t n a)) fun p x => pB (nuP t n 0 (nI (gP g) - 1) p) fun p y => stE t n [(3, x, y, i + 1)] p
       else if stN t n a < 2 then pB (nuP t n 0 (nI (gR g) - 1) (a + wl t n a)) fun p x => stE t n [(stN t n a, x, 0, i + 1)] p
       else pB (nuP t n 0 (nI (gS g) - 1) (a + wl t n a)) fun p x => stE t n [(stN t n a, x, 0, i + 1)] p)
    else if md = 1 then (if bN t n a = 93 then .inr (a, acc) else pB (wk t n g m 0 o (i + acc.length) a []) fun p c => wk t n g m 1 o i (bl t n p) (acc ++ c))
    else (if a < n then pB (wk t n g m 0 o (i + acc.length) a []) fun p c => wk t n g m 2 o i (bl t n p) (acc ++ c) else .inr (a, acc))
theorem st_pos {t : Nat → Nat} {n a : Nat} (h : ¬ stN t n a = 7) : 3 ≤ wl t n a := by
  unfold stN at h
  repeat' split at h
  all_goals first | (rename_i q; rw [wd_pos q]; decide) | exact absurd rfl h
theorem stN_c (t : Nat → Nat) (n a : Nat) : stN t n a = 0 ∨ stN t n a = 1 ∨ stN t n a = 2 ∨ stN t n a = 3 ∨ stN t n a = 4 ∨ stN t n a = 5 ∨ stN t n a = 6 ∨ stN t n a = 7 := by
  unfold stN
  repeat' split
  all_goals omega
theorem stE_ok {t : Nat → Nat} {n a p : Nat} {L c : List sr} (h : stE t n L a = .inr (p, c)) : a < p ∧ p ≤ n ∧ c = L := by
  obtain ⟨p1, u, h1, h2⟩ := pB_ok h
  obtain ⟨s1, s2⟩ := sgP_ok h1
  have s3 := sg_lt (by decide) s1
  have e := Prod.mk.inj (Sum.inr.inj h2)
  have := bl_ge (t := t) (n := n) (a := a)
  exact ⟨by omega, by omega, e.2.symm⟩
/-- a step that may be done -/
def okW (g : HD) (x : sr) : Prop := (x.1 < 2 ∧ x.2.1 < gR g) ∨ (x.1 = 3 ∧ x.2.1 < gR g ∧ x.2.2.1 < gP g) ∨ ((x.1 = 2 ∨ x.1 = 4) ∧ x.2.1 < gS g) ∨ x.1 = 5 ∨ (x.1 = 6 ∧ x.2.1 ≤ 40)
/-- steps from the i-th to the j-th, one behind another: each ends within them -/
def okT (g : HD) (i j : Nat) (L : List sr) : Prop := i + L.length = j ∧ ∀ k, k < L.length → okW g (L.getD k (0, 0, 0, 0)) ∧ i + k < (L.getD k (0, 0, 0, 0)).2.2.2 ∧ (L.getD k (0, 0, 0, 0)).2.2.2 ≤ j ∧ (¬ (L.getD k (0, 0, 0, 0)).1 = 6 → (L.getD k (0, 0, 0, 0)).2.2.2 = i + k + 1)
