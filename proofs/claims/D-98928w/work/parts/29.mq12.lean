/-! THE REFERENCE: match, matched. Printed by m_q12.py -/
set_option maxRecDepth 100000
theorem m_cX {E : jE} {d bc bs : Nat} {M M' : jM} {pc i n : Nat} {ls : List (Option jV)} {st st0 as : List jV} {h : jH} {Q Q' : jR → jH → Prop} {am : Nat → Nat} {V : mV} (iv : jIV M.1.cls i RX11 M'.1 n) (me : jMe M') (hI : InvM am V h) (hd : decode M.2.1 pc = .ok (.invokevirtual i, 3)) (hC : Ct E (d - 1) 0 0 M' (vR (nMo am) :: as) h Q') (hdp : 1 ≤ d) (hn : as.length = n) (hst : as.reverse ++ vR (nMo am) :: st = st0) (hw : jW st ≤ 8) (kr : ∀ r h', Q' r h' → ∃ v, r = .inl v ∧ G E d bc bs M (pc + 3) ls (v.toList ++ st) h' Q) : G E d bc bs M pc ls st0 h Q :=
  g_callV (ci := 11) rfl iv me hd hI.1 hC hdp hn hst hw (Nat.zero_le _) (Nat.zero_le _) (fun C x h' q => by
    obtain ⟨v, e, -⟩ := kr _ _ q
    cases e) (fun r h' q => by
    obtain ⟨v, e, k⟩ := kr _ _ q
    cases e
    exact k)
def freeB (ab : Nat → Int32) (p : Nat) (s : Int32) (r : Nat) : Bool := !(hasI s (nI r)) && hasI (ab p) (nI r)
def mxF (q : Nat → Bool) (f : Nat → Nat) (b : Nat) : Nat → Nat
  | 0 => b
  | r + 1 => if q r = true then max (mxF q f b r) (f r) else mxF q f b r
/-- the most that can be cured of m pilgrims, from p on, with the relics s given -/
def moF (ab : Nat → Int32) (nR : Nat) : Nat → Nat → Int32 → Nat
  | 0, _, _ => 0
  | m + 1, p, s => mxF (freeB ab p s) (fun r => 1 + moF ab nR m (p + 1) (s ||| bitI r)) (moF ab nR m (p + 1) s) nR
/-- the first under n (from r on) with P; n if there is none -/
def fstF (P : Nat → Bool) : Nat → Nat → Nat
  | 0, r => r
  | m + 1, r => if P r = true then r else fstF P m (r + 1)
def chP (ab : Nat → Int32) (nR m p : Nat) (s : Int32) (r : Nat) : Bool := freeB ab p s r && decide (1 + moF ab nR m (p + 1) (s ||| bitI r) = moF ab nR (m + 1) p s)
def chN (ab : Nat → Int32) (nR m p : Nat) (s : Int32) : Nat := fstF (chP ab nR m p s) nR 0
def chV (nR k : Nat) : Int32 := if k < nR then nI k else -1
def chS (nR k : Nat) (s : Int32) : Int32 := if k < nR then s ||| bitI k else s
/-- whom the first best choice takes, j places on -/
def ptF (ab : Nat → Int32) (nR : Nat) : Nat → Nat → Int32 → Nat → Int32
  | 0, _, _, _ => -1
  | m + 1, p, s, 0 => chV nR (chN ab nR m p s)
  | m + 1, p, s, j + 1 => ptF ab nR m (p + 1) (chS nR (chN ab nR m p s) s) j
theorem mxF_ge {q : Nat → Bool} {f : Nat → Nat} {b : Nat} : ∀ n, b ≤ mxF q f b n ∧ ∀ k, k < n → q k = true → f k ≤ mxF q f b n
  | 0 => ⟨Nat.le_refl _, fun k hk => absurd hk (Nat.not_lt_zero k)⟩
  | n + 1 => by
    have ih := mxF_ge (q := q) (f := f) (b := b) n
    unfold mxF
    by_cases e : q n = true
    · rw [if_pos e]
      refine ⟨Nat.le_trans ih.1 (Nat.le_max_left _ _), fun k hk hq => ?_⟩
      by_cases e2 : k = n
      · subst e2; exact Nat.le_max_right _ _
      · exact Nat.le_trans (ih.2 k (by omega) hq) (Nat.le_max_left _ _)
    · rw [if_neg e]
      refine ⟨ih.1, fun k hk hq => ?_⟩
      by_cases e2 : k = n
      · subst e2; exact absurd hq e
      · exact ih.2 k (by omega) hq
theorem mxF_at {q : Nat → Bool} {f : Nat → Nat} {b : Nat} : ∀ n, mxF q f b n = b ∨ ∃ k, k < n ∧ q k = true ∧ f k = mxF q f b n
  | 0 => Or.inl rfl
  | n + 1 => by
    have ih := mxF_at (q := q) (f := f) (b := b) n
    unfold mxF
    by_cases e : q n = true
    · rw [if_pos e]
      rcases Nat.le_total (mxF q f b n) (f n) with w | w
      · exact Or.inr ⟨n, by omega, e, (Nat.max_eq_right w).symm⟩
      · rw [Nat.max_eq_left w]
        exact ih.imp id (fun ⟨k, h1, h2, h3⟩ => ⟨k, by omega, h2, h3⟩)
    · rw [if_neg e]
      exact ih.imp id (fun ⟨k, h1, h2, h3⟩ => ⟨k, by omega, h2, h3⟩)
theorem fstF_s {P : Nat → Bool} : ∀ m r, fstF P m r ≤ r + m ∧ r ≤ fstF P m r ∧ (fstF P m r < r + m → P (fstF P m r) = true) ∧ ∀ k, r ≤ k → k < fstF P m r → P k = false
  | 0, r => ⟨Nat.le_refl _, Nat.le_refl _, fun h => by unfold fstF at h; omega, fun k h1 h2 => by unfold fstF at h2; omega⟩
  | m + 1, r => by
    have ih := fstF_s (P := P) m (r + 1)
    unfold fstF
    by_cases e : P r = true
    · rw [if_pos e]
      exact ⟨by omega, Nat.le_refl _, fun _ => e, fun k h1 h2 => by omega⟩
    · rw [if_neg e]
      refine ⟨by omega, by omega, fun h => ih.2.2.1 (by omega), fun k h1 h2 => ?_⟩
      by_cases e2 : k = r
      · subst e2; simpa using e
      · exact ih.2.2.2 k (by omega) h2
/-- candidates one after another: a better one takes the place -/
def bsF (q : Nat → Bool) (f : Nat → Nat) (A : Nat → Nat → Int32) (b0 : Nat) (a0 : Nat → Int32) : Nat → Nat × (Nat → Int32)
  | 0 => (b0, a0)
  | k + 1 => if q k = true ∧ (bsF q f A b0 a0 k).1 < f k then (f k, A k) else bsF q f A b0 a0 k
theorem bsF_s {q : Nat → Bool} {f : Nat → Nat} {A : Nat → Nat → Int32} {b0 : Nat} {a0 : Nat → Int32} {k : Nat} : bsF q f A b0 a0 (k + 1) = if q k = true ∧ (bsF q f A b0 a0 k).1 < f k then (f k, A k) else bsF q f A b0 a0 k := rfl
theorem bs_spec {q : Nat → Bool} {f : Nat → Nat} {A : Nat → Nat → Int32} {b0 : Nat} {a0 : Nat → Int32} {N w c : Nat} (hmax : ∀ k, k < N → q k = true → f k ≤ w) (hc : c < N) (hq : q c = true) (hw : f c = w) (hlt : ∀ k, k < c → q k = true → f k < w) :
    bsF q f A b0 a0 N = if b0 < w then (w, A c) else (b0, a0) := by
  by_cases e : b0 < w
  · rw [if_pos e]
    have h1 : ∀ k, k ≤ c → (bsF q f A b0 a0 k).1 < w := by
      intro k
      induction k with
      | zero => intro _; exact e
      | succ k ih =>
        intro hk
        unfold bsF
        by_cases e2 : q k = true ∧ (bsF q f A b0 a0 k).1 < f k
        · rw [if_pos e2]; exact hlt k (by omega) e2.1
        · rw [if_neg e2]; exact ih (by omega)
    have h2 : ∀ j, c + 1 + j ≤ N → bsF q f A b0 a0 (c + 1 + j) = (w, A c) := by
      intro j
      induction j with
      | zero =>
        intro _
        show (if _ then _ else _) = _
        rw [if_pos ⟨hq, by rw [hw]; exact h1 c (Nat.le_refl _)⟩, hw]
      | succ j ih =>
        intro hj
        have ih2 := ih (by omega)
        rw [show c + 1 + (j + 1) = (c + 1 + j) + 1 from rfl, bsF_s, ih2, if_neg (fun z => by have := hmax (c + 1 + j) (by omega) z.1; have := z.2; dsimp only at this; omega)]
    have := h2 (N - (c + 1)) (by omega)
    rw [show c + 1 + (N - (c + 1)) = N by omega] at this
    exact this
  · rw [if_neg e]
    have h1 : ∀ k, k ≤ N → bsF q f A b0 a0 k = (b0, a0) := by
      intro k
      induction k with
      | zero => intro _; rfl
      | succ k ih =>
        intro hk
        have ih2 := ih (by omega)
        show (if _ then _ else _) = _
        rw [ih2, if_neg (fun z => by have := hmax k (by omega) z.1; have := z.2; dsimp only at this; omega)]
    exact h1 N (Nat.le_refl _)
def mB : Nat → Int32
  | 0 => -1
  | b + 1 => nI b
theorem mB_lt {x b : Nat} (hx : x < 2 ^ 30) (hb : b < 2 ^ 30) : mB b < nI x ↔ b < x + 1 := by
  cases b with
  | zero =>
    show -1 < nI x ↔ _
    rw [Int32.lt_iff_toInt_lt, nI_toInt (by omega)]
    have : (-1 : Int32).toInt = -1 := by decide
    omega
  | succ b =>
    show nI b < nI x ↔ _
    rw [nI_ltI (by omega) (by omega)]
    omega
/-- the world but for what the search writes -/
def mtE (V V' : mV) : Prop := ∀ r, (r ≠ 42 ∧ r ≠ 43 → r ≠ 0 → V' r = V r) ∧ ∀ j, j ≠ 46 → V' 0 j = V 0 j
theorem mtE.rf {V : mV} : mtE V V := fun r => ⟨fun _ _ => rfl, fun j _ => rfl⟩
theorem mtE.tr {A B C : mV} (h : mtE A B) (k : mtE B C) : mtE A C := fun r => ⟨fun a b => ((k r).1 a b).trans ((h r).1 a b), fun j a => ((k r).2 j a).trans ((h r).2 j a)⟩
theorem mtE.by {V : mV} {j : Nat} {y : Int32} : mtE V (sv V 42 j y) := fun r => ⟨fun a _ => sv_ne a.1, fun q _ => by rw [sv_ne (by decide)]⟩
theorem mtE.best {V : mV} {j : Nat} {y : Int32} : mtE V (sv V 43 j y) := fun r => ⟨fun a _ => sv_ne a.2, fun q _ => by rw [sv_ne (by decide)]⟩
theorem mtE.most {V : mV} {y : Int32} : mtE V (sv V 0 46 y) := fun r => ⟨fun _ b => sv_ne b, fun q h => sv_nj h⟩
theorem mtE.mt {V V' : mV} {D : Nat → Nat → Nat} {nS nR nP : Nat} (e : mtE V V') (h : MT V D nS nR nP) : MT V' D nS nR nP := by
  unfold MT at h ⊢
  rw [(e 12).1 (by decide) (by decide), (e 14).1 (by decide) (by decide)]
  refine ⟨h.1, h.2.1, h.2.2.1, h.2.2.2.1, h.2.2.2.2.1, h.2.2.2.2.2.1, fun r hr => ?_, fun p hp => ?_, h.2.2.2.2.2.2.2.2⟩
  · rw [(e (1000 * 18 + r)).1 ⟨by omega, by omega⟩ (by omega)]; exact h.2.2.2.2.2.2.1 r hr
  · rw [(e (1000 * 20 + p)).1 ⟨by omega, by omega⟩ (by omega)]; exact h.2.2.2.2.2.2.2.1 p hp
def mtP (ab : Nat → Int32) (cu : Nat → Nat) (nP : Nat) (V : mV) : Prop := (∀ j, j < nP → V 44 j = ab j) ∧ ∀ j, j ≤ nP → V 45 j = nI (cu j) ∧ cu j ≤ 8
theorem mtE.pp {ab : Nat → Int32} {cu : Nat → Nat} {nP : Nat} {V V' : mV} (e : mtE V V') (h : mtP ab cu nP V) : mtP ab cu nP V' := by
  unfold mtP at h ⊢
  rw [(e 44).1 (by decide) (by decide), (e 45).1 (by decide) (by decide)]
  exact h
/-- how the search ends: the best so far is b, found by a -/
def mtR (am : Nat → Nat) (V : mV) (h : jH) (nP p b : Nat) (a : Nat → Int32) : jR → jH → Prop := fun r h' => r = .inl none ∧ ∃ V', InvM am V' h' ∧ mFr h h' ∧ mtE V V' ∧ (∀ j, j < p → V' 42 j = V 42 j) ∧ V' 0 46 = mB b ∧ ∀ j, j < nP → V' 43 j = a j
def mtW (ab : Nat → Int32) (nR m p : Nat) (s : Int32) (g b0 : Nat) (V : mV) : Nat × (Nat → Int32) := if b0 < g + moF ab nR m p s + 1 then (g + moF ab nR m p s + 1, fun j => if j < p then V 42 j else ptF ab nR m p s (j - p)) else (b0, V 43)
/-- the candidates of a place -/
def cdQ (ab : Nat → Int32) (nR p : Nat) (s : Int32) (k : Nat) : Bool := if k < nR then freeB ab p s k else true
def cdF (ab : Nat → Int32) (nR m p : Nat) (s : Int32) (g k : Nat) : Nat := if k < nR then g + (1 + moF ab nR m (p + 1) (s ||| bitI k)) + 1 else g + moF ab nR m (p + 1) s + 1
def cdA (ab : Nat → Int32) (nR m p : Nat) (s : Int32) (B : Nat → Int32) (k j : Nat) : Int32 := if j < p then B j else if j = p then chV nR k else ptF ab nR m (p + 1) (chS nR k s) (j - (p + 1))
theorem bs_mt {ab : Nat → Int32} {nR m p : Nat} {s : Int32} {g b0 : Nat} {V : mV} : (bsF (cdQ ab nR p s) (cdF ab nR m p s g) (cdA ab nR m p s (V 42)) b0 (V 43) (nR + 1)).1 = (mtW ab nR (m + 1) p s g b0 V).1 ∧ ∀ j, (bsF (cdQ ab nR p s) (cdF ab nR m p s g) (cdA ab nR m p s (V 42)) b0 (V 43) (nR + 1)).2 j = (mtW ab nR (m + 1) p s g b0 V).2 j := by
  have hge := mxF_ge (q := freeB ab p s) (f := fun r => 1 + moF ab nR m (p + 1) (s ||| bitI r)) (b := moF ab nR m (p + 1) s) nR
  have hat := mxF_at (q := freeB ab p s) (f := fun r => 1 + moF ab nR m (p + 1) (s ||| bitI r)) (b := moF ab nR m (p + 1) s) nR
  have em : moF ab nR (m + 1) p s = mxF (freeB ab p s) (fun r => 1 + moF ab nR m (p + 1) (s ||| bitI r)) (moF ab nR m (p + 1) s) nR := rfl
  rw [← em] at hge hat
  have hf := fstF_s (P := chP ab nR m p s) nR 0
  have hcn : fstF (chP ab nR m p s) nR 0 = chN ab nR m p s := rfl
  rw [hcn] at hf
  have key := bs_spec (q := cdQ ab nR p s) (f := cdF ab nR m p s g) (A := cdA ab nR m p s (V 42)) (b0 := b0) (a0 := V 43) (N := nR + 1) (w := g + moF ab nR (m + 1) p s + 1) (c := chN ab nR m p s) (fun k hk hq => by
      unfold cdQ at hq
      unfold cdF
      by_cases e : k < nR
      · rw [if_pos e] at hq ⊢
        have := hge.2 k e hq
        omega
      · rw [if_neg e]
        omega) (by omega) (by
      unfold cdQ
      by_cases e : chN ab nR m p s < nR
      · rw [if_pos e]
        have := hf.2.2.1 (by omega)
        unfold chP at this
        rw [Bool.and_eq_true] at this
        exact this.1
      · rw [if_neg e]) (by
      unfold cdF
      by_cases e : chN ab nR m p s < nR
      · rw [if_pos e]
        have := hf.2.2.1 (by omega)
        unfold chP at this
        rw [Bool.and_eq_true, decide_eq_true_eq] at this
        omega
      · rw [if_neg e]
        rcases hat with w | ⟨k, h1, h2, h3⟩
        · rw [w]
        · exfalso
          have := hf.2.2.2 k (by omega) (by omega)
          unfold chP at this
          rw [h2, decide_eq_true h3] at this
          cases this) (fun k hk hq => by
      have hkn : k < nR := by omega
      unfold cdQ at hq
      unfold cdF
      rw [if_pos hkn] at hq ⊢
      have h1 := hge.2 k hkn hq
      have h2 := hf.2.2.2 k (by omega) hk
      unfold chP at h2
      rw [hq, Bool.true_and, decide_eq_false_iff_not] at h2
      omega)
  rw [key]
  unfold mtW
  by_cases e : b0 < g + moF ab nR (m + 1) p s + 1
  · rw [if_pos e, if_pos e]
    refine ⟨rfl, fun j => ?_⟩
    show cdA ab nR m p s (V 42) (chN ab nR m p s) j = if j < p then V 42 j else ptF ab nR (m + 1) p s (j - p)
    unfold cdA
    by_cases e2 : j < p
    · rw [if_pos e2, if_pos e2]
    · rw [if_neg e2, if_neg e2]
      by_cases e3 : j = p
      · rw [if_pos e3, e3, Nat.sub_self]
        rfl
      · rw [if_neg e3, show j - p = (j - (p + 1)) + 1 by omega]
        rfl
  · rw [if_neg e, if_neg e]
    exact ⟨rfl, fun _ => rfl⟩
section
variable {E : jE} {d : Nat} {h : jH} {am : Nat → Nat} {V : mV} {D : Nat → Nat → Nat} {nS nR nP nL k : Nat} {ab : Nat → Int32} {cu : Nat → Nat}
set_option maxHeartbeats 2000000 in
theorem l_mcopy {bc bs : Nat} {h0 : jH} {Q : jR → jH → Prop} (p : Nat) (hp : p ≤ 8) (s g : Int32) (kk : ∀ V' h, InvM am V' h → mFr h0 h → mtE V V' → V' 42 = V 42 → V' 0 46 = V 0 46 → (∀ j, j < p → V' 43 j = V 42 j) → G E d bc bs mX11_matchesFrom 60 [some (vR (nMo am)), some (vI (nI p)), some (vI s), some (vI g), some (vI (nI p))] [] h Q) : ∀ (m k : Nat) (V' : mV) (h : jH), p - k = m → k ≤ p → InvM am V' h → mFr h0 h → mtE V V' → V' 42 = V 42 → V' 0 46 = V 0 46 → (∀ j, j < k → V' 43 j = V 42 j) → G E d bc bs mX11_matchesFrom 34 [some (vR (nMo am)), some (vI (nI p)), some (vI s), some (vI g), some (vI (nI k))] [] h Q := by
  intro m
  induction m with
  | zero =>
    intro k V' h hm hk hI hF e1 e2 e3 e4
    have e : k = p := by omega
    subst e
    refine g_iload (pc := 34) dX11_matchesFrom_34 rfl ?_
    refine g_iload_n (pc := 36) dX11_matchesFrom_36 rfl ?_
    refine g_icmp_ge (pc := 37) 60 dX11_matchesFrom_37 (by decide) (fun c_37 => ?_) (fun c_37 => absurd (nI_le (Nat.le_refl _) (by omega)) c_37)
    exact kk V' h hI hF e1 e2 e3 e4
  | succ m ih =>
    intro k V' h hm hk hI hF e1 e2 e3 e4
    refine g_iload (pc := 34) dX11_matchesFrom_34 rfl ?_
    refine g_iload_n (pc := 36) dX11_matchesFrom_36 rfl ?_
    refine g_icmp_ge (pc := 37) 60 dX11_matchesFrom_37 (by decide) (fun c_37 => absurd c_37 (by intro w; have := (nI_leI (by omega) (by omega)).mp w; omega)) (fun c_37 => ?_)
    refine g_aload_n (pc := 40) dX11_matchesFrom_40 rfl ?_
    refine g_getfield (pc := 41) f_X11_88_11 dX11_matchesFrom_41 hI.1 mf_43 ?_
    refine g_iload (pc := 44) dX11_matchesFrom_44 rfl ?_
    refine g_aload_n (pc := 46) dX11_matchesFrom_46 rfl ?_
    refine g_getfield (pc := 47) f_X11_85_11 dX11_matchesFrom_47 hI.1 mf_42 ?_
    refine g_iload (pc := 50) dX11_matchesFrom_50 rfl ?_
    refine g_iaload (pc := 52) dX11_matchesFrom_52 (mA hI 42 8 rfl (by decide)) rfl (by omega) (by decide) rfl ?_
    refine m_iast (pc := 53) (k := 43) (n := 8) hI rfl (by decide) dX11_matchesFrom_53 rfl (by omega) (by decide) (fun h hI fr => ?_)
    replace hF := mFr.tr hF fr
    refine g_iinc (pc := 54) (ls' := [_, _, _, _, _]) dX11_matchesFrom_54 rfl (by first | exact nI_1 _ | exact rfl) (by decide) rfl rfl ?_
    refine g_goto (pc := 57) 34 dX11_matchesFrom_57 (by decide) ?_
    refine ih (k + 1) _ h (by omega) (by omega) hI hF (e1.tr mtE.best) ((sv_ne (by decide)).trans e2) (by rw [sv_ne (by decide)]; exact e3) (fun j hj => ?_)
    by_cases w : j = k
    · subst w
      rw [sv_same, e2]
    · rw [sv_nj w]
      exact e4 j (by omega)
set_option maxHeartbeats 4000000 in
theorem l_mF {bc bs : Nat} {h0 : jH} {m' : Nat} (hd : 2 ≤ d) (p : Nat) (hp : p < nP) (hpm : p + 1 + m' = nP) (s : Int32) (g b0 : Nat) (hg : g ≤ p) (hT : MT V D nS nR nP) (hP : mtP ab cu nP V) (hgb : ∀ s, moF ab nR m' (p + 1) s ≤ m') (IH : ∀ (s : Int32) (g b0 : Nat) (V : mV) (h : jH), InvM am V h → MT V D nS nR nP → mtP ab cu nP V → V 0 46 = mB b0 → b0 ≤ 9 → g ≤ p + 1 → Ct E (d - 1) 0 0 mX11_matchesFrom [vR (nMo am), vI (nI (p + 1)), vI s, vI (nI g)] h (mtR am V h nP (p + 1) (mtW ab nR m' (p + 1) s g b0 V).1 (mtW ab nR m' (p + 1) s g b0 V).2)) : ∀ (m r : Nat) (V' : mV) (h : jH), nR - r = m → r ≤ nR → InvM am V' h → mFr h0 h → mtE V V' → (∀ j, j < p → V' 42 j = V 42 j) → V' 0 46 = mB (bsF (cdQ ab nR p s) (cdF ab nR m' p s g) (cdA ab nR m' p s (V 42)) b0 (V 43) r).1 → (bsF (cdQ ab nR p s) (cdF ab nR m' p s g) (cdA ab nR m' p s (V 42)) b0 (V 43) r).1 ≤ 9 → (∀ j, j < nP → V' 43 j = (bsF (cdQ ab nR p s) (cdF ab nR m' p s g) (cdA ab nR m' p s (V 42)) b0 (V 43) r).2 j) → G E d bc bs mX11_matchesFrom 64 [some (vR (nMo am)), some (vI (nI p)), some (vI s), some (vI (nI g)), some (vI (nI r))] [] h (mtR am V h0 nP p (mtW ab nR (m' + 1) p s g b0 V).1 (mtW ab nR (m' + 1) p s g b0 V).2) := by
  intro m
  have b8 := hT.2.2.2.2.2.1
  have b10 := hT.2.2.2.2.1
  induction m with
  | zero =>
    intro r V' h hm hr hI hF e1 e2 e3 e5 e4
    have e : r = nR := by omega
    subst e
    have hT' := e1.mt hT
    refine g_iload (pc := 64) dX11_matchesFrom_64 rfl ?_
    refine g_aload_n (pc := 66) dX11_matchesFrom_66 rfl ?_
    refine g_getfield (pc := 67) f_X11_23_11 dX11_matchesFrom_67 hI.1 mf_12 ?_
    refine g_iconst (pc := 70) (v := 1) dX11_matchesFrom_70 (by decide) ?_
    refine g_iaload (pc := 71) dX11_matchesFrom_71 (mA hI 12 3 rfl (by decide)) (j := 1) (by decide) (by omega) (by decide) rfl ?_
    rw [hT'.2.1]
    refine g_icmp_ge (pc := 72) 131 dX11_matchesFrom_72 (by decide) (fun c_72 => ?_) (fun c_72 => absurd (nI_le (Nat.le_refl _) (by omega)) c_72)
    refine g_aload_n (pc := 131) dX11_matchesFrom_131 rfl ?_
    refine g_getfield (pc := 132) f_X11_85_11 dX11_matchesFrom_132 hI.1 mf_42 ?_
    refine g_iload_n (pc := 135) dX11_matchesFrom_135 rfl ?_
    refine g_iconst (pc := 136) (v := -1) dX11_matchesFrom_136 (by decide) ?_
    refine m_iast (pc := 137) (k := 42) (n := 8) hI rfl (by decide) dX11_matchesFrom_137 rfl (by omega) (by decide) (fun h hI fr => ?_)
    replace hF := mFr.tr hF fr
    refine g_aload_n (pc := 138) dX11_matchesFrom_138 rfl ?_
    refine g_iload_n (pc := 139) dX11_matchesFrom_139 rfl ?_
    refine g_iconst (pc := 140) (v := 1) dX11_matchesFrom_140 (by decide) ?_
    refine g_iadd (pc := 141) dX11_matchesFrom_141 ?_
    rw [nI_1]
    refine g_iload_n (pc := 142) dX11_matchesFrom_142 rfl ?_
    refine g_iload_n (pc := 143) dX11_matchesFrom_143 rfl ?_
    refine m_cX (pc := 144) (M' := mX11_matchesFrom) (as := [_, _, _]) i_X11_348_11 eX11_matchesFrom hI dX11_matchesFrom_144 (IH s g _ _ h hI ((e1.tr mtE.by).mt hT) ((e1.tr mtE.by).pp hP) (by rw [sv_ne (by decide)]; exact e3) e5 (by omega)) (by omega) rfl rfl (Nat.le_of_ble_eq_true rfl) (fun r9 h9 q9 => ?_)
    obtain ⟨rfl, V2, hI, fr, f1, f2, f3, f4⟩ := q9
    refine ⟨none, rfl, ?_⟩
    replace hF := mFr.tr hF fr
    refine g_return (pc := 147) dX11_matchesFrom_147 rfl ?_
    have hq0 : cdQ ab r p s r = true := by
      unfold cdQ
      rw [if_neg (Nat.lt_irrefl _)]
    have ev0 : cdF ab r m' p s g r = g + moF ab r m' (p + 1) s + 1 := by
      unfold cdF
      rw [if_neg (Nat.lt_irrefl _)]
    refine ⟨rfl, V2, hI, hF, (e1.tr mtE.by).tr f1, fun j hj => ?_, ?_, fun j hj => ?_⟩
    · rw [f2 j (by omega), sv_nj (by omega)]
      exact e2 j hj
    · rw [f3, ← (bs_mt (V := V)).1, bsF_s, ev0]
      unfold mtW
      by_cases w : (bsF (cdQ ab r p s) (cdF ab r m' p s g) (cdA ab r m' p s (V 42)) b0 (V 43) r).1 < g + moF ab r m' (p + 1) s + 1
      · rw [if_pos w, if_pos ⟨hq0, w⟩]
      · rw [if_neg w, if_neg (fun z => w z.2)]
    · rw [f4 j hj, ← (bs_mt (V := V)).2 j, bsF_s, ev0]
      unfold mtW
      by_cases w : (bsF (cdQ ab r p s) (cdF ab r m' p s g) (cdA ab r m' p s (V 42)) b0 (V 43) r).1 < g + moF ab r m' (p + 1) s + 1
      · rw [if_pos w, if_pos ⟨hq0, w⟩]
        show (if _ then _ else _) = cdA ab r m' p s (V 42) r j
        unfold cdA chV chS
        rw [if_neg (Nat.lt_irrefl _), if_neg (Nat.lt_irrefl _)]
        by_cases w2 : j < p
        · rw [if_pos (show j < p + 1 by omega), if_pos w2, sv_nj (show j ≠ p by omega)]
          exact e2 j w2
        · rw [if_neg w2]
          by_cases w3 : j = p
          · rw [if_pos (show j < p + 1 by omega), if_pos w3, w3, sv_same]
          · rw [if_neg (show ¬ j < p + 1 by omega), if_neg w3]
      · rw [if_neg w, if_neg (fun z => w z.2)]
        show sv V' 42 p (-1) 43 j = _
        rw [sv_ne (by decide)]
        exact e4 j hj
  | succ m ih =>
    intro r V' h hm hr hI hF e1 e2 e3 e5 e4
    have hT' := e1.mt hT
    have hP' := e1.pp hP
    have hrn : r < nR := by omega
    refine g_iload (pc := 64) dX11_matchesFrom_64 rfl ?_
    refine g_aload_n (pc := 66) dX11_matchesFrom_66 rfl ?_
    refine g_getfield (pc := 67) f_X11_23_11 dX11_matchesFrom_67 hI.1 mf_12 ?_
    refine g_iconst (pc := 70) (v := 1) dX11_matchesFrom_70 (by decide) ?_
    refine g_iaload (pc := 71) dX11_matchesFrom_71 (mA hI 12 3 rfl (by decide)) (j := 1) (by decide) (by omega) (by decide) rfl ?_
    rw [hT'.2.1]
    refine g_icmp_ge (pc := 72) 131 dX11_matchesFrom_72 (by decide) (fun c_72 => absurd c_72 (by intro w; have := (nI_leI (by omega) (by omega)).mp w; omega)) (fun c_72 => ?_)
    refine g_iload_n (pc := 75) dX11_matchesFrom_75 rfl ?_
    refine g_iload (pc := 76) dX11_matchesFrom_76 rfl ?_
    refine g_cS (pc := 78) (M' := mX11_has) (as := [_, _]) i_X11_263 eX11_has dX11_matchesFrom_78 (c_has _ _) (by omega) rfl rfl (Nat.le_of_ble_eq_true rfl) ?_
    refine g_ifB_ne (pc := 81) 125 dX11_matchesFrom_81 (by decide) (fun c_81 => ?_) (fun c_81 => ?_)
    · refine g_iinc (pc := 125) (ls' := [_, _, _, _, _]) dX11_matchesFrom_125 rfl (by first | exact nI_1 _ | exact rfl) (by decide) rfl rfl ?_
      refine g_goto (pc := 128) 64 dX11_matchesFrom_128 (by decide) ?_
      have ef : cdQ ab nR p s r = false := by
        unfold cdQ freeB
        rw [if_pos hrn, c_81]
        rfl
      have eb : bsF (cdQ ab nR p s) (cdF ab nR m' p s g) (cdA ab nR m' p s (V 42)) b0 (V 43) (r + 1) = bsF (cdQ ab nR p s) (cdF ab nR m' p s g) (cdA ab nR m' p s (V 42)) b0 (V 43) r := by
        show (if _ then _ else _) = _
        rw [if_neg (fun z => absurd (ef.symm.trans z.1) (by decide))]
      refine ih (r + 1) V' h (by omega) (by omega) hI hF e1 e2 ?_ ?_ ?_
      · rw [eb]; exact e3
      · rw [eb]; exact e5
      · rw [eb]; exact e4
    · refine g_aload_n (pc := 84) dX11_matchesFrom_84 rfl ?_
      refine g_getfield (pc := 85) f_X11_91_11 dX11_matchesFrom_85 hI.1 mf_44 ?_
      refine g_iload_n (pc := 88) dX11_matchesFrom_88 rfl ?_
      refine g_iaload (pc := 89) dX11_matchesFrom_89 (mA hI 44 8 rfl (by decide)) rfl (by omega) (by decide) rfl ?_
      rw [hP'.1 p hp]
      refine g_iload (pc := 90) dX11_matchesFrom_90 rfl ?_
      refine g_cS (pc := 92) (M' := mX11_has) (as := [_, _]) i_X11_263 eX11_has dX11_matchesFrom_92 (c_has _ _) (by omega) rfl rfl (Nat.le_of_ble_eq_true rfl) ?_
      refine g_ifB_ne (pc := 95) 101 dX11_matchesFrom_95 (by decide) (fun c_95 => ?_) (fun c_95 => ?_)
      · refine g_aload_n (pc := 101) dX11_matchesFrom_101 rfl ?_
        refine g_getfield (pc := 102) f_X11_85_11 dX11_matchesFrom_102 hI.1 mf_42 ?_
        refine g_iload_n (pc := 105) dX11_matchesFrom_105 rfl ?_
        refine g_iload (pc := 106) dX11_matchesFrom_106 rfl ?_
        refine m_iast (pc := 108) (k := 42) (n := 8) hI rfl (by decide) dX11_matchesFrom_108 rfl (by omega) (by decide) (fun h hI fr => ?_)
        replace hF := mFr.tr hF fr
        refine g_aload_n (pc := 109) dX11_matchesFrom_109 rfl ?_
        refine g_iload_n (pc := 110) dX11_matchesFrom_110 rfl ?_
        refine g_iconst (pc := 111) (v := 1) dX11_matchesFrom_111 (by decide) ?_
        refine g_iadd (pc := 112) dX11_matchesFrom_112 ?_
        rw [nI_1]
        refine g_iload_n (pc := 113) dX11_matchesFrom_113 rfl ?_
        refine g_iconst (pc := 114) (v := 1) dX11_matchesFrom_114 (by decide) ?_
        refine g_iload (pc := 115) dX11_matchesFrom_115 rfl ?_
        refine g_ishl (pc := 117) dX11_matchesFrom_117 ?_
        refine g_ior (pc := 118) dX11_matchesFrom_118 ?_
        refine g_iload_n (pc := 119) dX11_matchesFrom_119 rfl ?_
        refine g_iconst (pc := 120) (v := 1) dX11_matchesFrom_120 (by decide) ?_
        refine g_iadd (pc := 121) dX11_matchesFrom_121 ?_
        rw [nI_1]
        refine m_cX (pc := 122) (M' := mX11_matchesFrom) (as := [_, _, _]) i_X11_348_11 eX11_matchesFrom hI dX11_matchesFrom_122 (IH (s ||| bitI r) (g + 1) _ _ h hI ((e1.tr mtE.by).mt hT) ((e1.tr mtE.by).pp hP) (by rw [sv_ne (by decide)]; exact e3) e5 (by omega)) (by omega) rfl rfl (Nat.le_of_ble_eq_true rfl) (fun r9 h9 q9 => ?_)
        obtain ⟨rfl, V2, hI, fr, f1, f2, f3, f4⟩ := q9
        refine ⟨none, rfl, ?_⟩
        replace hF := mFr.tr hF fr
        refine g_iinc (pc := 125) (ls' := [_, _, _, _, _]) dX11_matchesFrom_125 rfl (by first | exact nI_1 _ | exact rfl) (by decide) rfl rfl ?_
        refine g_goto (pc := 128) 64 dX11_matchesFrom_128 (by decide) ?_
        have ef : cdQ ab nR p s r = true := by
          unfold cdQ freeB
          rw [if_pos hrn, c_81, c_95]
          rfl
        have ev : cdF ab nR m' p s g r = g + 1 + moF ab nR m' (p + 1) (s ||| bitI r) + 1 := by
          unfold cdF
          rw [if_pos hrn]
          omega
        have hgb9 := hgb (s ||| bitI r)
        refine ih (r + 1) V2 h9 (by omega) (by omega) hI hF ((e1.tr mtE.by).tr f1) (fun j hj => ?_) ?_ ?_ (fun j hj => ?_)
        · rw [f2 j (by omega), sv_nj (by omega)]
          exact e2 j hj
        · rw [f3]
          rw [bsF_s]
          unfold mtW
          rw [ev]
          by_cases w : (bsF (cdQ ab nR p s) (cdF ab nR m' p s g) (cdA ab nR m' p s (V 42)) b0 (V 43) r).1 < g + 1 + moF ab nR m' (p + 1) (s ||| bitI r) + 1
          · rw [if_pos w, if_pos ⟨ef, w⟩]
          · rw [if_neg w, if_neg (fun z => w z.2)]
        · rw [bsF_s]
          rw [ev]
          by_cases w : (bsF (cdQ ab nR p s) (cdF ab nR m' p s g) (cdA ab nR m' p s (V 42)) b0 (V 43) r).1 < g + 1 + moF ab nR m' (p + 1) (s ||| bitI r) + 1
          · rw [if_pos ⟨ef, w⟩]
            dsimp only
            omega
          · rw [if_neg (fun z => w z.2)]
            exact e5
        · rw [f4 j hj]
          rw [bsF_s]
          unfold mtW
          rw [ev]
          by_cases w : (bsF (cdQ ab nR p s) (cdF ab nR m' p s g) (cdA ab nR m' p s (V 42)) b0 (V 43) r).1 < g + 1 + moF ab nR m' (p + 1) (s ||| bitI r) + 1
          · rw [if_pos w, if_pos ⟨ef, w⟩]
            show (if _ then _ else _) = cdA ab nR m' p s (V 42) r j
            unfold cdA chV chS
            rw [if_pos hrn, if_pos hrn]
            by_cases w2 : j < p
            · rw [if_pos (show j < p + 1 by omega), if_pos w2, sv_nj (show j ≠ p by omega)]
              exact e2 j w2
            · rw [if_neg w2]
              by_cases w3 : j = p
              · rw [if_pos (show j < p + 1 by omega), if_pos w3, w3, sv_same]
              · rw [if_neg (show ¬ j < p + 1 by omega), if_neg w3]
          · rw [if_neg w, if_neg (fun z => w z.2)]
            show sv V' 42 p (nI r) 43 j = _
            rw [sv_ne (by decide)]
            exact e4 j hj
      · refine g_goto (pc := 98) 125 dX11_matchesFrom_98 (by decide) ?_
        refine g_iinc (pc := 125) (ls' := [_, _, _, _, _]) dX11_matchesFrom_125 rfl (by first | exact nI_1 _ | exact rfl) (by decide) rfl rfl ?_
        refine g_goto (pc := 128) 64 dX11_matchesFrom_128 (by decide) ?_
        have ef : cdQ ab nR p s r = false := by
          unfold cdQ freeB
          rw [if_pos hrn, c_95]
          simp
        have eb : bsF (cdQ ab nR p s) (cdF ab nR m' p s g) (cdA ab nR m' p s (V 42)) b0 (V 43) (r + 1) = bsF (cdQ ab nR p s) (cdF ab nR m' p s g) (cdA ab nR m' p s (V 42)) b0 (V 43) r := by
          show (if _ then _ else _) = _
          rw [if_neg (fun z => absurd (ef.symm.trans z.1) (by decide))]
        refine ih (r + 1) V' h (by omega) (by omega) hI hF e1 e2 ?_ ?_ ?_
        · rw [eb]; exact e3
        · rw [eb]; exact e5
        · rw [eb]; exact e4
theorem moF_le {ab : Nat → Int32} {nR : Nat} : ∀ m p s, moF ab nR m p s ≤ m
  | 0, _, _ => Nat.le_refl _
  | m + 1, p, s => by
    have hat := mxF_at (q := freeB ab p s) (f := fun r => 1 + moF ab nR m (p + 1) (s ||| bitI r)) (b := moF ab nR m (p + 1) s) nR
    show mxF _ _ _ _ ≤ _
    rcases hat with w | ⟨k, h1, h2, h3⟩
    · rw [w]
      have := moF_le (ab := ab) (nR := nR) m (p + 1) s
      omega
    · rw [← h3]
      have := moF_le (ab := ab) (nR := nR) m (p + 1) (s ||| bitI k)
      omega
set_option maxHeartbeats 4000000 in
theorem c_mF (hcu : ∀ m p s, p + m = nP → moF ab nR m p s ≤ cu p) (hcz : cu nP = 0) : ∀ (m d p : Nat) (s : Int32) (g b0 : Nat) (V : mV) (h : jH), m + 2 ≤ d → p + m = nP → InvM am V h → MT V D nS nR nP → mtP ab cu nP V → V 0 46 = mB b0 → b0 ≤ 9 → g ≤ p → Ct E d 0 0 mX11_matchesFrom [vR (nMo am), vI (nI p), vI s, vI (nI g)] h (mtR am V h nP p (mtW ab nR m p s g b0 V).1 (mtW ab nR m p s g b0 V).2) := by
  intro m
  induction m with
  | zero =>
    intro d p s g b0 V h hd hpm hI hT hP h46 hb hg
    have b8 := hT.2.2.2.2.2.1
    obtain ⟨hc1, hc2⟩ := hP.2 p (by omega)
    have hc3 := hcu 0 p s hpm
    refine ct_of (by decide) (Nat.le_of_ble_eq_true rfl) rfl ?_
    have hF : mFr h h := mFr.rf
    refine g_iload_n (pc := 0) dX11_matchesFrom_0 rfl ?_
    refine g_aload_n (pc := 1) dX11_matchesFrom_1 rfl ?_
    refine g_getfield (pc := 2) f_X11_94_11 dX11_matchesFrom_2 hI.1 mf_45 ?_
    refine g_iload_n (pc := 5) dX11_matchesFrom_5 rfl ?_
    refine g_iaload (pc := 6) dX11_matchesFrom_6 (mA hI 45 9 rfl (by decide)) rfl (by omega) (by decide) rfl ?_
    rw [hc1]
    refine g_iadd (pc := 7) dX11_matchesFrom_7 ?_
    rw [nI_add]
    refine g_aload_n (pc := 8) dX11_matchesFrom_8 rfl ?_
    refine g_getfield (pc := 9) f_X11_345_11 dX11_matchesFrom_9 hI.1 mf_46 ?_
    rw [h46]
    refine g_icmp_gt (pc := 12) 16 dX11_matchesFrom_12 (by decide) (fun c_12 => ?_) (fun c_12 => ?_)
    · refine g_iload_n (pc := 16) dX11_matchesFrom_16 rfl ?_
      refine g_aload_n (pc := 17) dX11_matchesFrom_17 rfl ?_
      refine g_getfield (pc := 18) f_X11_23_11 dX11_matchesFrom_18 hI.1 mf_12 ?_
      refine g_iconst (pc := 21) (v := 2) dX11_matchesFrom_21 (by decide) ?_
      refine g_iaload (pc := 22) dX11_matchesFrom_22 (mA hI 12 3 rfl (by decide)) (j := 2) (by decide) (by omega) (by decide) rfl ?_
      rw [hT.2.2.1]
      refine g_icmp_ne (pc := 23) 61 dX11_matchesFrom_23 (by decide) (fun c_23 => absurd (by rw [show p = nP by omega]) c_23) (fun c_23 => ?_)
      refine g_aload_n (pc := 26) dX11_matchesFrom_26 rfl ?_
      refine g_iload_n (pc := 27) dX11_matchesFrom_27 rfl ?_
      refine m_put (pc := 28) hI w_X11_345_11 rfl (by decide) dX11_matchesFrom_28 (fun h hI fr => ?_)
      replace hF := mFr.tr hF fr
      refine g_iconst (pc := 31) (v := 0) dX11_matchesFrom_31 (by decide) ?_
      refine g_istore (pc := 32) (ls' := [_, _, _, _, _]) dX11_matchesFrom_32 (by decide) rfl rfl ?_
      have e0 : moF ab nR 0 p s = 0 := rfl
      have hlt := (mB_lt (by omega) (by omega)).mp c_12
      have hc0 : cu p = 0 := by rw [show p = nP by omega]; exact hcz
      refine l_mcopy (V := sv V 0 46 (nI g)) p (by omega) s (nI g) (fun V' h hI hF e1 e2 e3 e4 => ?_) p 0 _ h rfl (Nat.zero_le _) hI hF mtE.rf rfl rfl (fun j hj => absurd hj (Nat.not_lt_zero j))
      refine g_return (pc := 60) dX11_matchesFrom_60 rfl ?_
      refine ⟨rfl, V', hI, hF, mtE.most.tr e1, fun j _ => by rw [e2, sv_ne (by decide)], ?_, fun j hj => ?_⟩
      · rw [e3, sv_same]
        unfold mtW
        rw [e0, if_pos (by omega)]
        rfl
      · rw [e4 j (by omega), sv_ne (by decide)]
        unfold mtW
        rw [e0, if_pos (by omega)]
        show _ = if _ then _ else _
        rw [if_pos (by omega)]
    · refine g_return (pc := 15) dX11_matchesFrom_15 rfl ?_
      refine ⟨rfl, V, hI, hF, mtE.rf, fun _ _ => rfl, ?_, ?_⟩
      · rw [h46]
        unfold mtW
        rw [if_neg (fun w => c_12 ((mB_lt (by omega) (by omega)).mpr (by omega)))]
      · intro j _
        unfold mtW
        rw [if_neg (fun w => c_12 ((mB_lt (by omega) (by omega)).mpr (by omega)))]
  | succ m ih =>
    intro d p s g b0 V h hd hpm hI hT hP h46 hb hg
    have b8 := hT.2.2.2.2.2.1
    obtain ⟨hc1, hc2⟩ := hP.2 p (by omega)
    have hc3 := hcu (m + 1) p s hpm
    refine ct_of (by decide) (Nat.le_of_ble_eq_true rfl) rfl ?_
    have hF : mFr h h := mFr.rf
    refine g_iload_n (pc := 0) dX11_matchesFrom_0 rfl ?_
    refine g_aload_n (pc := 1) dX11_matchesFrom_1 rfl ?_
    refine g_getfield (pc := 2) f_X11_94_11 dX11_matchesFrom_2 hI.1 mf_45 ?_
    refine g_iload_n (pc := 5) dX11_matchesFrom_5 rfl ?_
    refine g_iaload (pc := 6) dX11_matchesFrom_6 (mA hI 45 9 rfl (by decide)) rfl (by omega) (by decide) rfl ?_
    rw [hc1]
    refine g_iadd (pc := 7) dX11_matchesFrom_7 ?_
    rw [nI_add]
    refine g_aload_n (pc := 8) dX11_matchesFrom_8 rfl ?_
    refine g_getfield (pc := 9) f_X11_345_11 dX11_matchesFrom_9 hI.1 mf_46 ?_
    rw [h46]
    refine g_icmp_gt (pc := 12) 16 dX11_matchesFrom_12 (by decide) (fun c_12 => ?_) (fun c_12 => ?_)
    · refine g_iload_n (pc := 16) dX11_matchesFrom_16 rfl ?_
      refine g_aload_n (pc := 17) dX11_matchesFrom_17 rfl ?_
      refine g_getfield (pc := 18) f_X11_23_11 dX11_matchesFrom_18 hI.1 mf_12 ?_
      refine g_iconst (pc := 21) (v := 2) dX11_matchesFrom_21 (by decide) ?_
      refine g_iaload (pc := 22) dX11_matchesFrom_22 (mA hI 12 3 rfl (by decide)) (j := 2) (by decide) (by omega) (by decide) rfl ?_
      rw [hT.2.2.1]
      refine g_icmp_ne (pc := 23) 61 dX11_matchesFrom_23 (by decide) (fun c_23 => ?_) (fun c_23 => absurd ((nI_eq (by omega) (by omega)).mp c_23) (by omega))
      refine g_iconst (pc := 61) (v := 0) dX11_matchesFrom_61 (by decide) ?_
      refine g_istore (pc := 62) (ls' := [_, _, _, _, _]) dX11_matchesFrom_62 (by decide) rfl rfl ?_
      exact l_mF (m' := m) (by omega) p (by omega) (by omega) s g b0 hg hT hP (fun s => moF_le m (p + 1) s) (fun s g b0 V h hI hT hP h46 hb hg => ih (d - 1) (p + 1) s g b0 V h (by omega) (by omega) hI hT hP h46 hb hg) nR 0 V h rfl (Nat.zero_le _) hI hF mtE.rf (fun _ _ => rfl) h46 hb (fun _ _ => rfl)
    · refine g_return (pc := 15) dX11_matchesFrom_15 rfl ?_
      refine ⟨rfl, V, hI, hF, mtE.rf, fun _ _ => rfl, ?_, ?_⟩
      · rw [h46]
        unfold mtW
        rw [if_neg (fun w => c_12 ((mB_lt (by omega) (by omega)).mpr (by omega)))]
      · intro j _
        unfold mtW
        rw [if_neg (fun w => c_12 ((mB_lt (by omega) (by omega)).mpr (by omega)))]
def abI (lw : (Nat → Int32) → Int32) (D : Nat → Nat → Nat) (nR : Nat) (R : Nat → Int32) (p : Nat) : Int32 := bitsI (fun r => ccI lw D nR R r p) nR
/-- how many of those from p on (m of them) can be cured at all -/
def cuF (ab : Nat → Int32) (p : Nat) : Nat → Nat
  | 0 => 0
  | m + 1 => cuF ab (p + 1) m + (if ab p = 0 then 0 else 1)
theorem cuF_le (ab : Nat → Int32) : ∀ m p, cuF ab p m ≤ m
  | 0, _ => Nat.le_refl _
  | m + 1, p => by
    have := cuF_le ab m (p + 1)
    unfold cuF
    split <;> omega
theorem has0 (k : Int32) : hasI 0 k = false := by
  unfold hasI
  have : ∀ x : Int32, (0 : Int32) >>> x = 0 := fun x => by simp
  rw [this]
  decide
theorem mo_cu {ab : Nat → Int32} {nR : Nat} : ∀ m p s, moF ab nR m p s ≤ cuF ab p m
  | 0, _, _ => Nat.le_refl _
  | m + 1, p, s => by
    have hat := mxF_at (q := freeB ab p s) (f := fun r => 1 + moF ab nR m (p + 1) (s ||| bitI r)) (b := moF ab nR m (p + 1) s) nR
    show mxF _ _ _ _ ≤ _
    unfold cuF
    rcases hat with w | ⟨k, h1, h2, h3⟩
    · rw [w]
      have := mo_cu (ab := ab) (nR := nR) m (p + 1) s
      omega
    · rw [← h3]
      have := mo_cu (ab := ab) (nR := nR) m (p + 1) (s ||| bitI k)
      have hne : ¬ ab p = 0 := fun e => by
        unfold freeB at h2
        rw [e, has0] at h2
        simp at h2
      rw [if_neg hne]
      omega
/-- rows 44, 45 filled from p on -/
def mtF (V : mV) (ab : Nat → Int32) (nP : Nat) (V' : mV) (p : Nat) : Prop := (∀ r, r ≠ 44 → r ≠ 45 → V' r = V r) ∧ (∀ j, p ≤ j → j < nP → V' 44 j = ab j) ∧ ∀ j, p ≤ j → j ≤ nP → V' 45 j = nI (cuF ab j (nP - j))
theorem MT.of {V V' : mV} {D : Nat → Nat → Nat} {nS nR nP : Nat} (h : MT V D nS nR nP) (e : ∀ r, (r = 12 ∨ r = 14 ∨ (18000 ≤ r ∧ r < 18010) ∨ (20000 ≤ r ∧ r < 20008)) → V' r = V r) : MT V' D nS nR nP := by
  unfold MT at h ⊢
  rw [e 12 (by omega), e 14 (by omega)]
  refine ⟨h.1, h.2.1, h.2.2.1, h.2.2.2.1, h.2.2.2.2.1, h.2.2.2.2.2.1, fun r hr => ?_, fun p hp => ?_, h.2.2.2.2.2.2.2.2⟩
  · rw [e (1000 * 18 + r) (by omega)]; exact h.2.2.2.2.2.2.1 r hr
  · rw [e (1000 * 20 + p) (by omega)]; exact h.2.2.2.2.2.2.2.1 p hp
theorem okL.of {V V' : mV} (h : okL V) (e0 : V' 0 21 = V 0 21) (e : ∀ r, 23000 ≤ r → r < 23160 → V' r = V r) : okL V' ∧ mlaw V' = mlaw V := by
  obtain ⟨L, h1, h2⟩ := h
  have h160 := h2.1
  have key : ∀ k, k < L → V' (1000 * 23 + k) = V (1000 * 23 + k) := fun k hk => e _ (by omega) (by omega)
  have ev : ∀ f k, k ≤ L → evL (fun k => V' (1000 * 23 + k)) f k = evL (fun k => V (1000 * 23 + k)) f k := by
    intro f k
    induction k with
    | zero => intro _; rfl
    | succ k ih =>
      intro hk
      unfold evL
      rw [ih (by omega)]
      rw [key k (by omega)]
  refine ⟨⟨L, e0.trans h1, h160, fun k hk => ?_⟩, ?_⟩
  · have := h2.2 k hk
    rw [show (fun k => V' (1000 * 23 + k)) k = V (1000 * 23 + k) from key k hk]
    rcases this with q | q | ⟨q1, q2⟩
    · exact Or.inl q
    · exact Or.inr (Or.inl q)
    · exact Or.inr (Or.inr ⟨q1, fun f => by rw [ev f k (by omega)]; exact q2 f⟩)
  · funext f
    unfold mlaw lawI
    have eL : (V' 0 21).toNatClampNeg = L := by rw [e0, h1, nI_clamp (by omega)]
    have eL2 : (V 0 21).toNatClampNeg = L := by rw [h1, nI_clamp (by omega)]
    rw [eL, eL2, ev f L (Nat.le_refl _)]
set_option maxHeartbeats 4000000 in
theorem l_mt1 {bc bs : Nat} {h0 : jH} {Q : jR → jH → Prop} (hd : 9 ≤ d) (hT0 : MT V D nS nR nP) (hl0 : okL V) (p : Nat) (hp : p < nP) (V1 : mV) (h1 : ∀ r, r ≠ 44 → r ≠ 45 → V1 r = V r) (kk : ∀ V' h, InvM am V' h → mFr h0 h → (∀ r, r ≠ 44 → V' r = V1 r) → (∀ j, j ≠ p → V' 44 j = V1 44 j) → V' 44 p = bitsI (fun r => ccI (mlaw V) D nR (V 31) r p) nR → G E d bc bs mX11_matches 79 [some (vR (nMo am)), some (vI (nI p)), some (vI (nI nR))] [] h Q) : ∀ (m r : Nat) (V' : mV) (h : jH), nR - r = m → r ≤ nR → InvM am V' h → mFr h0 h → (∀ r, r ≠ 44 → V' r = V1 r) → (∀ j, j ≠ p → V' 44 j = V1 44 j) → V' 44 p = bitsI (fun r => ccI (mlaw V) D nR (V 31) r p) r → G E d bc bs mX11_matches 34 [some (vR (nMo am)), some (vI (nI p)), some (vI (nI r))] [] h Q := by
  intro m
  have b10 := hT0.2.2.2.2.1
  have b8 := hT0.2.2.2.2.2.1
  induction m with
  | zero =>
    intro r V' h hm hr hI hF e1 e2 e3
    have e : r = nR := by omega
    subst e
    have hT : MT V' D nS r nP := hT0.of (fun q hq => by rw [e1 q (by omega), h1 q (by omega) (by omega)])
    refine g_iload_n (pc := 34) dX11_matches_34 rfl ?_
    refine g_aload_n (pc := 35) dX11_matches_35 rfl ?_
    refine g_getfield (pc := 36) f_X11_23_11 dX11_matches_36 hI.1 mf_12 ?_
    refine g_iconst (pc := 39) (v := 1) dX11_matches_39 (by decide) ?_
    refine g_iaload (pc := 40) dX11_matches_40 (mA hI 12 3 rfl (by decide)) (j := 1) (by decide) (by omega) (by decide) rfl ?_
    rw [hT.2.1]
    refine g_icmp_ge (pc := 41) 79 dX11_matches_41 (by decide) (fun c_41 => ?_) (fun c_41 => absurd (nI_le (Nat.le_refl _) (by omega)) c_41)
    exact kk V' h hI hF e1 e2 e3
  | succ m ih =>
    intro r V' h hm hr hI hF e1 e2 e3
    have e9 : ∀ q, q ≠ 44 → q ≠ 45 → V' q = V q := fun q a b => (e1 q a).trans (h1 q a b)
    have hT : MT V' D nS nR nP := hT0.of (fun q hq => e9 q (by omega) (by omega))
    have hl := hl0.of (V' := V') (by rw [e9 0 (by decide) (by decide)]) (fun q a b => e9 q (by omega) (by omega))
    refine g_iload_n (pc := 34) dX11_matches_34 rfl ?_
    refine g_aload_n (pc := 35) dX11_matches_35 rfl ?_
    refine g_getfield (pc := 36) f_X11_23_11 dX11_matches_36 hI.1 mf_12 ?_
    refine g_iconst (pc := 39) (v := 1) dX11_matches_39 (by decide) ?_
    refine g_iaload (pc := 40) dX11_matches_40 (mA hI 12 3 rfl (by decide)) (j := 1) (by decide) (by omega) (by decide) rfl ?_
    rw [hT.2.1]
    refine g_icmp_ge (pc := 41) 79 dX11_matches_41 (by decide) (fun c_41 => absurd c_41 (by intro w; have := (nI_leI (by omega) (by omega)).mp w; omega)) (fun c_41 => ?_)
    refine g_aload_n (pc := 44) dX11_matches_44 rfl ?_
    refine g_getfield (pc := 45) f_X11_91_11 dX11_matches_45 hI.1 mf_44 ?_
    refine g_iload_n (pc := 48) dX11_matches_48 rfl ?_
    refine g_dup2 (pc := 49) dX11_matches_49 rfl rfl ?_
    refine g_iaload (pc := 50) dX11_matches_50 (mA hI 44 8 rfl (by decide)) rfl (by omega) (by decide) rfl ?_
    rw [e3]
    refine g_aload_n (pc := 51) dX11_matches_51 rfl ?_
    refine g_aload_n (pc := 52) dX11_matches_52 rfl ?_
    refine g_getfield (pc := 53) f_X11_73_11 dX11_matches_53 hI.1 mf_31 ?_
    refine g_iload_n (pc := 56) dX11_matches_56 rfl ?_
    refine g_iload_n (pc := 57) dX11_matches_57 rfl ?_
    refine m_cP (pc := 58) (M' := mX11_canCure) (as := [_, _, _]) i_X11_299_11 eX11_canCure hI dX11_matches_58 (c_canCure (by omega) hI hT hl.1 (k := 31) rfl r p (by omega) hp) (by omega) rfl rfl (Nat.le_of_ble_eq_true rfl) ?_
    rw [hl.2, e9 31 (by decide) (by decide)]
    refine g_ifB_eq (pc := 61) 70 dX11_matches_61 (by decide) (fun c_61 => ?_) (fun c_61 => ?_)
    · refine g_iconst (pc := 70) (v := 0) dX11_matches_70 (by decide) ?_
      refine g_ior (pc := 71) dX11_matches_71 ?_
      refine m_iast (pc := 72) (k := 44) (n := 8) hI rfl (by decide) dX11_matches_72 rfl (by omega) (by decide) (fun h hI fr => ?_)
      replace hF := mFr.tr hF fr
      refine g_iinc (pc := 73) (ls' := [_, _, _]) dX11_matches_73 rfl (by first | exact nI_1 _ | exact rfl) (by decide) rfl rfl ?_
      refine g_goto (pc := 76) 34 dX11_matches_76 (by decide) ?_
      refine ih (r + 1) _ h (by omega) (by omega) hI hF (fun q a => (sv_ne a).trans (e1 q a)) (fun j a => (sv_nj a).trans (e2 j a)) ?_
      rw [sv_same]
      show _ = bitsI (fun r => ccI (mlaw V) D nR (V 31) r p) r ||| (if ccI (mlaw V) D nR (V 31) r p = true then bitI r else 0)
      rw [c_61, if_neg (by decide)]
    · refine g_iconst (pc := 64) (v := 1) dX11_matches_64 (by decide) ?_
      refine g_iload_n (pc := 65) dX11_matches_65 rfl ?_
      refine g_ishl (pc := 66) dX11_matches_66 ?_
      refine g_goto (pc := 67) 71 dX11_matches_67 (by decide) ?_
      refine g_ior (pc := 71) dX11_matches_71 ?_
      refine m_iast (pc := 72) (k := 44) (n := 8) hI rfl (by decide) dX11_matches_72 rfl (by omega) (by decide) (fun h hI fr => ?_)
      replace hF := mFr.tr hF fr
      refine g_iinc (pc := 73) (ls' := [_, _, _]) dX11_matches_73 rfl (by first | exact nI_1 _ | exact rfl) (by decide) rfl rfl ?_
      refine g_goto (pc := 76) 34 dX11_matches_76 (by decide) ?_
      refine ih (r + 1) _ h (by omega) (by omega) hI hF (fun q a => (sv_ne a).trans (e1 q a)) (fun j a => (sv_nj a).trans (e2 j a)) ?_
      rw [sv_same]
      show _ = bitsI (fun r => ccI (mlaw V) D nR (V 31) r p) r ||| (if ccI (mlaw V) D nR (V 31) r p = true then bitI r else 0)
      rw [c_61, if_pos rfl]
      rfl
set_option maxHeartbeats 4000000 in
theorem l_mt2 {bc bs : Nat} {h0 : jH} {Q : jR → jH → Prop} (hd : 9 ≤ d) (hT0 : MT V D nS nR nP) (hl0 : okL V) (kk : ∀ u V' h, InvM am V' h → mFr h0 h → mtF V (abI (mlaw V) D nR (V 31)) nP V' 0 → G E d bc bs mX11_matches 114 [some (vR (nMo am)), some (vI (-1)), u] [] h Q) : ∀ (p : Nat) (u : Option jV) (V' : mV) (h : jH), p ≤ nP → InvM am V' h → mFr h0 h → mtF V (abI (mlaw V) D nR (V 31)) nP V' p → G E d bc bs mX11_matches 21 [some (vR (nMo am)), some (vI (nI p - 1)), u] [] h Q := by
  intro p
  have b8 := hT0.2.2.2.2.2.1
  induction p with
  | zero =>
    intro u V' h hp hI hF e1
    rw [show nI 0 - 1 = -1 by decide]
    refine g_iload_n (pc := 21) dX11_matches_21 rfl ?_
    refine g_if_lt (pc := 22) 114 dX11_matches_22 (by decide) (fun c_22 => ?_) (fun c_22 => absurd (by decide) c_22)
    exact kk u V' h hI hF e1
  | succ p ih =>
    intro u V' h hp hI hF e1
    rw [nI_pred]
    have hT : MT V' D nS nR nP := hT0.of (fun q hq => e1.1 q (by omega) (by omega))
    refine g_iload_n (pc := 21) dX11_matches_21 rfl ?_
    refine g_if_lt (pc := 22) 114 dX11_matches_22 (by decide) (fun c_22 => absurd c_22 (nI_pos (by omega))) (fun c_22 => ?_)
    refine g_aload_n (pc := 25) dX11_matches_25 rfl ?_
    refine g_getfield (pc := 26) f_X11_91_11 dX11_matches_26 hI.1 mf_44 ?_
    refine g_iload_n (pc := 29) dX11_matches_29 rfl ?_
    refine g_iconst (pc := 30) (v := 0) dX11_matches_30 (by decide) ?_
    refine m_iast (pc := 31) (k := 44) (n := 8) hI rfl (by decide) dX11_matches_31 rfl (by omega) (by decide) (fun h hI fr => ?_)
    replace hF := mFr.tr hF fr
    refine g_iconst (pc := 32) (v := 0) dX11_matches_32 (by decide) ?_
    refine g_istore_n (pc := 33) (ls' := [_, _, _]) dX11_matches_33 (by decide) rfl rfl ?_
    refine l_mt1 hd hT0 hl0 p (by omega) _ (fun r a b => (sv_ne a).trans (e1.1 r a b)) (fun V2 h hI hF f1 f2 f3 => ?_) nR 0 _ h rfl (Nat.zero_le _) hI hF (fun r _ => rfl) (fun j _ => rfl) (by rw [sv_same]; rfl)
    have g45 : V2 45 (p + 1) = nI (cuF (abI (mlaw V) D nR (V 31)) (p + 1) (nP - (p + 1))) := by rw [f1 45 (by decide), sv_ne (by decide)]; exact e1.2.2 (p + 1) (by omega) hp
    refine g_aload_n (pc := 79) dX11_matches_79 rfl ?_
    refine g_getfield (pc := 80) f_X11_94_11 dX11_matches_80 hI.1 mf_45 ?_
    refine g_iload_n (pc := 83) dX11_matches_83 rfl ?_
    refine g_aload_n (pc := 84) dX11_matches_84 rfl ?_
    refine g_getfield (pc := 85) f_X11_94_11 dX11_matches_85 hI.1 mf_45 ?_
    refine g_iload_n (pc := 88) dX11_matches_88 rfl ?_
    refine g_iconst (pc := 89) (v := 1) dX11_matches_89 (by decide) ?_
    
    refine g_iadd (pc := 90) dX11_matches_90 ?_
    rw [nI_1]
    refine g_iaload (pc := 91) dX11_matches_91 (mA hI 45 9 rfl (by decide)) (j := p + 1) rfl (by omega) (by decide) rfl ?_
    rw [g45]
    refine g_aload_n (pc := 92) dX11_matches_92 rfl ?_
    refine g_getfield (pc := 93) f_X11_91_11 dX11_matches_93 hI.1 mf_44 ?_
    refine g_iload_n (pc := 96) dX11_matches_96 rfl ?_
    refine g_iaload (pc := 97) dX11_matches_97 (mA hI 44 8 rfl (by decide)) rfl (by omega) (by decide) rfl ?_
    rw [f3]
    refine g_if_ne (pc := 98) 105 dX11_matches_98 (by decide) (fun c_98 => ?_) (fun c_98 => ?_)
    · refine g_iconst (pc := 105) (v := 1) dX11_matches_105 (by decide) ?_
      refine g_iadd (pc := 106) dX11_matches_106 ?_
      refine m_iast (pc := 107) (k := 45) (n := 9) hI rfl (by decide) dX11_matches_107 rfl (by omega) (by decide) (fun h hI fr => ?_)
      replace hF := mFr.tr hF fr
      refine g_iinc (pc := 108) (v := nI p - 1) (ls' := [_, _, _]) dX11_matches_108 rfl (by rw [Int32.sub_eq_add_neg]; rfl) (by decide) rfl rfl ?_
      refine g_goto (pc := 111) 21 dX11_matches_111 (by decide) ?_
      refine ih _ _ h (by omega) hI hF ⟨fun r a b => ?_, fun j a b => ?_, fun j a b => ?_⟩
      · rw [sv_ne b, f1 r a, sv_ne a]
        exact e1.1 r a b
      · rw [sv_ne (by decide)]
        by_cases w : j = p
        · subst w
          exact f3
        · rw [f2 j w, sv_nj w]
          exact e1.2.1 j (by omega) b
      · by_cases w : j = p
        · subst w
          rw [sv_same, show nP - j = (nP - (j + 1)) + 1 by omega]
          show _ = nI (cuF (abI (mlaw V) D nR (V 31)) (j + 1) (nP - (j + 1)) + (if abI (mlaw V) D nR (V 31) j = 0 then 0 else 1))
          rw [if_neg (show ¬ abI (mlaw V) D nR (V 31) j = 0 from c_98), ← nI_1]
        · rw [sv_nj w, f1 45 (by decide), sv_ne (by decide)]
          exact e1.2.2 j (by omega) b
    · refine g_iconst (pc := 101) (v := 0) dX11_matches_101 (by decide) ?_
      refine g_goto (pc := 102) 106 dX11_matches_102 (by decide) ?_
      refine g_iadd (pc := 106) dX11_matches_106 ?_
      refine m_iast (pc := 107) (k := 45) (n := 9) hI rfl (by decide) dX11_matches_107 rfl (by omega) (by decide) (fun h hI fr => ?_)
      replace hF := mFr.tr hF fr
      refine g_iinc (pc := 108) (v := nI p - 1) (ls' := [_, _, _]) dX11_matches_108 rfl (by rw [Int32.sub_eq_add_neg]; rfl) (by decide) rfl rfl ?_
      refine g_goto (pc := 111) 21 dX11_matches_111 (by decide) ?_
      refine ih _ _ h (by omega) hI hF ⟨fun r a b => ?_, fun j a b => ?_, fun j a b => ?_⟩
      · rw [sv_ne b, f1 r a, sv_ne a]
        exact e1.1 r a b
      · rw [sv_ne (by decide)]
        by_cases w : j = p
        · subst w
          exact f3
        · rw [f2 j w, sv_nj w]
          exact e1.2.1 j (by omega) b
      · by_cases w : j = p
        · subst w
          rw [sv_same, show nP - j = (nP - (j + 1)) + 1 by omega]
          show _ = nI (cuF (abI (mlaw V) D nR (V 31)) (j + 1) (nP - (j + 1)) + (if abI (mlaw V) D nR (V 31) j = 0 then 0 else 1))
          rw [if_pos (show abI (mlaw V) D nR (V 31) j = 0 from c_98), Int32.add_zero]
          rfl
        · rw [sv_nj w, f1 45 (by decide), sv_ne (by decide)]
          exact e1.2.2 j (by omega) b
/-- the search, from the row that is -/
def mtS (am : Nat → Nat) (V : mV) (h : jH) (nP b : Nat) (a : Nat → Int32) (V' : mV) (h' : jH) : Prop := InvM am V' h' ∧ mFr h h' ∧ (∀ r, r ≠ 42 → r ≠ 43 → r ≠ 44 → r ≠ 45 → r ≠ 0 → V' r = V r) ∧ (∀ j, j ≠ 46 → V' 0 j = V 0 j) ∧ V' 0 46 = nI b ∧ ∀ j, j < nP → V' 43 j = a j
set_option maxHeartbeats 4000000 in
theorem c_matches (hd : 12 ≤ d) (hI : InvM am V h) (hT : MT V D nS nR nP) (hl : okL V) : Ct E d 0 0 mX11_matches [vR (nMo am)] h (fun r h' => r = .inl none ∧ ∃ V', mtS am V h nP (moF (abI (mlaw V) D nR (V 31)) nR nP 0 0) (ptF (abI (mlaw V) D nR (V 31)) nR nP 0 0) V' h') := by
  refine ct_of (by decide) (Nat.le_of_ble_eq_true rfl) rfl ?_
  have hF : mFr h h := mFr.rf
  have b8 := hT.2.2.2.2.2.1
  refine g_aload_n (pc := 0) dX11_matches_0 rfl ?_
  refine g_getfield (pc := 1) f_X11_94_11 dX11_matches_1 hI.1 mf_45 ?_
  refine g_aload_n (pc := 4) dX11_matches_4 rfl ?_
  refine g_getfield (pc := 5) f_X11_23_11 dX11_matches_5 hI.1 mf_12 ?_
  refine g_iconst (pc := 8) (v := 2) dX11_matches_8 (by decide) ?_
  refine g_iaload (pc := 9) dX11_matches_9 (mA hI 12 3 rfl (by decide)) (j := 2) (by decide) (by omega) (by decide) rfl ?_
  rw [hT.2.2.1]
  refine g_iconst (pc := 10) (v := 0) dX11_matches_10 (by decide) ?_
  refine m_iast (pc := 11) (k := 45) (n := 9) hI rfl (by decide) dX11_matches_11 (j := nP) rfl (by omega) (by decide) (fun h hI fr => ?_)
  replace hF := mFr.tr hF fr
  refine g_aload_n (pc := 12) dX11_matches_12 rfl ?_
  refine g_getfield (pc := 13) f_X11_23_11 dX11_matches_13 hI.1 mf_12 ?_
  refine g_iconst (pc := 16) (v := 2) dX11_matches_16 (by decide) ?_
  refine g_iaload (pc := 17) dX11_matches_17 (mA hI 12 3 rfl (by decide)) (j := 2) (by decide) (by omega) (by decide) rfl ?_
  rw [sv_ne (by decide), hT.2.2.1]
  refine g_iconst (pc := 18) (v := 1) dX11_matches_18 (by decide) ?_
  refine g_isub (pc := 19) dX11_matches_19 ?_
  refine g_istore_n (pc := 20) (ls' := [_, _, _]) dX11_matches_20 (by decide) rfl rfl ?_
  refine l_mt2 (by omega) hT hl (fun u V' h hI hF e1 => ?_) nP _ _ h (Nat.le_refl _) hI hF ⟨fun r a b => sv_ne b, fun j a b => by omega, fun j a b => by rw [show j = nP by omega, sv_same, Nat.sub_self]; rfl⟩
  have hT2 : MT V' D nS nR nP := hT.of (fun q hq => e1.1 q (by omega) (by omega))
  refine g_aload_n (pc := 114) dX11_matches_114 rfl ?_
  refine g_iconst (pc := 115) (v := -1) dX11_matches_115 (by decide) ?_
  refine m_put (pc := 116) hI w_X11_345_11 rfl (by decide) dX11_matches_116 (fun h hI fr => ?_)
  replace hF := mFr.tr hF fr
  refine g_aload_n (pc := 119) dX11_matches_119 rfl ?_
  refine g_iconst (pc := 120) (v := 0) dX11_matches_120 (by decide) ?_
  refine g_iconst (pc := 121) (v := 0) dX11_matches_121 (by decide) ?_
  refine g_iconst (pc := 122) (v := 0) dX11_matches_122 (by decide) ?_
  refine m_cX (pc := 123) (M' := mX11_matchesFrom) (as := [_, _, _]) i_X11_348_11 eX11_matchesFrom hI dX11_matches_123 (c_mF (ab := abI (mlaw V) D nR (V 31)) (cu := fun p => cuF (abI (mlaw V) D nR (V 31)) p (nP - p)) (fun m p s hp => by have := mo_cu (ab := abI (mlaw V) D nR (V 31)) (nR := nR) m p s; rw [show nP - p = m by omega]; exact this) (by rw [Nat.sub_self]; rfl) nP (d - 1) 0 0 0 0 _ h (by omega) (by omega) hI hT2.f0 ⟨fun j hj => by rw [sv_ne (by decide)]; exact e1.2.1 j (Nat.zero_le _) hj, fun j hj => by rw [sv_ne (by decide)]; exact ⟨e1.2.2 j (Nat.zero_le _) hj, by show cuF (abI (mlaw V) D nR (V 31)) j (nP - j) ≤ 8; have := cuF_le (abI (mlaw V) D nR (V 31)) (nP - j) j; omega⟩⟩ sv_same (by decide) (Nat.le_refl _)) (by omega) rfl rfl (Nat.le_of_ble_eq_true rfl) (fun r9 h9 q9 => ?_)
  obtain ⟨rfl, V2, hI, fr, f1, f2, f3, f4⟩ := q9
  refine ⟨none, rfl, ?_⟩
  replace hF := mFr.tr hF fr
  refine g_return (pc := 126) dX11_matches_126 rfl ?_
  have ew : mtW (abI (mlaw V) D nR (V 31)) nR nP 0 0 0 0 (sv V' 0 46 (-1)) = (0 + moF (abI (mlaw V) D nR (V 31)) nR nP 0 0 + 1, fun j => if j < 0 then sv V' 0 46 (-1) 42 j else ptF (abI (mlaw V) D nR (V 31)) nR nP 0 0 (j - 0)) := if_pos (by omega)
  rw [ew] at f3 f4
  refine ⟨rfl, V2, hI, hF, fun r a b c e f => ?_, fun j a => ?_, ?_, fun j hj => ?_⟩
  · rw [(f1 r).1 ⟨a, b⟩ f, sv_ne f]
    exact e1.1 r c e
  · rw [(f1 0).2 j a, sv_nj a, e1.1 0 (by decide) (by decide)]
  · rw [f3, Nat.zero_add]
    rfl
  · have z := f4 j hj
    dsimp only at z
    rw [z, if_neg (Nat.not_lt_zero j), Nat.sub_zero]
def mQm (am : Nat → Nat) (V : mV) (h : jH) (v : Int32) : jR → jH → Prop := fun r h' => r = .inl (some (vI v)) ∧ (∃ V', InvM am V' h' ∧ (∀ r, r ≠ 42 → r ≠ 43 → r ≠ 44 → r ≠ 45 → r ≠ 0 → V' r = V r) ∧ ∀ j, j ≠ 46 → V' 0 j = V 0 j) ∧ mFr h h'
theorem c_mmatch (hd : 13 ≤ d) (hI : InvM am V h) (hT : MT V D nS nR nP) (hl : okL V) : Ct E d 0 0 mX11_match [vR (nMo am)] h (mQm am (thr0 V) h (nI (moF (abI (mlaw V) D nR (V 31)) nR nP 0 0))) := by
  refine ct_of (by decide) (Nat.le_of_ble_eq_true rfl) rfl ?_
  have hF : mFr h h := mFr.rf
  have hT := MT.f0 (j := 0) (y := 0) hT
  change MT (thr0 V) D nS nR nP at hT
  have b8 := hT.2.2.2.1
  have b10 := hT.2.2.2.2.1
  have bP := hT.2.2.2.2.2.1
  have hl := okL.f0 (j := 0) (y := 0) hl (by decide)
  change okL (thr0 V) at hl
  refine g_aload_n (pc := 0) dX11_match_0 rfl ?_
  refine g_iconst (pc := 1) (v := 0) dX11_match_1 (by decide) ?_
  refine m_put (pc := 2) hI w_X11_103_11 rfl (by decide) dX11_match_2 (fun h hI fr => ?_)
  replace hF := mFr.tr hF fr
  change InvM am (thr0 V) h at hI
  refine g_aload_n (pc := 5) dX11_match_5 rfl ?_
  refine m_cX (pc := 6) (M' := mX11_matches) (as := []) i_X11_352_11 eX11_matches hI dX11_match_6 (c_matches (by omega) hI hT hl) (by omega) rfl rfl (Nat.le_of_ble_eq_true rfl) (fun r9 h9 q9 => ?_)
  obtain ⟨rfl, V2, hI, fr, f1, f2, f3, f4⟩ := q9
  refine ⟨none, rfl, ?_⟩
  replace hF := mFr.tr hF fr
  rw [thr0_law, thr0_now] at f3 f4
  refine g_aload_n (pc := 9) dX11_match_9 rfl ?_
  refine g_getfield (pc := 10) f_X11_345_11 dX11_match_10 hI.1 mf_46 ?_
  refine g_ireturn (pc := 13) dX11_match_13 rfl (by first | exact rfl | exact j_nb _) ?_
  exact ⟨by rw [f3], ⟨V2, hI, f1, f2⟩, hF⟩
theorem r_mmatched (hd : 2 ≤ d) (hI : InvM am V h) (hT : MT V D nS nR nP) (s : Int32) (hv : inR s 0 (nI nP - 1) = false) : Ct E d 0 0 mX11_matched [vR (nMo am), vI s] h (mQ am (refV V 1 0) h (some (vI 0))) := by
  refine ct_of (by decide) (Nat.le_of_ble_eq_true rfl) rfl ?_
  have hF : mFr h h := mFr.rf
  have hT := MT.f0 (j := 0) (y := 0) hT
  change MT (thr0 V) D nS nR nP at hT
  have b8 := hT.2.2.2.1
  have b10 := hT.2.2.2.2.1
  have bP := hT.2.2.2.2.2.1
  refine g_aload_n (pc := 0) dX11_matched_0 rfl ?_
  refine g_iconst (pc := 1) (v := 0) dX11_matched_1 (by decide) ?_
  refine m_put (pc := 2) hI w_X11_103_11 rfl (by decide) dX11_matched_2 (fun h hI fr => ?_)
  replace hF := mFr.tr hF fr
  change InvM am (thr0 V) h at hI
  refine g_aload_n (pc := 5) dX11_matched_5 rfl ?_
  refine g_aload_n (pc := 6) dX11_matched_6 rfl ?_
  refine g_iload_n (pc := 7) dX11_matched_7 rfl ?_
  refine m_cP (pc := 8) (M' := mX11_isPerson) (as := [_]) i_X11_342_11 eX11_isPerson hI dX11_matched_8 (c_isPerson hI hT (by omega) _) (by omega) rfl rfl (Nat.le_of_ble_eq_true rfl) ?_
  refine g_ifB_ne (pc := 11) 18 dX11_matched_11 (by decide) (fun c_11 => absurd (c_11.symm.trans hv) (by decide)) (fun c_11 => ?_)
  refine g_iconst (pc := 14) (v := 1) dX11_matched_14 (by decide) ?_
  refine g_goto (pc := 15) 19 dX11_matched_15 (by decide) ?_
  refine g_iconst (pc := 19) (v := 1) dX11_matched_19 (by decide) ?_
  refine g_iconst (pc := 20) (v := 0) dX11_matched_20 (by decide) ?_
  refine m_cV (pc := 21) (M' := mX11_bad) (as := [_, _, _]) i_X11_183_11 eX11_bad hI dX11_matched_21 (c_badT hI thr0_0 1 (by decide) 0 (by decide)) (by omega) rfl rfl (Nat.le_of_ble_eq_true rfl) (fun h hI fr => ?_)
  replace hF := mFr.tr hF fr
  refine g_ifB_eq (pc := 24) 29 dX11_matched_24 (by decide) (fun c_24 => absurd c_24 (by decide)) (fun c_24 => ?_)
  refine g_iconst (pc := 27) (v := 0) dX11_matched_27 (by decide) ?_
  refine g_ireturn (pc := 28) dX11_matched_28 rfl (by first | exact rfl | exact j_nb _) ?_
  rw [refV_thr0] at hI
  exact ⟨rfl, hI, hF⟩
theorem c_mmatched (hd : 13 ≤ d) (hI : InvM am V h) (hT : MT V D nS nR nP) (hl : okL V) (p : Nat) (hp : p < nP) : Ct E d 0 0 mX11_matched [vR (nMo am), vI (nI p)] h (mQm am (thr0 V) h (ptF (abI (mlaw V) D nR (V 31)) nR nP 0 0 p)) := by
  refine ct_of (by decide) (Nat.le_of_ble_eq_true rfl) rfl ?_
  have hF : mFr h h := mFr.rf
  have hT := MT.f0 (j := 0) (y := 0) hT
  change MT (thr0 V) D nS nR nP at hT
  have b8 := hT.2.2.2.1
  have b10 := hT.2.2.2.2.1
  have bP := hT.2.2.2.2.2.1
  have hl := okL.f0 (j := 0) (y := 0) hl (by decide)
  change okL (thr0 V) at hl
  have hu := in_of hp (show nP ≤ 1000 by omega)
  refine g_aload_n (pc := 0) dX11_matched_0 rfl ?_
  refine g_iconst (pc := 1) (v := 0) dX11_matched_1 (by decide) ?_
  refine m_put (pc := 2) hI w_X11_103_11 rfl (by decide) dX11_matched_2 (fun h hI fr => ?_)
  replace hF := mFr.tr hF fr
  change InvM am (thr0 V) h at hI
  refine g_aload_n (pc := 5) dX11_matched_5 rfl ?_
  refine g_aload_n (pc := 6) dX11_matched_6 rfl ?_
  refine g_iload_n (pc := 7) dX11_matched_7 rfl ?_
  refine m_cP (pc := 8) (M' := mX11_isPerson) (as := [_]) i_X11_342_11 eX11_isPerson hI dX11_matched_8 (c_isPerson hI hT (by omega) _) (by omega) rfl rfl (Nat.le_of_ble_eq_true rfl) ?_
  refine g_ifB_ne (pc := 11) 18 dX11_matched_11 (by decide) (fun c_11 => ?_) (fun c_11 => absurd (hu.symm.trans c_11) (by decide))
  refine g_iconst (pc := 18) (v := 0) dX11_matched_18 (by decide) ?_
  refine g_iconst (pc := 19) (v := 1) dX11_matched_19 (by decide) ?_
  refine g_iconst (pc := 20) (v := 0) dX11_matched_20 (by decide) ?_
  refine m_cV (pc := 21) (M' := mX11_bad) (as := [_, _, _]) i_X11_183_11 eX11_bad hI dX11_matched_21 (c_badF hI thr0_0 1 0 (by decide)) (by omega) rfl rfl (Nat.le_of_ble_eq_true rfl) (fun h hI fr => ?_)
  replace hF := mFr.tr hF fr
  refine g_ifB_eq (pc := 24) 29 dX11_matched_24 (by decide) (fun c_24 => ?_) (fun c_24 => absurd c_24 (by decide))
  refine g_aload_n (pc := 29) dX11_matched_29 rfl ?_
  refine m_cX (pc := 30) (M' := mX11_matches) (as := []) i_X11_352_11 eX11_matches hI dX11_matched_30 (c_matches (by omega) hI hT hl) (by omega) rfl rfl (Nat.le_of_ble_eq_true rfl) (fun r9 h9 q9 => ?_)
  obtain ⟨rfl, V2, hI, fr, f1, f2, f3, f4⟩ := q9
  refine ⟨none, rfl, ?_⟩
  replace hF := mFr.tr hF fr
  rw [thr0_law, thr0_now] at f3 f4
  refine g_aload_n (pc := 33) dX11_matched_33 rfl ?_
  refine g_getfield (pc := 34) f_X11_88_11 dX11_matched_34 hI.1 mf_43 ?_
  refine g_iload_n (pc := 37) dX11_matched_37 rfl ?_
  refine g_iaload (pc := 38) dX11_matched_38 (mA hI 43 8 rfl (by decide)) rfl (by omega) (by decide) rfl ?_
  refine g_ireturn (pc := 39) dX11_matched_39 rfl (by first | exact rfl | exact j_nb _) ?_
  exact ⟨by rw [f4 p hp], ⟨V2, hI, f1, f2⟩, hF⟩
end
