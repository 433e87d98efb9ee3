/-! THE COMPONENT: vows, two who are tempted, alms. Printed by m_c13.py -/
set_option maxRecDepth 100000
theorem okVW {g : HD} (h : okH g) : VW (gW g) (gS g) := fun s hs => (h.2.2.2.2.2.2 s).imp id (fun ⟨j, h1, _, h3⟩ => ⟨j, h1, h3⟩)
theorem rngF_a {W : Nat → Int32} {s : Int32} {m n a : Nat} (ha : a < 2 ^ 31) (h : W a = -1) : rngF W s (m + 1) n (nI a) = -1 := by
  unfold rngF
  rw [nI_clamp ha, if_pos h]
theorem rngF_b {W : Nat → Int32} {s : Int32} {m n a : Nat} (ha : a < 2 ^ 31) (h : ¬ W a = -1) (h2 : W a = s) : rngF W s (m + 1) n (nI a) = nI n := by
  unfold rngF
  rw [nI_clamp ha, if_neg h, if_pos h2]
theorem rngF_c {W : Nat → Int32} {s : Int32} {m n a : Nat} (ha : a < 2 ^ 31) (h : ¬ W a = -1) (h2 : ¬ W a = s) : rngF W s (m + 1) n (nI a) = rngF W s m (n + 1) (W a) := by
  rw [rngF, nI_clamp ha, if_neg h, if_neg h2]
theorem itV_c {W : Nat → Int32} {n a : Nat} (ha : a < 2 ^ 31) : itV W (n + 1) (nI a) = itV W n (W a) := by
  rw [itV, if_neg (nI_nm ha), nI_clamp ha]
theorem VW.it {W : Nat → Int32} {nS : Nat} (h : VW W nS) (h8 : nS ≤ 8) : ∀ n s, s < nS → itV W n (nI s) = -1 ∨ ∃ j, j < nS ∧ itV W n (nI s) = nI j
  | 0, s, hs => Or.inr ⟨s, hs, rfl⟩
  | n + 1, s, hs => by
    rw [itV_c (by omega)]
    rcases h s hs with e | ⟨j, h1, e⟩
    · rw [e, itV_m1]; exact Or.inl rfl
    · rw [e]; exact h.it h8 n j h1
/-- behind the eighth all goes round -/
theorem it_round {W : Nat → Int32} {nS s : Nat} (h : VW W nS) (h8 : nS ≤ 8) (hs : s < nS) (hn : ¬ itV W 8 (nI s) = -1) : ∃ k, 1 ≤ k ∧ k ≤ 8 ∧ itV W k (itV W 8 (nI s)) = itV W 8 (nI s) := by
  have h0 : ∀ i, i ≤ 8 → ∃ j, j < nS ∧ itV W i (nI s) = nI j := fun i hi => by
    rcases h.it h8 i s hs with e | e
    · exfalso
      apply hn
      rw [show 8 = i + (8 - i) by omega, itV_add, e, itV_m1]
    · exact e
  have hc : ∃ i j, i < j ∧ j ≤ 8 ∧ itV W i (nI s) = itV W j (nI s) := by
    apply Classical.byContradiction
    intro hno
    have hd : ((List.range 9).map (fun i => (itV W i (nI s)).toNatClampNeg)).Nodup := by
      rw [List.Nodup, List.pairwise_map]
      refine List.Pairwise.imp_of_mem ?_ List.pairwise_lt_range
      intro a b ha hb hab e
      rw [List.mem_range] at ha hb
      obtain ⟨x, hx, ex⟩ := h0 a (by omega)
      obtain ⟨y, hy, ey⟩ := h0 b (by omega)
      rw [ex, ey, nI_clamp (by omega), nI_clamp (by omega)] at e
      exact hno ⟨a, b, hab, by omega, by rw [ex, ey, e]⟩
    have hl := ph_len 8 _ hd (fun x hx => by
      obtain ⟨i, hi, e⟩ := List.mem_map.mp hx
      rw [List.mem_range] at hi
      obtain ⟨j, hj, ej⟩ := h0 i (by omega)
      rw [ej, nI_clamp (by omega)] at e
      omega)
    simp at hl
  obtain ⟨i, j, hij, hj8, e⟩ := hc
  refine ⟨j - i, by omega, by omega, ?_⟩
  have e1 : itV W 8 (nI s) = itV W (8 - i) (itV W i (nI s)) := by rw [← itV_add]; congr 1; omega
  have e2 : itV W (j - i) (itV W (8 - i) (itV W i (nI s))) = itV W (8 - i) (itV W j (nI s)) := by
    rw [← itV_add, ← itV_add, ← itV_add]
    congr 1
    omega
  rw [e1, e2, ← e]
theorem dv840 : ∀ k, 1 ≤ k → k ≤ 8 → ∃ c, 840 = c * k := by
  intro k h1 h2
  have : k = 1 ∨ k = 2 ∨ k = 3 ∨ k = 4 ∨ k = 5 ∨ k = 6 ∨ k = 7 ∨ k = 8 := by omega
  rcases this with rfl | rfl | rfl | rfl | rfl | rfl | rfl | rfl
  · exact ⟨840, rfl⟩
  · exact ⟨420, rfl⟩
  · exact ⟨280, rfl⟩
  · exact ⟨210, rfl⟩
  · exact ⟨168, rfl⟩
  · exact ⟨140, rfl⟩
  · exact ⟨120, rfl⟩
  · exact ⟨105, rfl⟩
theorem it_840 {W : Nat → Int32} {nS s n : Nat} (h : VW W nS) (h8 : nS ≤ 8) (hs : s < nS) (hn : 8 < n) : itV W (8 + (n - 8) % 840) (nI s) = itV W n (nI s) := by
  rw [show n = 8 + (n - 8) by omega, itV_add, itV_add, show 8 + (n - 8) - 8 = n - 8 by omega]
  by_cases q : itV W 8 (nI s) = -1
  · rw [q, itV_m1, itV_m1]
  · obtain ⟨k, h1, h2, h3⟩ := it_round h h8 hs q
    obtain ⟨c, hc⟩ := dv840 k h1 h2
    have e := itV_mod W k _ h3 ((n - 8) / 840 * c) ((n - 8) % 840)
    rw [Nat.mul_assoc, ← hc, Nat.mul_comm, Nat.div_add_mod] at e
    exact e.symm
/-- who has what, as the component says it -/
def hbC (o p v w : Int32) : Int32 := if o = 1 then (if p = 1 then 0 else w) else if p = 1 then -1 else v
theorem hb_e {o p v w : Int32} (ho : o = 0 ∨ o = 1) (hp : p = 0 ∨ p = 1) : hbC o p v w = hbI o p v w := by
  rcases ho with rfl | rfl <;> rcases hp with rfl | rfl <;> rfl
theorem sub01 {o : Int32} (ho : o = 0 ∨ o = 1) : 1 - o = 0 ∨ 1 - o = 1 := by
  rcases ho with rfl | rfl
  · exact Or.inr (by decide)
  · exact Or.inl (by decide)
theorem tmT_y {v w : Int32} {s : Int32 × Int32 × Int32} {a b : Int32} (h1 : ibB a b v w = true) (h2 : ibB b a v w = true) : tmT v w s a b = (s.1 + 1, (if s.1 = 0 then 10 * a + b else s.2.1), (if s.1 = 0 then hbI a b v w + hbI b a v w else s.2.2)) := if_pos ⟨h1, h2⟩
theorem tmT_n {v w : Int32} {s : Int32 × Int32 × Int32} {a b : Int32} (h : ¬ (ibB a b v w = true ∧ ibB b a v w = true)) : tmT v w s a b = s := if_neg h
/-- the first of them, how many -/
def tmJ (v w : Int32) (s : Int32 × Int32 × Int32) (n : Nat) : Prop := (s.1 = 0 ∧ s.2.1 = -1 ∧ s.2.2 = 0) ∨ ∃ (k : Nat) (a b : Int32), 1 ≤ k ∧ k ≤ n ∧ s.1 = nI k ∧ (a = 0 ∨ a = 1) ∧ (b = 0 ∨ b = 1) ∧ s.2.1 = 10 * a + b ∧ s.2.2 = hbI a b v w + hbI b a v w
theorem t10_m {a b : Int32} (ha : a = 0 ∨ a = 1) (hb : b = 0 ∨ b = 1) : ¬ 10 * a + b = -1 ∧ (10 * a + b) / 10 = a ∧ (10 * a + b) - (10 * a + b) / 10 * 10 = b := by
  rcases ha with rfl | rfl <;> rcases hb with rfl | rfl <;> decide
theorem tmJ.s {v w : Int32} {s : Int32 × Int32 × Int32} {n : Nat} {a b : Int32} (h : tmJ v w s n) (hn : n < 100) (ha : a = 0 ∨ a = 1) (hb : b = 0 ∨ b = 1) : tmJ v w (tmT v w s a b) (n + 1) := by
  by_cases q : ibB a b v w = true ∧ ibB b a v w = true
  · rw [tmT_y q.1 q.2]
    right
    rcases h with ⟨h1, h2, h3⟩ | ⟨k, a', b', h1, h2, h3, h4, h5, h6, h7⟩
    · rw [h1, if_pos rfl, if_pos rfl]
      exact ⟨1, a, b, Nat.le_refl _, by omega, by rfl, ha, hb, rfl, rfl⟩
    · have : ¬ s.1 = 0 := by rw [h3]; exact nI_ne0 (by omega) (by omega)
      rw [if_neg this, if_neg this, h3]
      exact ⟨k + 1, a', b', by omega, by omega, nI_1 k, h4, h5, h6, h7⟩
  · rw [tmT_n q]
    rcases h with h | ⟨k, a', b', h1, h2, h3⟩
    · exact Or.inl h
    · exact Or.inr ⟨k, a', b', h1, by omega, h3⟩
theorem tmJ.f {v w : Int32} {s : Int32 × Int32 × Int32} {n : Nat} (h : tmJ v w s n) (hn : n < 100) : s.1 = 0 ↔ s.2.1 = -1 := by
  rcases h with ⟨h1, h2, -⟩ | ⟨k, a, b, h1, h2, h3, h4, h5, h6, -⟩
  · exact ⟨fun _ => h2, fun _ => h1⟩
  · exact ⟨fun e => absurd (h3.symm.trans e) (nI_ne0 (by omega) (by omega)), fun e => absurd (h6.symm.trans e) (t10_m h4 h5).1⟩
theorem min_lessI (a b : Int32) : (if b < a then b else a) = lessI a b := by
  unfold lessI
  by_cases q : b < a
  · rw [if_pos q, if_pos (Int32.le_of_lt q)]
  · rw [if_neg q]
    by_cases w : b ≤ a
    · rw [if_pos w]
      exact Int32.le_antisymm (Int32.not_lt.mp q) w
    · rw [if_neg w]
theorem almF_y {D : Nat → Nat → Nat} {nP : Nat} {b n : Int32} {m k : Nat} (h : n < sumI (givF D b (nI (k + 1))) nP) : almF D nP b n (m + 1) k = k := if_pos h
theorem almF_n {D : Nat → Nat → Nat} {nP : Nat} {b n : Int32} {m k : Nat} (h : ¬ n < sumI (givF D b (nI (k + 1))) nP) : almF D nP b n (m + 1) k = almF D nP b n m (k + 1) := if_neg h
theorem bp_c {b : Int32} {n : Nat} (hn : n ≤ 8) : inR b 0 (bitI n - 1) = true ↔ ¬ b < 0 ∧ ¬ bitI n ≤ b := by
  obtain ⟨q, hq⟩ : ∃ q, 2 ^ n = q + 1 := ⟨2 ^ n - 1, by have := Nat.two_pow_pos n; omega⟩
  have h8 := (pow8 n hn).2
  have e0 : (0 : Int32).toInt = 0 := rfl
  have e1 : (nI (q + 1)).toInt = ((q + 1 : Nat) : Int) := nI_toInt (by omega)
  have e2 : (nI q).toInt = (q : Int) := nI_toInt (by omega)
  rw [bitI_pow n (by omega), hq, nI_pred]
  unfold inR
  simp only [Bool.and_eq_true, Bool.not_eq_true', decide_eq_false_iff_not, Int32.lt_iff_toInt_lt, Int32.le_iff_toInt_le, e0, e1, e2]
  omega
section
variable {E : jE} {d : Nat} {h : jH} {ac : Nat → Nat} {W V : mV} {g : HD}
set_option maxHeartbeats 2000000 in
theorem l_kring {bc bs s : Nat} {h0 : jH} (hI : InvC ac W g (mlaw V) h) (hF : cFr h0 h) : ∀ (m n a : Nat), n + m = 9 → a < gS g → G E d bc bs mX1_ring 9 [some (vR (nC ac 1)), some (vI (nI s)), some (vI (nI a)), some (vI (nI n))] [] h (cQ ac W g (mlaw V) h0 (some (vI (rngF (gW g) (nI s) m n (nI a))))) := by
  have b8 := hI.2.2.2.2.1.2.2.2.2.2.2.2.1
  have b10 := hI.2.2.2.2.1.2.2.2.2.2.2.2.2.1
  have bP := hI.2.2.2.2.1.2.2.2.2.2.2.2.2.2.1
  intro m
  induction m with
  | zero =>
    intro n a hn ha
    have e : n = 9 := by omega
    subst e
    refine g_iload_n (pc := 9) dX1_ring_9 rfl ?_
    refine g_bipush (pc := 10) (v := 8) dX1_ring_10 (by decide) ?_
    refine g_icmp_gt (pc := 12) 45 dX1_ring_12 (by decide) (fun c_12 => ?_) (fun c_12 => absurd (by decide) c_12)
    refine g_iconst (pc := 45) (v := -1) dX1_ring_45 (by decide) ?_
    refine g_ireturn (pc := 46) dX1_ring_46 rfl (by first | exact rfl | exact j_nb _) ?_
    exact ⟨rfl, hI, hF⟩
  | succ m ih =>
    intro n a hn ha
    refine g_iload_n (pc := 9) dX1_ring_9 rfl ?_
    refine g_bipush (pc := 10) (v := 8) dX1_ring_10 (by decide) ?_
    refine g_icmp_gt (pc := 12) 45 dX1_ring_12 (by decide) (fun c_12 => absurd c_12 (by intro w; have := (nI_ltI (a := 8) (b := n) (by decide) (by omega)).mp w; omega)) (fun c_12 => ?_)
    refine g_aload_n (pc := 15) dX1_ring_15 rfl ?_
    refine g_getfield (pc := 16) f_X1_31_1 dX1_ring_16 hI.1 rfl ?_
    refine g_getfield (pc := 19) f_X1_285_2 dX1_ring_19 hI.2.2.2.2.1.1.choose_spec rfl ?_
    refine g_iload_n (pc := 22) dX1_ring_22 rfl ?_
    refine g_iaload (pc := 23) dX1_ring_23 hI.2.2.2.2.1.2.2.1 (j := a) rfl (by omega) (by first | decide | omega) rfl ?_
    refine g_istore_n (pc := 24) (ls' := [_, _, _, _]) dX1_ring_24 (by decide) rfl rfl ?_
    refine g_iload_n (pc := 25) dX1_ring_25 rfl ?_
    refine g_iconst (pc := 26) (v := -1) dX1_ring_26 (by decide) ?_
    refine g_icmp_ne (pc := 27) 32 dX1_ring_27 (by decide) (fun c_27 => ?_) (fun c_27 => ?_)
    · refine g_iload_n (pc := 32) dX1_ring_32 rfl ?_
      refine g_iload_n (pc := 33) dX1_ring_33 rfl ?_
      refine g_icmp_ne (pc := 34) 39 dX1_ring_34 (by decide) (fun c_34 => ?_) (fun c_34 => ?_)
      · refine g_iinc (pc := 39) (ls' := [_, _, _, _]) dX1_ring_39 rfl (by first | exact nI_1 _ | exact rfl) (by decide) rfl rfl ?_
        refine g_goto (pc := 42) 9 dX1_ring_42 (by decide) ?_
        obtain ⟨j, hj, ej⟩ := (okVW hI.2.2.2.2.1.2.2.2.2.2.2.2 a ha).resolve_left c_27
        rw [rngF_c (by omega) c_27 c_34, ej]
        exact ih (n + 1) j (by omega) hj
      · refine g_iload_n (pc := 37) dX1_ring_37 rfl ?_
        refine g_ireturn (pc := 38) dX1_ring_38 rfl (by first | exact rfl | exact j_nb _) ?_
        rw [rngF_b (by omega) c_27 c_34]
        exact ⟨rfl, hI, hF⟩
    · refine g_iconst (pc := 30) (v := -1) dX1_ring_30 (by decide) ?_
      refine g_ireturn (pc := 31) dX1_ring_31 rfl (by first | exact rfl | exact j_nb _) ?_
      rw [rngF_a (by omega) c_27]
      exact ⟨rfl, hI, hF⟩
set_option maxHeartbeats 2000000 in
theorem k_ring (hd : 620 ≤ d) (hI : InvC ac W g (mlaw V) h) (hz : HZ g W 0 (V 31)) (s : Nat) (hs : s < gS g) : Ct E d 0 0 mX1_ring [vR (nC ac 1), vI (nI s)] h (cQ ac W g (mlaw V) h (some (vI (rngI (gW g) (nI s))))) := by
  refine ct_of (by decide) (Nat.le_of_ble_eq_true rfl) rfl ?_
  have hF : cFr h h := cFr.rf
  have b8 := hI.2.2.2.2.1.2.2.2.2.2.2.2.1
  have b10 := hI.2.2.2.2.1.2.2.2.2.2.2.2.2.1
  have bP := hI.2.2.2.2.1.2.2.2.2.2.2.2.2.2.1
  refine g_aload_n (pc := 0) dX1_ring_0 rfl ?_
  refine g_iload_n (pc := 1) dX1_ring_1 rfl ?_
  refine g_cVv (pc := 2) (M' := mX1_needSister) (as := [_]) (ci := 1) rfl i_X1_273_1 eX1_needSister dX1_ring_2 hI.1 (k_needST (by omega) hI s hs) (by omega) rfl rfl (Nat.le_of_ble_eq_true rfl) ?_
  refine g_iload_n (pc := 5) dX1_ring_5 rfl ?_
  refine g_istore_n (pc := 6) (ls' := [_, _, _, _]) dX1_ring_6 (by decide) rfl rfl ?_
  refine g_iconst (pc := 7) (v := 1) dX1_ring_7 (by decide) ?_
  refine g_istore_n (pc := 8) (ls' := [_, _, _, _]) dX1_ring_8 (by decide) rfl rfl ?_
  exact l_kring hI hF 8 1 s rfl hs
set_option maxHeartbeats 2000000 in
theorem l_kfollows {bc bs : Nat} {h0 : jH} {x y : Int32} (hI : InvC ac W g (mlaw V) h) (hF : cFr h0 h) : ∀ (m : Nat) (a : Int32), m ≤ 1000 → (a = -1 ∨ ∃ j, j < gS g ∧ a = nI j) → G E d bc bs mX1_follows 42 [some (vR (nC ac 1)), some (vI x), some (vI y), some (vI (nI m)), some (vI a)] [] h (cQ ac W g (mlaw V) h0 (some (vI (itV (gW g) m a)))) := by
  have b8 := hI.2.2.2.2.1.2.2.2.2.2.2.2.1
  have b10 := hI.2.2.2.2.1.2.2.2.2.2.2.2.2.1
  have bP := hI.2.2.2.2.1.2.2.2.2.2.2.2.2.2.1
  intro m
  induction m with
  | zero =>
    intro a hm ha
    refine g_iload_n (pc := 42) dX1_follows_42 rfl ?_
    refine g_if_le (pc := 43) 70 dX1_follows_43 (by decide) (fun c_43 => ?_) (fun c_43 => absurd (by decide) c_43)
    refine g_iload (pc := 70) dX1_follows_70 rfl ?_
    refine g_ireturn (pc := 72) dX1_follows_72 rfl (by first | exact rfl | exact j_nb _) ?_
    exact ⟨rfl, hI, hF⟩
  | succ m ih =>
    intro a hm ha
    rcases ha with e | ⟨j, hj, e⟩
    · subst e
      refine g_iload_n (pc := 42) dX1_follows_42 rfl ?_
      refine g_if_le (pc := 43) 70 dX1_follows_43 (by decide) (fun c_43 => absurd c_43 (by intro w; have := (nI_leI (a := m + 1) (b := 0) (by omega) (by decide)).mp w; omega)) (fun c_43 => ?_)
      refine g_iload (pc := 46) dX1_follows_46 rfl ?_
      refine g_iconst (pc := 48) (v := -1) dX1_follows_48 (by decide) ?_
      refine g_icmp_eq (pc := 49) 70 dX1_follows_49 (by decide) (fun c_49 => ?_) (fun c_49 => absurd rfl c_49)
      refine g_iload (pc := 70) dX1_follows_70 rfl ?_
      refine g_ireturn (pc := 72) dX1_follows_72 rfl (by first | exact rfl | exact j_nb _) ?_
      rw [itV_m1]
      exact ⟨rfl, hI, hF⟩
    · subst e
      refine g_iload_n (pc := 42) dX1_follows_42 rfl ?_
      refine g_if_le (pc := 43) 70 dX1_follows_43 (by decide) (fun c_43 => absurd c_43 (by intro w; have := (nI_leI (a := m + 1) (b := 0) (by omega) (by decide)).mp w; omega)) (fun c_43 => ?_)
      refine g_iload (pc := 46) dX1_follows_46 rfl ?_
      refine g_iconst (pc := 48) (v := -1) dX1_follows_48 (by decide) ?_
      refine g_icmp_eq (pc := 49) 70 dX1_follows_49 (by decide) (fun c_49 => absurd c_49 (nI_nm (by omega))) (fun c_49 => ?_)
      refine g_aload_n (pc := 52) dX1_follows_52 rfl ?_
      refine g_getfield (pc := 53) f_X1_31_1 dX1_follows_53 hI.1 rfl ?_
      refine g_getfield (pc := 56) f_X1_285_2 dX1_follows_56 hI.2.2.2.2.1.1.choose_spec rfl ?_
      refine g_iload (pc := 59) dX1_follows_59 rfl ?_
      refine g_iaload (pc := 61) dX1_follows_61 hI.2.2.2.2.1.2.2.1 (j := j) rfl (by omega) (by first | decide | omega) rfl ?_
      refine g_istore (pc := 62) (ls' := [_, _, _, _, _]) dX1_follows_62 (by decide) rfl rfl ?_
      refine g_iinc (pc := 64) (ls' := [_, _, _, _, _]) dX1_follows_64 rfl rfl (by decide) rfl rfl ?_
      refine g_goto (pc := 67) 42 dX1_follows_67 (by decide) ?_
      rw [itV_c (by omega), dec_e, nI_pred]
      exact ih _ (by omega) (okVW hI.2.2.2.2.1.2.2.2.2.2.2.2 j hj)
set_option maxHeartbeats 2000000 in
theorem k_follows (hd : 620 ≤ d) (hI : InvC ac W g (mlaw V) h) (hz : HZ g W 0 (V 31)) (s n : Nat) (hs : s < gS g) (hn : n ≤ 1000000) : Ct E d 0 0 mX1_follows [vR (nC ac 1), vI (nI s), vI (nI n)] h (cQ ac W g (mlaw V) h (some (vI (itV (gW g) n (nI s))))) := by
  refine ct_of (by decide) (Nat.le_of_ble_eq_true rfl) rfl ?_
  have hF : cFr h h := cFr.rf
  have b8 := hI.2.2.2.2.1.2.2.2.2.2.2.2.1
  have b10 := hI.2.2.2.2.1.2.2.2.2.2.2.2.2.1
  have bP := hI.2.2.2.2.1.2.2.2.2.2.2.2.2.2.1
  have hv : inR (nI n) 0 1000000 = true := inC_of (n := 1000000) hn (by decide)
  refine g_aload_n (pc := 0) dX1_follows_0 rfl ?_
  refine g_iload_n (pc := 1) dX1_follows_1 rfl ?_
  refine g_cVv (pc := 2) (M' := mX1_needSister) (as := [_]) (ci := 1) rfl i_X1_273_1 eX1_needSister dX1_follows_2 hI.1 (k_needST (by omega) hI s hs) (by omega) rfl rfl (Nat.le_of_ble_eq_true rfl) ?_
  refine g_aload_n (pc := 5) dX1_follows_5 rfl ?_
  refine g_iload_n (pc := 6) dX1_follows_6 rfl ?_
  refine g_iconst (pc := 7) (v := 0) dX1_follows_7 (by decide) ?_
  refine g_ldcw (pc := 8) (v := 1000000) dX1_follows_8 q1889 ?_
  refine g_cS (pc := 11) (M' := mX1_isIn) (as := [_, _, _]) i_X1_252 eX1_isIn dX1_follows_11 (k_isIn _ _ _) (by omega) rfl rfl (Nat.le_of_ble_eq_true rfl) ?_
  rw [hv]
  refine g_cVv (pc := 14) (M' := mX1_need) (as := [_]) (ci := 1) rfl i_X1_183_1 eX1_need dX1_follows_14 hI.1 (k_needT) (by omega) rfl rfl (Nat.le_of_ble_eq_true rfl) ?_
  refine g_iload_n (pc := 17) dX1_follows_17 rfl ?_
  refine g_bipush (pc := 18) (v := 8) dX1_follows_18 (by decide) ?_
  refine g_icmp_gt (pc := 20) 27 dX1_follows_20 (by decide) (fun c_20 => ?_) (fun c_20 => ?_)
  · refine g_bipush (pc := 27) (v := 8) dX1_follows_27 (by decide) ?_
    refine g_iload_n (pc := 29) dX1_follows_29 rfl ?_
    refine g_bipush (pc := 30) (v := 8) dX1_follows_30 (by decide) ?_
    refine g_isub (pc := 32) dX1_follows_32 ?_
    rw [show nI n - 8 = nI (n - 8) from pk_sub (show 8 ≤ n by have := (nI_ltI (a := 8) (b := n) (by decide) (by omega)).mp c_20; omega)]
    refine g_sipush (pc := 33) (v := 840) dX1_follows_33 (by decide) ?_
    refine g_irem (pc := 36) dX1_follows_36 (by decide) ?_
    
    refine g_iadd (pc := 37) dX1_follows_37 ?_
    have h8 : 8 < n := (nI_ltI (a := 8) (b := n) (by decide) (by omega)).mp c_20
    have hm := Nat.mod_lt (n - 8) (show 0 < 840 by decide)
    rw [show nI (n - 8) - nI (n - 8) / 840 * 840 = nI ((n - 8) % 840) from pk_rem (a := n - 8) (d := 840) (by omega) (by decide) (by decide), show (8 : Int32) + nI ((n - 8) % 840) = nI (8 + (n - 8) % 840) from nI_add 8 _]
    rw [show itV (gW g) n (nI s) = itV (gW g) (8 + (n - 8) % 840) (nI s) from (it_840 (okVW hI.2.2.2.2.1.2.2.2.2.2.2.2) b8 hs h8).symm]
    refine g_istore_n (pc := 38) (ls' := [_, _, _, _, _]) dX1_follows_38 (by decide) rfl rfl ?_
    refine g_iload_n (pc := 39) dX1_follows_39 rfl ?_
    refine g_istore (pc := 40) (ls' := [_, _, _, _, _]) dX1_follows_40 (by decide) rfl rfl ?_
    exact l_kfollows hI hF _ _ (by omega) (Or.inr ⟨s, hs, rfl⟩)
  · refine g_iload_n (pc := 23) dX1_follows_23 rfl ?_
    refine g_goto (pc := 24) 38 dX1_follows_24 (by decide) ?_
    have h8 : ¬ 8 < n := fun w => c_20 ((nI_ltI (a := 8) (b := n) (by decide) (by omega)).mpr w)
    rw [show itV (gW g) n (nI s) = itV (gW g) n (nI s) from rfl]
    refine g_istore_n (pc := 38) (ls' := [_, _, _, _, _]) dX1_follows_38 (by decide) rfl rfl ?_
    refine g_iload_n (pc := 39) dX1_follows_39 rfl ?_
    refine g_istore (pc := 40) (ls' := [_, _, _, _, _]) dX1_follows_40 (by decide) rfl rfl ?_
    exact l_kfollows hI hF _ _ (by omega) (Or.inr ⟨s, hs, rfl⟩)
theorem k_hasBy (o p v w : Int32) : Ct E d 0 0 mX1_hasBy [vI o, vI p, vI v, vI w] h (qR (some (vI (hbC o p v w))) h) := by
  refine ct_of (by decide) (Nat.le_of_ble_eq_true rfl) rfl ?_
  refine g_iload_n (pc := 0) dX1_hasBy_0 rfl ?_
  refine g_iconst (pc := 1) (v := 1) dX1_hasBy_1 (by decide) ?_
  refine g_icmp_ne (pc := 2) 18 dX1_hasBy_2 (by decide) (fun c_2 => ?_) (fun c_2 => ?_)
  · refine g_iload_n (pc := 18) dX1_hasBy_18 rfl ?_
    refine g_iconst (pc := 19) (v := 1) dX1_hasBy_19 (by decide) ?_
    refine g_icmp_ne (pc := 20) 27 dX1_hasBy_20 (by decide) (fun c_20 => ?_) (fun c_20 => ?_)
    · refine g_iload_n (pc := 27) dX1_hasBy_27 rfl ?_
      refine g_ireturn (pc := 28) dX1_hasBy_28 rfl (by first | exact rfl | exact j_nb _) ?_
      exact ⟨rv (by unfold hbC; rw [if_neg c_2, if_neg c_20]), rfl⟩
    · refine g_iconst (pc := 23) (v := -1) dX1_hasBy_23 (by decide) ?_
      refine g_goto (pc := 24) 28 dX1_hasBy_24 (by decide) ?_
      refine g_ireturn (pc := 28) dX1_hasBy_28 rfl (by first | exact rfl | exact j_nb _) ?_
      exact ⟨rv (by unfold hbC; rw [if_neg c_2, if_pos c_20]), rfl⟩
  · refine g_iload_n (pc := 5) dX1_hasBy_5 rfl ?_
    refine g_iconst (pc := 6) (v := 1) dX1_hasBy_6 (by decide) ?_
    refine g_icmp_ne (pc := 7) 14 dX1_hasBy_7 (by decide) (fun c_7 => ?_) (fun c_7 => ?_)
    · refine g_iload_n (pc := 14) dX1_hasBy_14 rfl ?_
      refine g_goto (pc := 15) 28 dX1_hasBy_15 (by decide) ?_
      refine g_ireturn (pc := 28) dX1_hasBy_28 rfl (by first | exact rfl | exact j_nb _) ?_
      exact ⟨rv (by unfold hbC; rw [if_pos c_2, if_neg c_7]), rfl⟩
    · refine g_iconst (pc := 10) (v := 0) dX1_hasBy_10 (by decide) ?_
      refine g_goto (pc := 11) 28 dX1_hasBy_11 (by decide) ?_
      refine g_ireturn (pc := 28) dX1_hasBy_28 rfl (by first | exact rfl | exact j_nb _) ?_
      exact ⟨rv (by unfold hbC; rw [if_pos c_2, if_pos c_7]), rfl⟩
set_option maxHeartbeats 2000000 in
theorem l_ktm {bc bs n : Nat} {Q : jR → jH → Prop} {v w x a b : Int32} {s : Int32 × Int32 × Int32} (hd : 10 ≤ d) (hj : tmJ v w s n) (hn : n < 100) (ha : a = 0 ∨ a = 1) (hb : b = 0 ∨ b = 1) (kk : G E d bc bs mX1_tempted 130 [some (vR (nC ac 1)), some (vI v), some (vI w), some (vI x), some (vI (tmT v w s a b).1), some (vI (tmT v w s a b).2.1), some (vI a), some (vI b)] [] h Q) : G E d bc bs mX1_tempted 62 [some (vR (nC ac 1)), some (vI v), some (vI w), some (vI x), some (vI s.1), some (vI s.2.1), some (vI a), some (vI b)] [] h Q := by
  refine g_iconst (pc := 62) (v := 1) dX1_tempted_62 (by decide) ?_
  refine g_iload (pc := 63) dX1_tempted_63 rfl ?_
  refine g_isub (pc := 65) dX1_tempted_65 ?_
  refine g_iload (pc := 66) dX1_tempted_66 rfl ?_
  refine g_iload_n (pc := 68) dX1_tempted_68 rfl ?_
  refine g_iload_n (pc := 69) dX1_tempted_69 rfl ?_
  refine g_cS (pc := 70) (M' := mX1_hasBy) (as := [_, _, _, _]) i_X1_392 eX1_hasBy dX1_tempted_70 (k_hasBy _ _ _ _) (by omega) rfl rfl (Nat.le_of_ble_eq_true rfl) ?_
  refine g_iload (pc := 73) dX1_tempted_73 rfl ?_
  refine g_iload (pc := 75) dX1_tempted_75 rfl ?_
  refine g_iload_n (pc := 77) dX1_tempted_77 rfl ?_
  refine g_iload_n (pc := 78) dX1_tempted_78 rfl ?_
  refine g_cS (pc := 79) (M' := mX1_hasBy) (as := [_, _, _, _]) i_X1_392 eX1_hasBy dX1_tempted_79 (k_hasBy _ _ _ _) (by omega) rfl rfl (Nat.le_of_ble_eq_true rfl) ?_
  rw [hb_e (sub01 ha) hb, hb_e ha hb]
  refine g_icmp_gt (pc := 82) 130 dX1_tempted_82 (by decide) (fun c_82 => ?_) (fun c_82 => ?_)
  · rw [tmT_n (fun e => by have e1 := e.1; unfold ibB at e1; rw [decide_eq_true c_82] at e1; exact absurd e1 (by decide))] at kk
    exact kk
  · refine g_iconst (pc := 85) (v := 1) dX1_tempted_85 (by decide) ?_
    refine g_iload (pc := 86) dX1_tempted_86 rfl ?_
    refine g_isub (pc := 88) dX1_tempted_88 ?_
    refine g_iload (pc := 89) dX1_tempted_89 rfl ?_
    refine g_iload_n (pc := 91) dX1_tempted_91 rfl ?_
    refine g_iload_n (pc := 92) dX1_tempted_92 rfl ?_
    refine g_cS (pc := 93) (M' := mX1_hasBy) (as := [_, _, _, _]) i_X1_392 eX1_hasBy dX1_tempted_93 (k_hasBy _ _ _ _) (by omega) rfl rfl (Nat.le_of_ble_eq_true rfl) ?_
    refine g_iload (pc := 96) dX1_tempted_96 rfl ?_
    refine g_iload (pc := 98) dX1_tempted_98 rfl ?_
    refine g_iload_n (pc := 100) dX1_tempted_100 rfl ?_
    refine g_iload_n (pc := 101) dX1_tempted_101 rfl ?_
    refine g_cS (pc := 102) (M' := mX1_hasBy) (as := [_, _, _, _]) i_X1_392 eX1_hasBy dX1_tempted_102 (k_hasBy _ _ _ _) (by omega) rfl rfl (Nat.le_of_ble_eq_true rfl) ?_
    rw [hb_e (sub01 hb) ha, hb_e hb ha]
    refine g_icmp_le (pc := 105) 111 dX1_tempted_105 (by decide) (fun c_105 => ?_) (fun c_105 => ?_)
    · refine g_iinc (pc := 111) (ls' := [_, _, _, _, _, _, _, _]) dX1_tempted_111 rfl (by first | exact nI_1 _ | exact rfl) (by decide) rfl rfl ?_
      refine g_iload (pc := 114) dX1_tempted_114 rfl ?_
      refine g_iconst (pc := 116) (v := -1) dX1_tempted_116 (by decide) ?_
      refine g_icmp_ne (pc := 117) 130 dX1_tempted_117 (by decide) (fun c_117 => ?_) (fun c_117 => ?_)
      · rw [tmT_y (by unfold ibB; rw [decide_eq_false c_82]; rfl) (by unfold ibB; rw [decide_eq_false (Int32.not_lt.mpr c_105)]; rfl)] at kk
        have e := (fun z => c_117 ((hj.f (by omega)).mp z) : ¬ s.1 = 0)
        rw [if_neg e, if_neg e] at kk
        exact kk
      · refine g_bipush (pc := 120) (v := 10) dX1_tempted_120 (by decide) ?_
        refine g_iload (pc := 122) dX1_tempted_122 rfl ?_
        refine g_imul (pc := 124) dX1_tempted_124 ?_
        refine g_iload (pc := 125) dX1_tempted_125 rfl ?_
        refine g_iadd (pc := 127) dX1_tempted_127 ?_
        refine g_istore (pc := 128) (ls' := [_, _, _, _, _, _, _, _]) dX1_tempted_128 (by decide) rfl rfl ?_
        rw [tmT_y (by unfold ibB; rw [decide_eq_false c_82]; rfl) (by unfold ibB; rw [decide_eq_false (Int32.not_lt.mpr c_105)]; rfl)] at kk
        have e := (hj.f (by omega)).mpr c_117
        rw [if_pos e, if_pos e] at kk
        exact kk
    · refine g_goto (pc := 108) 130 dX1_tempted_108 (by decide) ?_
      rw [tmT_n (fun e => by have e1 := e.2; unfold ibB at e1; rw [decide_eq_true (Int32.not_le.mp c_105)] at e1; exact absurd e1 (by decide))] at kk
      exact kk
set_option maxHeartbeats 2000000 in
theorem k_tempted (hd : 620 ≤ d) (hI : InvC ac W g (mlaw V) h) (hz : HZ g W 0 (V 31)) (v w x : Int32) (hv : (inR v 0 99 && inR w 0 99 && inR x 0 2) = true) : Ct E d 0 0 mX1_tempted [vR (nC ac 1), vI v, vI w, vI x] h (cQ ac W g (mlaw V) h (some (vI (tmI v w x)))) := by
  refine ct_of (by decide) (Nat.le_of_ble_eq_true rfl) rfl ?_
  have hF : cFr h h := cFr.rf
  have b8 := hI.2.2.2.2.1.2.2.2.2.2.2.2.1
  have b10 := hI.2.2.2.2.1.2.2.2.2.2.2.2.2.1
  have bP := hI.2.2.2.2.1.2.2.2.2.2.2.2.2.2.1
  simp only [Bool.and_eq_true] at hv
  obtain ⟨⟨v0, v1⟩, v2⟩ := hv
  refine g_aload_n (pc := 0) dX1_tempted_0 rfl ?_
  refine g_iload_n (pc := 1) dX1_tempted_1 rfl ?_
  refine g_iconst (pc := 2) (v := 0) dX1_tempted_2 (by decide) ?_
  refine g_bipush (pc := 3) (v := 99) dX1_tempted_3 (by decide) ?_
  refine g_cS (pc := 5) (M' := mX1_isIn) (as := [_, _, _]) i_X1_252 eX1_isIn dX1_tempted_5 (k_isIn _ _ _) (by omega) rfl rfl (Nat.le_of_ble_eq_true rfl) ?_
  refine g_ifB_eq (pc := 8) 34 dX1_tempted_8 (by decide) (fun c_8 => absurd (v0.symm.trans c_8) (by decide)) (fun c_8 => ?_)
  refine g_iload_n (pc := 11) dX1_tempted_11 rfl ?_
  refine g_iconst (pc := 12) (v := 0) dX1_tempted_12 (by decide) ?_
  refine g_bipush (pc := 13) (v := 99) dX1_tempted_13 (by decide) ?_
  refine g_cS (pc := 15) (M' := mX1_isIn) (as := [_, _, _]) i_X1_252 eX1_isIn dX1_tempted_15 (k_isIn _ _ _) (by omega) rfl rfl (Nat.le_of_ble_eq_true rfl) ?_
  refine g_ifB_eq (pc := 18) 34 dX1_tempted_18 (by decide) (fun c_18 => absurd (v1.symm.trans c_18) (by decide)) (fun c_18 => ?_)
  refine g_iload_n (pc := 21) dX1_tempted_21 rfl ?_
  refine g_iconst (pc := 22) (v := 0) dX1_tempted_22 (by decide) ?_
  refine g_iconst (pc := 23) (v := 2) dX1_tempted_23 (by decide) ?_
  refine g_cS (pc := 24) (M' := mX1_isIn) (as := [_, _, _]) i_X1_252 eX1_isIn dX1_tempted_24 (k_isIn _ _ _) (by omega) rfl rfl (Nat.le_of_ble_eq_true rfl) ?_
  refine g_ifB_eq (pc := 27) 34 dX1_tempted_27 (by decide) (fun c_27 => absurd (v2.symm.trans c_27) (by decide)) (fun c_27 => ?_)
  refine g_iconst (pc := 30) (v := 1) dX1_tempted_30 (by decide) ?_
  refine g_goto (pc := 31) 35 dX1_tempted_31 (by decide) ?_
  refine g_cVv (pc := 35) (M' := mX1_need) (as := [_]) (ci := 1) rfl i_X1_183_1 eX1_need dX1_tempted_35 hI.1 (k_needT) (by omega) rfl rfl (Nat.le_of_ble_eq_true rfl) ?_
  refine g_iconst (pc := 38) (v := 0) dX1_tempted_38 (by decide) ?_
  refine g_istore (pc := 39) (ls' := [_, _, _, _, _, _, _, _]) dX1_tempted_39 (by decide) rfl rfl ?_
  refine g_iconst (pc := 41) (v := -1) dX1_tempted_41 (by decide) ?_
  refine g_istore (pc := 42) (ls' := [_, _, _, _, _, _, _, _]) dX1_tempted_42 (by decide) rfl rfl ?_
  have j0 : tmJ v w ((0 : Int32), (-1 : Int32), (0 : Int32)) 0 := Or.inl ⟨rfl, rfl, rfl⟩
  have j1 := j0.s (a := 0) (b := 0) (by decide) (Or.inl rfl) (Or.inl rfl)
  have j2 := j1.s (a := 0) (b := 1) (by decide) (Or.inl rfl) (Or.inr rfl)
  have j3 := j2.s (a := 1) (b := 0) (by decide) (Or.inr rfl) (Or.inl rfl)
  have j4 := j3.s (a := 1) (b := 1) (by decide) (Or.inr rfl) (Or.inr rfl)
  refine g_iconst (pc := 44) (v := 0) dX1_tempted_44 (by decide) ?_
  refine g_istore (pc := 45) (ls' := [_, _, _, _, _, _, _, _]) dX1_tempted_45 (by decide) rfl rfl ?_
  refine g_iload (pc := 47) dX1_tempted_47 rfl ?_
  refine g_iconst (pc := 49) (v := 1) dX1_tempted_49 (by decide) ?_
  refine g_icmp_gt (pc := 50) 142 dX1_tempted_50 (by decide) (fun c_50 => absurd c_50 (by decide)) (fun c_50 => ?_)
  refine g_iconst (pc := 53) (v := 0) dX1_tempted_53 (by decide) ?_
  refine g_istore (pc := 54) (ls' := [_, _, _, _, _, _, _, _]) dX1_tempted_54 (by decide) rfl rfl ?_
  refine g_iload (pc := 56) dX1_tempted_56 rfl ?_
  refine g_iconst (pc := 58) (v := 1) dX1_tempted_58 (by decide) ?_
  refine g_icmp_gt (pc := 59) 136 dX1_tempted_59 (by decide) (fun c_59 => absurd c_59 (by decide)) (fun c_59 => ?_)
  refine l_ktm (s := ((0 : Int32), (-1 : Int32), (0 : Int32))) (by omega) j0 (by decide) (Or.inl rfl) (Or.inl rfl) ?_
  refine g_iinc (pc := 130) (ls' := [_, _, _, _, _, _, _, _]) dX1_tempted_130 rfl (by first | exact nI_1 _ | exact rfl) (by decide) rfl rfl ?_
  refine g_goto (pc := 133) 56 dX1_tempted_133 (by decide) ?_
  refine g_iload (pc := 56) dX1_tempted_56 rfl ?_
  refine g_iconst (pc := 58) (v := 1) dX1_tempted_58 (by decide) ?_
  refine g_icmp_gt (pc := 59) 136 dX1_tempted_59 (by decide) (fun c_59 => absurd c_59 (by decide)) (fun c_59 => ?_)
  refine l_ktm (by omega) j1 (by decide) (Or.inl rfl) (Or.inr rfl) ?_
  refine g_iinc (pc := 130) (ls' := [_, _, _, _, _, _, _, _]) dX1_tempted_130 rfl (by first | exact nI_1 _ | exact rfl) (by decide) rfl rfl ?_
  refine g_goto (pc := 133) 56 dX1_tempted_133 (by decide) ?_
  refine g_iload (pc := 56) dX1_tempted_56 rfl ?_
  refine g_iconst (pc := 58) (v := 1) dX1_tempted_58 (by decide) ?_
  refine g_icmp_gt (pc := 59) 136 dX1_tempted_59 (by decide) (fun c_59 => ?_) (fun c_59 => absurd (by decide) c_59)
  refine g_iinc (pc := 136) (ls' := [_, _, _, _, _, _, _, _]) dX1_tempted_136 rfl (by first | exact nI_1 _ | exact rfl) (by decide) rfl rfl ?_
  refine g_goto (pc := 139) 47 dX1_tempted_139 (by decide) ?_
  skip
  refine g_iload (pc := 47) dX1_tempted_47 rfl ?_
  refine g_iconst (pc := 49) (v := 1) dX1_tempted_49 (by decide) ?_
  refine g_icmp_gt (pc := 50) 142 dX1_tempted_50 (by decide) (fun c_50 => absurd c_50 (by decide)) (fun c_50 => ?_)
  refine g_iconst (pc := 53) (v := 0) dX1_tempted_53 (by decide) ?_
  refine g_istore (pc := 54) (ls' := [_, _, _, _, _, _, _, _]) dX1_tempted_54 (by decide) rfl rfl ?_
  refine g_iload (pc := 56) dX1_tempted_56 rfl ?_
  refine g_iconst (pc := 58) (v := 1) dX1_tempted_58 (by decide) ?_
  refine g_icmp_gt (pc := 59) 136 dX1_tempted_59 (by decide) (fun c_59 => absurd c_59 (by decide)) (fun c_59 => ?_)
  refine l_ktm (by omega) j2 (by decide) (Or.inr rfl) (Or.inl rfl) ?_
  refine g_iinc (pc := 130) (ls' := [_, _, _, _, _, _, _, _]) dX1_tempted_130 rfl (by first | exact nI_1 _ | exact rfl) (by decide) rfl rfl ?_
  refine g_goto (pc := 133) 56 dX1_tempted_133 (by decide) ?_
  refine g_iload (pc := 56) dX1_tempted_56 rfl ?_
  refine g_iconst (pc := 58) (v := 1) dX1_tempted_58 (by decide) ?_
  refine g_icmp_gt (pc := 59) 136 dX1_tempted_59 (by decide) (fun c_59 => absurd c_59 (by decide)) (fun c_59 => ?_)
  refine l_ktm (by omega) j3 (by decide) (Or.inr rfl) (Or.inr rfl) ?_
  refine g_iinc (pc := 130) (ls' := [_, _, _, _, _, _, _, _]) dX1_tempted_130 rfl (by first | exact nI_1 _ | exact rfl) (by decide) rfl rfl ?_
  refine g_goto (pc := 133) 56 dX1_tempted_133 (by decide) ?_
  refine g_iload (pc := 56) dX1_tempted_56 rfl ?_
  refine g_iconst (pc := 58) (v := 1) dX1_tempted_58 (by decide) ?_
  refine g_icmp_gt (pc := 59) 136 dX1_tempted_59 (by decide) (fun c_59 => ?_) (fun c_59 => absurd (by decide) c_59)
  refine g_iinc (pc := 136) (ls' := [_, _, _, _, _, _, _, _]) dX1_tempted_136 rfl (by first | exact nI_1 _ | exact rfl) (by decide) rfl rfl ?_
  refine g_goto (pc := 139) 47 dX1_tempted_139 (by decide) ?_
  skip
  refine g_iload (pc := 47) dX1_tempted_47 rfl ?_
  refine g_iconst (pc := 49) (v := 1) dX1_tempted_49 (by decide) ?_
  refine g_icmp_gt (pc := 50) 142 dX1_tempted_50 (by decide) (fun c_50 => ?_) (fun c_50 => absurd (by decide) c_50)
  skip
  refine g_iload_n (pc := 142) dX1_tempted_142 rfl ?_
  refine g_if_ne (pc := 143) 151 dX1_tempted_143 (by decide) (fun c_143 => ?_) (fun c_143 => ?_)
  · refine g_iload_n (pc := 151) dX1_tempted_151 rfl ?_
    refine g_iconst (pc := 152) (v := 1) dX1_tempted_152 (by decide) ?_
    refine g_icmp_ne (pc := 153) 161 dX1_tempted_153 (by decide) (fun c_153 => ?_) (fun c_153 => ?_)
    · refine g_iload (pc := 161) dX1_tempted_161 rfl ?_
      refine g_iconst (pc := 163) (v := -1) dX1_tempted_163 (by decide) ?_
      refine g_icmp_ne (pc := 164) 171 dX1_tempted_164 (by decide) (fun c_164 => ?_) (fun c_164 => ?_)
      · obtain ⟨k9, a9, b9, i1, i2, i3, i4, i5, i6, i7⟩ := j4.resolve_left (fun z => c_164 z.2.1)
        obtain ⟨i8, i9, i10⟩ := t10_m i4 i5
        rw [show nI (0 + 1) = (1 : Int32) from rfl, i6]
        refine g_iload (pc := 171) dX1_tempted_171 rfl ?_
        refine g_bipush (pc := 173) (v := 10) dX1_tempted_173 (by decide) ?_
        refine g_idiv (pc := 175) dX1_tempted_175 (by decide) ?_
        refine g_iload (pc := 176) dX1_tempted_176 rfl ?_
        refine g_bipush (pc := 178) (v := 10) dX1_tempted_178 (by decide) ?_
        refine g_irem (pc := 180) dX1_tempted_180 (by decide) ?_
        refine g_iload_n (pc := 181) dX1_tempted_181 rfl ?_
        refine g_iload_n (pc := 182) dX1_tempted_182 rfl ?_
        rw [i10, i9]
        refine g_cS (pc := 183) (M' := mX1_hasBy) (as := [_, _, _, _]) i_X1_392 eX1_hasBy dX1_tempted_183 (k_hasBy _ _ _ _) (by omega) rfl rfl (Nat.le_of_ble_eq_true rfl) ?_
        refine g_iload (pc := 186) dX1_tempted_186 rfl ?_
        refine g_bipush (pc := 188) (v := 10) dX1_tempted_188 (by decide) ?_
        refine g_irem (pc := 190) dX1_tempted_190 (by decide) ?_
        refine g_iload (pc := 191) dX1_tempted_191 rfl ?_
        refine g_bipush (pc := 193) (v := 10) dX1_tempted_193 (by decide) ?_
        refine g_idiv (pc := 195) dX1_tempted_195 (by decide) ?_
        refine g_iload_n (pc := 196) dX1_tempted_196 rfl ?_
        refine g_iload_n (pc := 197) dX1_tempted_197 rfl ?_
        rw [i10, i9]
        refine g_cS (pc := 198) (M' := mX1_hasBy) (as := [_, _, _, _]) i_X1_392 eX1_hasBy dX1_tempted_198 (k_hasBy _ _ _ _) (by omega) rfl rfl (Nat.le_of_ble_eq_true rfl) ?_
        rw [hb_e i4 i5, hb_e i5 i4]
        refine g_iadd (pc := 201) dX1_tempted_201 ?_
        refine g_ireturn (pc := 202) dX1_tempted_202 rfl (by first | exact rfl | exact j_nb _) ?_
        exact ⟨rv (by unfold tmI; rw [if_neg c_143, if_neg c_153]; exact i7.symm), hI, hF⟩
      · refine g_iconst (pc := 167) (v := 0) dX1_tempted_167 (by decide) ?_
        refine g_goto (pc := 168) 202 dX1_tempted_168 (by decide) ?_
        refine g_ireturn (pc := 202) dX1_tempted_202 rfl (by first | exact rfl | exact j_nb _) ?_
        have e9 : (tmS v w).2.2 = 0 := (j4.elim (fun z => z.2.2) (fun ⟨k9, a9, b9, i1, i2, i3, i4, i5, i6, i7⟩ => absurd (i6.symm.trans c_164) (t10_m i4 i5).1))
        exact ⟨rv (by unfold tmI; rw [if_neg c_143, if_neg c_153, e9]), hI, hF⟩
    · refine g_iload (pc := 156) dX1_tempted_156 rfl ?_
      refine g_goto (pc := 158) 202 dX1_tempted_158 (by decide) ?_
      refine g_ireturn (pc := 202) dX1_tempted_202 rfl (by first | exact rfl | exact j_nb _) ?_
      exact ⟨rv (by unfold tmI; rw [if_neg c_143, if_pos c_153]; rfl), hI, hF⟩
  · refine g_iload (pc := 146) dX1_tempted_146 rfl ?_
    refine g_goto (pc := 148) 202 dX1_tempted_148 (by decide) ?_
    refine g_ireturn (pc := 202) dX1_tempted_202 rfl (by first | exact rfl | exact j_nb _) ?_
    exact ⟨rv (by unfold tmI; rw [if_pos c_143]; rfl), hI, hF⟩
set_option maxHeartbeats 2000000 in
theorem l_kgiven {bc bs : Nat} {Q : jR → jH → Prop} {h0 : jH} (hd : 10 ≤ d) (b x : Int32) : ∀ (m r : Nat) (h : jH), gP g - r = m → r ≤ gP g → InvC ac W g (mlaw V) h → cFr h0 h → (∀ h, InvC ac W g (mlaw V) h → cFr h0 h → G E d bc bs mX1_given 49 [some (vR (nC ac 1)), some (vI b), some (vI x), some (vI (sumI (givF (gD g) b x) (gP g))), some (vI (nI (gP g)))] [] h Q) → G E d bc bs mX1_given 5 [some (vR (nC ac 1)), some (vI b), some (vI x), some (vI (sumI (givF (gD g) b x) r)), some (vI (nI r))] [] h Q := by
  intro m
  induction m with
  | zero =>
    intro r h hm hr hI hF kk
    have e : r = gP g := by omega
    subst e
    have b8 := hI.2.2.2.2.1.2.2.2.2.2.2.2.1
    have b10 := hI.2.2.2.2.1.2.2.2.2.2.2.2.2.1
    have bP := hI.2.2.2.2.1.2.2.2.2.2.2.2.2.2.1
    refine g_iload (pc := 5) dX1_given_5 rfl ?_
    refine g_aload_n (pc := 7) dX1_given_7 rfl ?_
    refine g_cV (pc := 8) (M' := mX1_pilgrims) (as := []) (ci := 1) rfl i_X1_167_1 eX1_pilgrims dX1_given_8 hI.1 (k_pilgrims (by omega) hI) (by omega) rfl rfl (Nat.le_of_ble_eq_true rfl) ?_
    refine g_icmp_ge (pc := 11) 49 dX1_given_11 (by decide) (fun c_11 => ?_) (fun c_11 => absurd (nI_le (Nat.le_refl _) (by omega)) c_11)
    exact kk h hI hF
  | succ m ih =>
    intro r h hm hr hI hF kk
    have b8 := hI.2.2.2.2.1.2.2.2.2.2.2.2.1
    have b10 := hI.2.2.2.2.1.2.2.2.2.2.2.2.2.1
    have bP := hI.2.2.2.2.1.2.2.2.2.2.2.2.2.2.1
    refine g_iload (pc := 5) dX1_given_5 rfl ?_
    refine g_aload_n (pc := 7) dX1_given_7 rfl ?_
    refine g_cV (pc := 8) (M' := mX1_pilgrims) (as := []) (ci := 1) rfl i_X1_167_1 eX1_pilgrims dX1_given_8 hI.1 (k_pilgrims (by omega) hI) (by omega) rfl rfl (Nat.le_of_ble_eq_true rfl) ?_
    refine g_icmp_ge (pc := 11) 49 dX1_given_11 (by decide) (fun c_11 => absurd c_11 (by intro w; have := (nI_leI (by omega) (by omega)).mp w; omega)) (fun c_11 => ?_)
    refine g_iload_n (pc := 14) dX1_given_14 rfl ?_
    refine g_iload_n (pc := 15) dX1_given_15 rfl ?_
    refine g_iload (pc := 16) dX1_given_16 rfl ?_
    refine g_cS (pc := 18) (M' := mX1_has) (as := [_, _]) i_X1_350 eX1_has dX1_given_18 (k_has _ _) (by omega) rfl rfl (Nat.le_of_ble_eq_true rfl) ?_
    refine g_ifB_eq (pc := 21) 40 dX1_given_21 (by decide) (fun c_21 => ?_) (fun c_21 => ?_)
    · refine g_iconst (pc := 40) (v := 0) dX1_given_40 (by decide) ?_
      refine g_iadd (pc := 41) dX1_given_41 ?_
      refine g_istore_n (pc := 42) (ls' := [_, _, _, _, _]) dX1_given_42 (by decide) rfl rfl ?_
      refine g_iinc (pc := 43) (ls' := [_, _, _, _, _]) dX1_given_43 rfl (by first | exact nI_1 _ | exact rfl) (by decide) rfl rfl ?_
      refine g_goto (pc := 46) 5 dX1_given_46 (by decide) ?_
      have q := ih (r + 1) h (by omega) (by omega) hI hF kk
      rw [sumI_s, show givF (gD g) b x r = 0 from if_neg (by rw [c_21]; decide)] at q
      exact q
    · refine g_iload_n (pc := 24) dX1_given_24 rfl ?_
      refine g_aload_n (pc := 25) dX1_given_25 rfl ?_
      refine g_iload (pc := 26) dX1_given_26 rfl ?_
      refine g_cV (pc := 28) (M' := mX1_pilgrimOf) (as := [_]) (ci := 1) rfl i_X1_323_1 eX1_pilgrimOf dX1_given_28 hI.1 (k_pilgrimOf (by omega) hI r (by omega)) (by omega) rfl rfl (Nat.le_of_ble_eq_true rfl) ?_
      refine g_getfield (pc := 31) f_X1_328_16 dX1_given_31 (hI.2.2.2.2.1.2.2.2.2.2.2.1 r (by omega)) rfl ?_
      refine g_cS (pc := 34) (M' := mJ12_min) (as := [_, _]) i_X1_143 eJ12_min dX1_given_34 (k_min _ _) (by omega) rfl rfl (Nat.le_of_ble_eq_true rfl) ?_
      refine g_goto (pc := 37) 41 dX1_given_37 (by decide) ?_
      refine g_iadd (pc := 41) dX1_given_41 ?_
      refine g_istore_n (pc := 42) (ls' := [_, _, _, _, _]) dX1_given_42 (by decide) rfl rfl ?_
      refine g_iinc (pc := 43) (ls' := [_, _, _, _, _]) dX1_given_43 rfl (by first | exact nI_1 _ | exact rfl) (by decide) rfl rfl ?_
      refine g_goto (pc := 46) 5 dX1_given_46 (by decide) ?_
      have q := ih (r + 1) h (by omega) (by omega) hI hF kk
      rw [sumI_s, show givF (gD g) b x r = lessI x (nI (gD g 4 r)) from if_pos c_21, ← min_lessI] at q
      exact q
set_option maxHeartbeats 2000000 in
theorem k_given (hd : 12 ≤ d) (hI : InvC ac W g (mlaw V) h) (b x : Int32) : Ct E d 0 0 mX1_given [vR (nC ac 1), vI b, vI x] h (cQ ac W g (mlaw V) h (some (vI (sumI (givF (gD g) b x) (gP g))))) := by
  refine ct_of (by decide) (Nat.le_of_ble_eq_true rfl) rfl ?_
  have hF : cFr h h := cFr.rf
  refine g_iconst (pc := 0) (v := 0) dX1_given_0 (by decide) ?_
  refine g_istore_n (pc := 1) (ls' := [_, _, _, _, _]) dX1_given_1 (by decide) rfl rfl ?_
  refine g_iconst (pc := 2) (v := 0) dX1_given_2 (by decide) ?_
  refine g_istore (pc := 3) (ls' := [_, _, _, _, _]) dX1_given_3 (by decide) rfl rfl ?_
  refine l_kgiven (by omega) b x (gP g) 0 h rfl (Nat.zero_le _) hI hF (fun h hI hF => ?_)
  refine g_iload_n (pc := 49) dX1_given_49 rfl ?_
  refine g_ireturn (pc := 50) dX1_given_50 rfl (by first | exact rfl | exact j_nb _) ?_
  exact ⟨rfl, hI, hF⟩
set_option maxHeartbeats 2000000 in
theorem l_kalms {bc bs p : Nat} {Q : jR → jH → Prop} {h0 : jH} {b n : Int32} (hd : 20 ≤ d) : ∀ (m k : Nat) (h : jH), k + m = 99 → InvC ac W g (mlaw V) h → cFr h0 h → (∀ h, InvC ac W g (mlaw V) h → cFr h0 h → G E d bc bs mX1_alms 68 [some (vR (nC ac 1)), some (vI (nI p)), some (vI b), some (vI n), some (vI (nI (almF (gD g) (gP g) b n m k)))] [] h Q) → G E d bc bs mX1_alms 42 [some (vR (nC ac 1)), some (vI (nI p)), some (vI b), some (vI n), some (vI (nI k))] [] h Q := by
  intro m
  induction m with
  | zero =>
    intro k h hk hI hF kk
    have e : k = 99 := by omega
    subst e
    refine g_iload (pc := 42) dX1_alms_42 rfl ?_
    refine g_bipush (pc := 44) (v := 99) dX1_alms_44 (by decide) ?_
    refine g_icmp_ge (pc := 46) 68 dX1_alms_46 (by decide) (fun c_46 => ?_) (fun c_46 => absurd (by decide) c_46)
    exact kk h hI hF
  | succ m ih =>
    intro k h hk hI hF kk
    refine g_iload (pc := 42) dX1_alms_42 rfl ?_
    refine g_bipush (pc := 44) (v := 99) dX1_alms_44 (by decide) ?_
    refine g_icmp_ge (pc := 46) 68 dX1_alms_46 (by decide) (fun c_46 => absurd c_46 (by intro w; have := (nI_leI (a := 99) (b := k) (by decide) (by omega)).mp w; omega)) (fun c_46 => ?_)
    refine g_aload_n (pc := 49) dX1_alms_49 rfl ?_
    refine g_iload_n (pc := 50) dX1_alms_50 rfl ?_
    refine g_iload (pc := 51) dX1_alms_51 rfl ?_
    refine g_iconst (pc := 53) (v := 1) dX1_alms_53 (by decide) ?_
    refine g_iadd (pc := 54) dX1_alms_54 ?_
    rw [nI_1]
    refine c_cV (pc := 55) (M' := mX1_given) (as := [_, _]) (ci := 1) rfl i_X1_396_1 eX1_given dX1_alms_55 hI.1 (k_given (by omega) hI b _) (by omega) rfl rfl (Nat.le_of_ble_eq_true rfl) (fun h hI fr => ?_)
    replace hF := cFr.tr hF fr
    refine g_iload_n (pc := 58) dX1_alms_58 rfl ?_
    refine g_icmp_gt (pc := 59) 68 dX1_alms_59 (by decide) (fun c_59 => ?_) (fun c_59 => ?_)
    · rw [almF_y c_59] at kk
      exact kk h hI hF
    · refine g_iinc (pc := 62) (ls' := [_, _, _, _, _]) dX1_alms_62 rfl (by first | exact nI_1 _ | exact rfl) (by decide) rfl rfl ?_
      refine g_goto (pc := 65) 42 dX1_alms_65 (by decide) ?_
      rw [almF_n c_59] at kk
      exact ih (k + 1) h (by omega) hI hF kk
set_option maxHeartbeats 2000000 in
theorem k_alms (hd : 620 ≤ d) (hI : InvC ac W g (mlaw V) h) (hz : HZ g W 0 (V 31)) (p : Nat) (b n : Int32) (hp : p < gP g) (hv : (inR b 0 (bitI (gP g) - 1) && inR n 0 999) = true) : Ct E d 0 0 mX1_alms [vR (nC ac 1), vI (nI p), vI b, vI n] h (cQ ac W g (mlaw V) h (some (vI (givF (gD g) b (nI (almF (gD g) (gP g) b n 99 0)) p)))) := by
  refine ct_of (by decide) (Nat.le_of_ble_eq_true rfl) rfl ?_
  have hF : cFr h h := cFr.rf
  have b8 := hI.2.2.2.2.1.2.2.2.2.2.2.2.1
  have b10 := hI.2.2.2.2.1.2.2.2.2.2.2.2.2.1
  have bP := hI.2.2.2.2.1.2.2.2.2.2.2.2.2.2.1
  simp only [Bool.and_eq_true] at hv
  obtain ⟨v0, v1⟩ := hv
  have v2 := (bp_c bP).mp v0
  refine g_aload_n (pc := 0) dX1_alms_0 rfl ?_
  refine g_iload_n (pc := 1) dX1_alms_1 rfl ?_
  refine g_cVv (pc := 2) (M' := mX1_needPilgrim) (as := [_]) (ci := 1) rfl i_X1_320_1 eX1_needPilgrim dX1_alms_2 hI.1 (k_needPT (by omega) hI p hp) (by omega) rfl rfl (Nat.le_of_ble_eq_true rfl) ?_
  refine g_aload_n (pc := 5) dX1_alms_5 rfl ?_
  refine g_iload_n (pc := 6) dX1_alms_6 rfl ?_
  refine g_if_lt (pc := 7) 35 dX1_alms_7 (by decide) (fun c_7 => absurd c_7 v2.1) (fun c_7 => ?_)
  refine g_iload_n (pc := 10) dX1_alms_10 rfl ?_
  refine g_iconst (pc := 11) (v := 1) dX1_alms_11 (by decide) ?_
  refine g_aload_n (pc := 12) dX1_alms_12 rfl ?_
  refine g_cV (pc := 13) (M' := mX1_pilgrims) (as := []) (ci := 1) rfl i_X1_167_1 eX1_pilgrims dX1_alms_13 hI.1 (k_pilgrims (by omega) hI) (by omega) rfl rfl (Nat.le_of_ble_eq_true rfl) ?_
  refine g_ishl (pc := 16) dX1_alms_16 ?_
  refine g_icmp_ge (pc := 17) 35 dX1_alms_17 (by decide) (fun c_17 => absurd c_17 v2.2) (fun c_17 => ?_)
  refine g_iload_n (pc := 20) dX1_alms_20 rfl ?_
  refine g_iconst (pc := 21) (v := 0) dX1_alms_21 (by decide) ?_
  refine g_sipush (pc := 22) (v := 999) dX1_alms_22 (by decide) ?_
  refine g_cS (pc := 25) (M' := mX1_isIn) (as := [_, _, _]) i_X1_252 eX1_isIn dX1_alms_25 (k_isIn _ _ _) (by omega) rfl rfl (Nat.le_of_ble_eq_true rfl) ?_
  refine g_ifB_eq (pc := 28) 35 dX1_alms_28 (by decide) (fun c_28 => absurd (v1.symm.trans c_28) (by decide)) (fun c_28 => ?_)
  refine g_iconst (pc := 31) (v := 1) dX1_alms_31 (by decide) ?_
  refine g_goto (pc := 32) 36 dX1_alms_32 (by decide) ?_
  refine g_cVv (pc := 36) (M' := mX1_need) (as := [_]) (ci := 1) rfl i_X1_183_1 eX1_need dX1_alms_36 hI.1 (k_needT) (by omega) rfl rfl (Nat.le_of_ble_eq_true rfl) ?_
  refine g_iconst (pc := 39) (v := 0) dX1_alms_39 (by decide) ?_
  refine g_istore (pc := 40) (ls' := [_, _, _, _, _]) dX1_alms_40 (by decide) rfl rfl ?_
  refine l_kalms (by omega) 99 0 h rfl hI hF (fun h hI hF => ?_)
  refine g_iload_n (pc := 68) dX1_alms_68 rfl ?_
  refine g_iload_n (pc := 69) dX1_alms_69 rfl ?_
  refine g_cS (pc := 70) (M' := mX1_has) (as := [_, _]) i_X1_350 eX1_has dX1_alms_70 (k_has _ _) (by omega) rfl rfl (Nat.le_of_ble_eq_true rfl) ?_
  refine g_ifB_eq (pc := 73) 92 dX1_alms_73 (by decide) (fun c_73 => ?_) (fun c_73 => ?_)
  · refine g_iconst (pc := 92) (v := 0) dX1_alms_92 (by decide) ?_
    refine g_ireturn (pc := 93) dX1_alms_93 rfl (by first | exact rfl | exact j_nb _) ?_
    exact ⟨rv (by unfold givF; rw [if_neg (by rw [c_73]; decide)]), hI, hF⟩
  · refine g_iload (pc := 76) dX1_alms_76 rfl ?_
    refine g_aload_n (pc := 78) dX1_alms_78 rfl ?_
    refine g_iload_n (pc := 79) dX1_alms_79 rfl ?_
    refine g_cV (pc := 80) (M' := mX1_pilgrimOf) (as := [_]) (ci := 1) rfl i_X1_323_1 eX1_pilgrimOf dX1_alms_80 hI.1 (k_pilgrimOf (by omega) hI p hp) (by omega) rfl rfl (Nat.le_of_ble_eq_true rfl) ?_
    refine g_getfield (pc := 83) f_X1_328_16 dX1_alms_83 (hI.2.2.2.2.1.2.2.2.2.2.2.1 p hp) rfl ?_
    refine g_cS (pc := 86) (M' := mJ12_min) (as := [_, _]) i_X1_143 eJ12_min dX1_alms_86 (k_min _ _) (by omega) rfl rfl (Nat.le_of_ble_eq_true rfl) ?_
    refine g_goto (pc := 89) 93 dX1_alms_89 (by decide) ?_
    refine g_ireturn (pc := 93) dX1_alms_93 rfl (by first | exact rfl | exact j_nb _) ?_
    exact ⟨rv (by unfold givF; rw [if_pos c_73, min_lessI]), hI, hF⟩
theorem k_draw (hI : InvC ac W g (mlaw V) h) (c : Nat) (hc : 0 < c) (hc2 : c ≤ 100) : Ct E d 0 0 mX1_draw [vR (nC ac 1), vI (nI c)] h (cQ ac (sv W 0 14 (drwS (W 0 14))) g (mlaw V) h (some (vI (nI (drwI (W 0 14) c))))) := by
  refine ct_of (by decide) (Nat.le_of_ble_eq_true rfl) rfl ?_
  have hF : cFr h h := cFr.rf
  refine g_aload_n (pc := 0) dX1_draw_0 rfl ?_
  refine g_aload_n (pc := 1) dX1_draw_1 rfl ?_
  refine g_getfield (pc := 2) f_X1_399_1 dX1_draw_2 hI.1 rfl ?_
  refine g_ldcw (pc := 5) (v := 1103515245) dX1_draw_5 q1968 ?_
  refine g_imul (pc := 8) dX1_draw_8 ?_
  refine g_sipush (pc := 9) (v := 12345) dX1_draw_9 (by decide) ?_
  refine g_iadd (pc := 12) dX1_draw_12 ?_
  rw [← drwS_e]
  refine c_put (pc := 13) hI w_X1_399_1 rfl (by decide) dX1_draw_13 (fun h hI fr => ?_)
  replace hF := cFr.tr hF fr
  refine g_aload_n (pc := 16) dX1_draw_16 rfl ?_
  refine g_getfield (pc := 17) f_X1_399_1 dX1_draw_17 hI.1 rfl ?_
  rw [sv_same]
  refine g_bipush (pc := 20) (v := 16) dX1_draw_20 (by decide) ?_
  refine g_ishr (pc := 22) dX1_draw_22 ?_
  refine g_sipush (pc := 23) (v := 32767) dX1_draw_23 (by decide) ?_
  refine g_iand (pc := 26) dX1_draw_26 ?_
  refine g_iload_n (pc := 27) dX1_draw_27 rfl ?_
  refine g_irem (pc := 28) dX1_draw_28 (nI_ne0 (by omega) (by omega)) ?_
  refine g_ireturn (pc := 29) dX1_draw_29 rfl (by first | exact rfl | exact j_nb _) ?_
  exact ⟨rv (drwI_e (W 0 14) hc hc2).1, hI, hF⟩
end
section
variable {E : jE} {d : Nat} {h : jH} {ac : Nat → Nat} {W : mV} {g : HD} {F : (Nat → Int32) → Int32}
set_option maxHeartbeats 2000000 in
theorem x_ring (hd : 20 ≤ d) (hI : InvC ac W g F h) (s  : Int32) (hv : inR s 0 (nI (gS g) - 1) = false) : Ct E d 1 6 mX1_ring [vR (nC ac 1), vI s] h (cX ac W g F h nmNS 0) := by
  refine ct_of (by decide) (Nat.le_of_ble_eq_true rfl) rfl ?_
  have hF : cFr h h := cFr.rf
  have b8 := hI.2.2.2.2.1.2.2.2.2.2.2.2.1
  have b10 := hI.2.2.2.2.1.2.2.2.2.2.2.2.2.1
  have bP := hI.2.2.2.2.1.2.2.2.2.2.2.2.2.2.1
  refine g_aload_n (pc := 0) dX1_ring_0 rfl ?_
  refine g_iload_n (pc := 1) dX1_ring_1 rfl ?_
  exact c_tV (pc := 2) (M' := mX1_needSister) (as := [_]) (ci := 1) rfl i_X1_273_1 eX1_needSister dX1_ring_2 hI.1 (k_needSF (by omega) hI s hv) (by omega) rfl rfl (Nat.le_of_ble_eq_true rfl) (by decide) hF (by omega) (by omega)
set_option maxHeartbeats 2000000 in
theorem x_follows (hd : 20 ≤ d) (hI : InvC ac W g F h) (s a0 : Int32) (hv : inR s 0 (nI (gS g) - 1) = false) : Ct E d 1 6 mX1_follows [vR (nC ac 1), vI s, vI a0] h (cX ac W g F h nmNS 0) := by
  refine ct_of (by decide) (Nat.le_of_ble_eq_true rfl) rfl ?_
  have hF : cFr h h := cFr.rf
  have b8 := hI.2.2.2.2.1.2.2.2.2.2.2.2.1
  have b10 := hI.2.2.2.2.1.2.2.2.2.2.2.2.2.1
  have bP := hI.2.2.2.2.1.2.2.2.2.2.2.2.2.2.1
  refine g_aload_n (pc := 0) dX1_follows_0 rfl ?_
  refine g_iload_n (pc := 1) dX1_follows_1 rfl ?_
  exact c_tV (pc := 2) (M' := mX1_needSister) (as := [_]) (ci := 1) rfl i_X1_273_1 eX1_needSister dX1_follows_2 hI.1 (k_needSF (by omega) hI s hv) (by omega) rfl rfl (Nat.le_of_ble_eq_true rfl) (by decide) hF (by omega) (by omega)
set_option maxHeartbeats 2000000 in
theorem x_alms (hd : 20 ≤ d) (hI : InvC ac W g F h) (s a0 a1 : Int32) (hv : inR s 0 (nI (gP g) - 1) = false) : Ct E d 1 6 mX1_alms [vR (nC ac 1), vI s, vI a0, vI a1] h (cX ac W g F h nmNS 0) := by
  refine ct_of (by decide) (Nat.le_of_ble_eq_true rfl) rfl ?_
  have hF : cFr h h := cFr.rf
  have b8 := hI.2.2.2.2.1.2.2.2.2.2.2.2.1
  have b10 := hI.2.2.2.2.1.2.2.2.2.2.2.2.2.1
  have bP := hI.2.2.2.2.1.2.2.2.2.2.2.2.2.2.1
  refine g_aload_n (pc := 0) dX1_alms_0 rfl ?_
  refine g_iload_n (pc := 1) dX1_alms_1 rfl ?_
  exact c_tV (pc := 2) (M' := mX1_needPilgrim) (as := [_]) (ci := 1) rfl i_X1_320_1 eX1_needPilgrim dX1_alms_2 hI.1 (k_needPF (by omega) hI s hv) (by omega) rfl rfl (Nat.le_of_ble_eq_true rfl) (by decide) hF (by omega) (by omega)
set_option maxHeartbeats 2000000 in
theorem y_follows (hd : 20 ≤ d) (hI : InvC ac W g F h) (s : Nat) (x : Int32) (hs : s < gS g) (hv : inR x 0 1000000 = false) : Ct E d 1 6 mX1_follows [vR (nC ac 1), vI (nI s), vI x] h (cX ac W g F h nmIA 1) := by
  refine ct_of (by decide) (Nat.le_of_ble_eq_true rfl) rfl ?_
  have hF : cFr h h := cFr.rf
  have b8 := hI.2.2.2.2.1.2.2.2.2.2.2.2.1
  have b10 := hI.2.2.2.2.1.2.2.2.2.2.2.2.2.1
  have bP := hI.2.2.2.2.1.2.2.2.2.2.2.2.2.2.1
  refine g_aload_n (pc := 0) dX1_follows_0 rfl ?_
  refine g_iload_n (pc := 1) dX1_follows_1 rfl ?_
  refine g_cVv (pc := 2) (M' := mX1_needSister) (as := [_]) (ci := 1) rfl i_X1_273_1 eX1_needSister dX1_follows_2 hI.1 (k_needST (by omega) hI s hs) (by omega) rfl rfl (Nat.le_of_ble_eq_true rfl) ?_
  refine g_aload_n (pc := 5) dX1_follows_5 rfl ?_
  refine g_iload_n (pc := 6) dX1_follows_6 rfl ?_
  refine g_iconst (pc := 7) (v := 0) dX1_follows_7 (by decide) ?_
  refine g_ldcw (pc := 8) (v := 1000000) dX1_follows_8 q1889 ?_
  refine g_cS (pc := 11) (M' := mX1_isIn) (as := [_, _, _]) i_X1_252 eX1_isIn dX1_follows_11 (k_isIn _ _ _) (by omega) rfl rfl (Nat.le_of_ble_eq_true rfl) ?_
  rw [hv]
  exact c_tV (pc := 14) (M' := mX1_need) (as := [_]) (ci := 1) rfl i_X1_183_1 eX1_need dX1_follows_14 hI.1 (k_needF (by omega) hI) (by omega) rfl rfl (Nat.le_of_ble_eq_true rfl) (by decide) hF (by omega) (by omega)
set_option maxHeartbeats 2000000 in
theorem y_alms (hd : 20 ≤ d) (hI : InvC ac W g F h) (s : Nat) (b n : Int32) (hs : s < gP g) (hv : (inR b 0 (bitI (gP g) - 1) && inR n 0 999) = false) : Ct E d 1 6 mX1_alms [vR (nC ac 1), vI (nI s), vI b, vI n] h (cX ac W g F h nmIA 1) := by
  refine ct_of (by decide) (Nat.le_of_ble_eq_true rfl) rfl ?_
  have hF : cFr h h := cFr.rf
  have b8 := hI.2.2.2.2.1.2.2.2.2.2.2.2.1
  have b10 := hI.2.2.2.2.1.2.2.2.2.2.2.2.2.1
  have bP := hI.2.2.2.2.1.2.2.2.2.2.2.2.2.2.1
  refine g_aload_n (pc := 0) dX1_alms_0 rfl ?_
  refine g_iload_n (pc := 1) dX1_alms_1 rfl ?_
  refine g_cVv (pc := 2) (M' := mX1_needPilgrim) (as := [_]) (ci := 1) rfl i_X1_320_1 eX1_needPilgrim dX1_alms_2 hI.1 (k_needPT (by omega) hI s hs) (by omega) rfl rfl (Nat.le_of_ble_eq_true rfl) ?_
  refine g_aload_n (pc := 5) dX1_alms_5 rfl ?_
  refine g_iload_n (pc := 6) dX1_alms_6 rfl ?_
  refine g_if_lt (pc := 7) 35 dX1_alms_7 (by decide) (fun c_7 => ?_) (fun c_7 => ?_)
  · refine g_iconst (pc := 35) (v := 0) dX1_alms_35 (by decide) ?_
    exact c_tV (pc := 36) (M' := mX1_need) (as := [_]) (ci := 1) rfl i_X1_183_1 eX1_need dX1_alms_36 hI.1 (k_needF (by omega) hI) (by omega) rfl rfl (Nat.le_of_ble_eq_true rfl) (by decide) hF (by omega) (by omega)
  · refine g_iload_n (pc := 10) dX1_alms_10 rfl ?_
    refine g_iconst (pc := 11) (v := 1) dX1_alms_11 (by decide) ?_
    refine g_aload_n (pc := 12) dX1_alms_12 rfl ?_
    refine g_cV (pc := 13) (M' := mX1_pilgrims) (as := []) (ci := 1) rfl i_X1_167_1 eX1_pilgrims dX1_alms_13 hI.1 (k_pilgrims (by omega) hI) (by omega) rfl rfl (Nat.le_of_ble_eq_true rfl) ?_
    refine g_ishl (pc := 16) dX1_alms_16 ?_
    refine g_icmp_ge (pc := 17) 35 dX1_alms_17 (by decide) (fun c_17 => ?_) (fun c_17 => ?_)
    · refine g_iconst (pc := 35) (v := 0) dX1_alms_35 (by decide) ?_
      exact c_tV (pc := 36) (M' := mX1_need) (as := [_]) (ci := 1) rfl i_X1_183_1 eX1_need dX1_alms_36 hI.1 (k_needF (by omega) hI) (by omega) rfl rfl (Nat.le_of_ble_eq_true rfl) (by decide) hF (by omega) (by omega)
    · refine g_iload_n (pc := 20) dX1_alms_20 rfl ?_
      refine g_iconst (pc := 21) (v := 0) dX1_alms_21 (by decide) ?_
      refine g_sipush (pc := 22) (v := 999) dX1_alms_22 (by decide) ?_
      refine g_cS (pc := 25) (M' := mX1_isIn) (as := [_, _, _]) i_X1_252 eX1_isIn dX1_alms_25 (k_isIn _ _ _) (by omega) rfl rfl (Nat.le_of_ble_eq_true rfl) ?_
      refine g_ifB_eq (pc := 28) 35 dX1_alms_28 (by decide) (fun c_28 => ?_) (fun c_28 => ?_)
      · refine g_iconst (pc := 35) (v := 0) dX1_alms_35 (by decide) ?_
        exact c_tV (pc := 36) (M' := mX1_need) (as := [_]) (ci := 1) rfl i_X1_183_1 eX1_need dX1_alms_36 hI.1 (k_needF (by omega) hI) (by omega) rfl rfl (Nat.le_of_ble_eq_true rfl) (by decide) hF (by omega) (by omega)
      · refine g_iconst (pc := 31) (v := 1) dX1_alms_31 (by decide) ?_
        refine g_goto (pc := 32) 36 dX1_alms_32 (by decide) ?_
        exfalso
        rw [(bp_c bP).mpr ⟨c_7, c_17⟩, c_28] at hv
        exact absurd hv (by decide)
set_option maxHeartbeats 2000000 in
theorem x_tempted (hd : 20 ≤ d) (hI : InvC ac W g F h) (v w x : Int32) (hv : (inR v 0 99 && inR w 0 99 && inR x 0 2) = false) : Ct E d 1 6 mX1_tempted [vR (nC ac 1), vI v, vI w, vI x] h (cX ac W g F h nmIA 1) := by
  refine ct_of (by decide) (Nat.le_of_ble_eq_true rfl) rfl ?_
  have hF : cFr h h := cFr.rf
  have b8 := hI.2.2.2.2.1.2.2.2.2.2.2.2.1
  have b10 := hI.2.2.2.2.1.2.2.2.2.2.2.2.2.1
  have bP := hI.2.2.2.2.1.2.2.2.2.2.2.2.2.2.1
  refine g_aload_n (pc := 0) dX1_tempted_0 rfl ?_
  refine g_iload_n (pc := 1) dX1_tempted_1 rfl ?_
  refine g_iconst (pc := 2) (v := 0) dX1_tempted_2 (by decide) ?_
  refine g_bipush (pc := 3) (v := 99) dX1_tempted_3 (by decide) ?_
  refine g_cS (pc := 5) (M' := mX1_isIn) (as := [_, _, _]) i_X1_252 eX1_isIn dX1_tempted_5 (k_isIn _ _ _) (by omega) rfl rfl (Nat.le_of_ble_eq_true rfl) ?_
  refine g_ifB_eq (pc := 8) 34 dX1_tempted_8 (by decide) (fun c_8 => ?_) (fun c_8 => ?_)
  · refine g_iconst (pc := 34) (v := 0) dX1_tempted_34 (by decide) ?_
    exact c_tV (pc := 35) (M' := mX1_need) (as := [_]) (ci := 1) rfl i_X1_183_1 eX1_need dX1_tempted_35 hI.1 (k_needF (by omega) hI) (by omega) rfl rfl (Nat.le_of_ble_eq_true rfl) (by decide) hF (by omega) (by omega)
  · refine g_iload_n (pc := 11) dX1_tempted_11 rfl ?_
    refine g_iconst (pc := 12) (v := 0) dX1_tempted_12 (by decide) ?_
    refine g_bipush (pc := 13) (v := 99) dX1_tempted_13 (by decide) ?_
    refine g_cS (pc := 15) (M' := mX1_isIn) (as := [_, _, _]) i_X1_252 eX1_isIn dX1_tempted_15 (k_isIn _ _ _) (by omega) rfl rfl (Nat.le_of_ble_eq_true rfl) ?_
    refine g_ifB_eq (pc := 18) 34 dX1_tempted_18 (by decide) (fun c_18 => ?_) (fun c_18 => ?_)
    · refine g_iconst (pc := 34) (v := 0) dX1_tempted_34 (by decide) ?_
      exact c_tV (pc := 35) (M' := mX1_need) (as := [_]) (ci := 1) rfl i_X1_183_1 eX1_need dX1_tempted_35 hI.1 (k_needF (by omega) hI) (by omega) rfl rfl (Nat.le_of_ble_eq_true rfl) (by decide) hF (by omega) (by omega)
    · refine g_iload_n (pc := 21) dX1_tempted_21 rfl ?_
      refine g_iconst (pc := 22) (v := 0) dX1_tempted_22 (by decide) ?_
      refine g_iconst (pc := 23) (v := 2) dX1_tempted_23 (by decide) ?_
      refine g_cS (pc := 24) (M' := mX1_isIn) (as := [_, _, _]) i_X1_252 eX1_isIn dX1_tempted_24 (k_isIn _ _ _) (by omega) rfl rfl (Nat.le_of_ble_eq_true rfl) ?_
      refine g_ifB_eq (pc := 27) 34 dX1_tempted_27 (by decide) (fun c_27 => ?_) (fun c_27 => ?_)
      · refine g_iconst (pc := 34) (v := 0) dX1_tempted_34 (by decide) ?_
        exact c_tV (pc := 35) (M' := mX1_need) (as := [_]) (ci := 1) rfl i_X1_183_1 eX1_need dX1_tempted_35 hI.1 (k_needF (by omega) hI) (by omega) rfl rfl (Nat.le_of_ble_eq_true rfl) (by decide) hF (by omega) (by omega)
      · refine g_iconst (pc := 30) (v := 1) dX1_tempted_30 (by decide) ?_
        refine g_goto (pc := 31) 35 dX1_tempted_31 (by decide) ?_
        exfalso
        rw [c_8, c_18, c_27] at hv
        exact absurd hv (by decide)
end
