/-! THE COMPONENT: new houses, images. Printed by m_c18.py -/
set_option maxRecDepth 100000
def hF0 (a0 a1 a2 rt : jN) : List jV := [vR a0, vR a1, vR a2, vI 0, vI 0, vI 0, vI 0, vI 0, vI 0, vR rt]
/-- what a house's constructor leaves -/
def hnQ (h : jH) (x rt : jN) (i : Nat) : jR → jH → Prop := fun r h' => r = .inl none ∧ ∃ b0 b1 b2 : Nat, h' x = some (oO 10 (hF0 (200 + i, b0) (300 + i, b1) (400 + i, b2) rt)) ∧ h' (200 + i, b0) = some (iA 10 (fun _ => 0)) ∧ h' (300 + i, b1) = some (iA 8 (fun _ => 0)) ∧ h' (400 + i, b2) = some (iA 8 (fun _ => 0)) ∧ (∀ k, h (k, b0) = none) ∧ (∀ k, h (k, b1) = none) ∧ (∀ k, h (k, b2) = none) ∧ (∀ y o, y ≠ x → h y = some o → h' y = some o) ∧ ∀ y, 900 ≤ y.1 → h' y = h y
section
variable {E : jE} {d : Nat} {h : jH} {ac : Nat → Nat} {W : mV} {g : HD} {F : (Nat → Int32) → Int32}
set_option maxHeartbeats 2000000 in
theorem k_House {i a : Nat} {rt : jN} (hd : 3 ≤ d) (hi : i < 69) (fx : h (100 + i, a) = some (oO 10 [vN, vN, vN, vI 0, vI 0, vI 0, vI 0, vI 0, vI 0, vN])) : Ct E d 3 26 mX10_init [vR (100 + i, a), vR rt] h (hnQ h (100 + i, a) rt i) := by
  refine ct_of (by decide) (Nat.le_of_ble_eq_true rfl) rfl ?_
  obtain ⟨h0, hh0⟩ : ∃ h0, h0 = h := ⟨_, rfl⟩
  have fx0 : h0 (100 + i, a) = some (oO 10 [vN, vN, vN, vI 0, vI 0, vI 0, vI 0, vI 0, vI 0, vN]) := by rw [hh0]; exact fx
  rw [← hh0]
  change G E d 3 26 mX10_init 0 _ [] h0 (hnQ h0 (100 + i, a) rt i)
  clear fx hh0
  obtain ⟨h, hh1⟩ : ∃ h, h = h0 := ⟨_, rfl⟩
  have fx : h (100 + i, a) = some (oO 10 [vN, vN, vN, vI 0, vI 0, vI 0, vI 0, vI 0, vI 0, vN]) := by rw [hh1]; exact fx0
  have E1 : ∀ y o, y ≠ (100 + i, a) → h0 y = some o → h y = some o := by rw [hh1]; exact fun _ _ _ q => q
  have C1 : cFr h0 h := by rw [hh1]; exact cFr.rf
  suffices hsuf : G E d 3 26 mX10_init 0 _ [] h (hnQ h0 (100 + i, a) rt i) by rw [hh1] at hsuf; exact hsuf
  clear hh1
  refine g_aload_n (pc := 0) dX10_init_0 rfl ?_
  refine g_aload_n (pc := 1) dX10_init_1 rfl ?_
  refine n_putF (pc := 2) w_X10_3_10 dX10_init_2 fx (Nat.le_of_ble_eq_true rfl) (by show 100 + i ≠ 0; omega) (j_fit_obj _ _) rfl rfl (fun h q9 o9 => ?_)
  replace fx := q9
  replace C1 := cFr.tr C1 (cFr.at (by show 100 + i < 900; omega) o9)
  replace E1 := fun y o hy k => (o9 y hy).trans (E1 y o hy k)
  refine g_aload_n (pc := 5) dX10_init_5 rfl ?_
  refine g_obj (pc := 6) q608 dX10_init_6 (by omega) (Nat.le_of_ble_eq_true rfl) ?_
  refine g_aload_n (pc := 9) dX10_init_9 rfl ?_
  refine g_bipush (pc := 10) (v := 10) dX10_init_10 (by decide) ?_
  refine n_arrI (pc := 12) (N := 10) (200 + i) dX10_init_12 (by decide) (by first | decide | omega) (by first | decide | omega) (by first | decide | omega) (fun a_A0 h q9 n9 o9 => ?_)
  have ne_fx_A0 := ne_new (kd := (200 + i)) fx n9
  have n0x := fun k => ne_new (kd := k) fx n9
  have n0_A0 := fun k => n0_ofx E1 n9 (n0x k) (k := k)
  replace E1 := fun y o hy k => (o9 y (ne_new (E1 y o hy k) n9)).trans (E1 y o hy k)
  replace C1 := cFr.tr C1 (cFr.at (by show (200 + i) < 900; omega) o9)
  replace fx := (o9 _ ne_fx_A0).trans fx
  have A0 := q9
  refine n_putF (pc := 14) w_X10_15_10 dX10_init_14 fx (Nat.le_of_ble_eq_true rfl) (by show 100 + i ≠ 0; omega) (j_fit_arr _ _) rfl rfl (fun h q9 o9 => ?_)
  replace A0 := (o9 _ ne_fx_A0.symm).trans A0
  replace fx := q9
  replace C1 := cFr.tr C1 (cFr.at (by show 100 + i < 900; omega) o9)
  replace E1 := fun y o hy k => (o9 y hy).trans (E1 y o hy k)
  refine g_aload_n (pc := 17) dX10_init_17 rfl ?_
  refine g_bipush (pc := 18) (v := 8) dX10_init_18 (by decide) ?_
  refine n_arrI (pc := 20) (N := 8) (300 + i) dX10_init_20 (by decide) (by first | decide | omega) (by first | decide | omega) (by first | decide | omega) (fun a_A1 h q9 n9 o9 => ?_)
  have ne_fx_A1 := ne_new (kd := (300 + i)) fx n9
  have ne_A0_A1 := ne_new (kd := (300 + i)) A0 n9
  have n0x := fun k => ne_new (kd := k) fx n9
  have n0_A1 := fun k => n0_ofx E1 n9 (n0x k) (k := k)
  replace E1 := fun y o hy k => (o9 y (ne_new (E1 y o hy k) n9)).trans (E1 y o hy k)
  replace C1 := cFr.tr C1 (cFr.at (by show (300 + i) < 900; omega) o9)
  replace fx := (o9 _ ne_fx_A1).trans fx
  replace A0 := (o9 _ ne_A0_A1).trans A0
  have A1 := q9
  refine n_putF (pc := 22) w_X10_19_10 dX10_init_22 fx (Nat.le_of_ble_eq_true rfl) (by show 100 + i ≠ 0; omega) (j_fit_arr _ _) rfl rfl (fun h q9 o9 => ?_)
  replace A0 := (o9 _ ne_fx_A0.symm).trans A0
  replace A1 := (o9 _ ne_fx_A1.symm).trans A1
  replace fx := q9
  replace C1 := cFr.tr C1 (cFr.at (by show 100 + i < 900; omega) o9)
  replace E1 := fun y o hy k => (o9 y hy).trans (E1 y o hy k)
  refine g_aload_n (pc := 25) dX10_init_25 rfl ?_
  refine g_bipush (pc := 26) (v := 8) dX10_init_26 (by decide) ?_
  refine n_arrI (pc := 28) (N := 8) (400 + i) dX10_init_28 (by decide) (by first | decide | omega) (by first | decide | omega) (by first | decide | omega) (fun a_A2 h q9 n9 o9 => ?_)
  have ne_fx_A2 := ne_new (kd := (400 + i)) fx n9
  have ne_A0_A2 := ne_new (kd := (400 + i)) A0 n9
  have ne_A1_A2 := ne_new (kd := (400 + i)) A1 n9
  have n0x := fun k => ne_new (kd := k) fx n9
  have n0_A2 := fun k => n0_ofx E1 n9 (n0x k) (k := k)
  replace E1 := fun y o hy k => (o9 y (ne_new (E1 y o hy k) n9)).trans (E1 y o hy k)
  replace C1 := cFr.tr C1 (cFr.at (by show (400 + i) < 900; omega) o9)
  replace fx := (o9 _ ne_fx_A2).trans fx
  replace A0 := (o9 _ ne_A0_A2).trans A0
  replace A1 := (o9 _ ne_A1_A2).trans A1
  have A2 := q9
  refine n_putF (pc := 30) w_X10_22_10 dX10_init_30 fx (Nat.le_of_ble_eq_true rfl) (by show 100 + i ≠ 0; omega) (j_fit_arr _ _) rfl rfl (fun h q9 o9 => ?_)
  replace A0 := (o9 _ ne_fx_A0.symm).trans A0
  replace A1 := (o9 _ ne_fx_A1.symm).trans A1
  replace A2 := (o9 _ ne_fx_A2.symm).trans A2
  replace fx := q9
  replace C1 := cFr.tr C1 (cFr.at (by show 100 + i < 900; omega) o9)
  replace E1 := fun y o hy k => (o9 y hy).trans (E1 y o hy k)
  refine g_return (pc := 33) dX10_init_33 rfl ?_
  exact ⟨rfl, a_A0, a_A1, a_A2, fx, A0, A1, A2, n0_A0, n0_A1, n0_A2, E1, C1⟩
end
/-- the names behind a new house -/
def acH (ac : Nat → Nat) (i a b0 b1 b2 : Nat) : Nat → Nat := fun r => if r = 100 + i then a else if r = 200 + i then b0 else if r = 300 + i then b1 else if r = 400 + i then b2 else ac r
def wHo (W : mV) (i : Nat) : mV := fun r => if r = 100 + i ∨ r = 200 + i ∨ r = 300 + i ∨ r = 400 + i then (fun _ => 0) else if r = 7 then j_up (W 7) i 1 else W r
theorem acH_o {ac : Nat → Nat} {i a b0 b1 b2 r : Nat} (h1 : ¬ r = 100 + i) (h2 : ¬ r = 200 + i) (h3 : ¬ r = 300 + i) (h4 : ¬ r = 400 + i) : nC (acH ac i a b0 b1 b2) r = nC ac r := by
  unfold nC acH
  rw [if_neg h1, if_neg h2, if_neg h3, if_neg h4]
theorem wHo_o {W : mV} {i r : Nat} (h1 : ¬ r = 100 + i) (h2 : ¬ r = 200 + i) (h3 : ¬ r = 300 + i) (h4 : ¬ r = 400 + i) (h7 : ¬ r = 7) : wHo W i r = W r := by
  unfold wHo
  rw [if_neg (by omega), if_neg h7]
theorem wHo_7 {W : mV} {i : Nat} : wHo W i 7 = j_up (W 7) i 1 := by
  unfold wHo
  rw [if_neg (by omega), if_pos rfl]
theorem wHo_h {W : mV} {i r : Nat} (h : r = 100 + i ∨ r = 200 + i ∨ r = 300 + i ∨ r = 400 + i) : wHo W i r = fun _ => 0 := if_pos h
theorem hs17_o {ac : Nat → Nat} {W : mV} {i a b0 b1 b2 b n : Nat} (hb : b + n ≤ 69) (hi : i < b ∨ b + n ≤ i) (h69 : i < 69) : hs17 (acH ac i a b0 b1 b2) (wHo W i) b n = hs17 ac W b n := by
  funext k
  unfold hs17
  by_cases q : k < n
  · rw [wHo_7, j_up_ne (show b + k ≠ i by omega), acH_o (by omega) (by omega) (by omega) (by omega)]
  · rw [if_neg (fun w => q w.1), if_neg (fun w => q w.1)]
theorem hs17_n {ac : Nat → Nat} {W : mV} {k a b0 b1 b2 b n : Nat} (hb : b + n ≤ 69) (hk : k < n) : hs17 (acH ac (b + k) a b0 b1 b2) (wHo W (b + k)) b n = j_up (hs17 ac W b n) k (some (100 + (b + k), a)) := by
  funext j
  by_cases e : j = k
  · subst e
    unfold hs17 j_up
    rw [if_pos rfl, wHo_7, if_pos ⟨hk, by unfold j_up; rw [if_pos rfl]⟩]
    unfold nC acH
    rw [if_pos rfl]
  · unfold j_up
    rw [if_neg e]
    unfold hs17
    by_cases q : j < n
    · rw [wHo_7, j_up_ne (show b + j ≠ b + k by omega), acH_o (by omega) (by omega) (by omega) (by omega)]
    · rw [if_neg (fun w => q w.1), if_neg (fun w => q w.1)]
theorem InvC.born {ac : Nat → Nat} {W : mV} {g : HD} {F : (Nat → Int32) → Int32} {h h' : jH} {q b n k a b0 b1 b2 : Nat} (hI : InvC ac W g F h) (hq : (q = 17 ∧ b = 2 ∧ n = 16) ∨ (q = 18 ∧ b = 18 ∧ n = 3) ∨ (q = 19 ∧ b = 21 ∧ n = 48)) (hk : k < n) (hno : ¬ W 7 (b + k) = 1)
    (e1 : h' (100 + (b + k), a) = some (oO 10 (hF0 (200 + (b + k), b0) (300 + (b + k), b1) (400 + (b + k), b2) (nC ac 1)))) (e2 : h' (200 + (b + k), b0) = some (iA 10 (fun _ => 0))) (e3 : h' (300 + (b + k), b1) = some (iA 8 (fun _ => 0))) (e4 : h' (400 + (b + k), b2) = some (iA 8 (fun _ => 0)))
    (e5 : h' (nC ac q) = some (rA 4 n (j_up (hs17 ac W b n) k (some (100 + (b + k), a))))) (e : ∀ y o, y.1 ≠ q → h y = some o → h' y = some o) : InvC (acH ac (b + k) a b0 b1 b2) (wHo W (b + k)) g F h' := by
  have hi : b + k < 69 := by omega
  have h2 : 2 ≤ b + k := by omega
  obtain ⟨g1, ⟨a1, a2, a3, a4, a5, a6, a7, a8, a9, a10, a11⟩, g3, g4, g5, g6⟩ := hI
  have eo : ∀ r, r < 102 → nC (acH ac (b + k) a b0 b1 b2) r = nC ac r := fun r hr => acH_o (by omega) (by omega) (by omega) (by omega)
  have wo : ∀ r, r < 100 → ¬ r = 7 → wHo W (b + k) r = W r := fun r hr h7 => wHo_o (by omega) (by omega) (by omega) (by omega) h7
  have ecF : cF (acH ac (b + k) a b0 b1 b2) (wHo W (b + k)) = cF ac W := by
    unfold cF
    rw [eo 50 (by decide), eo 80 (by decide), eo 12 (by decide), eo 13 (by decide), eo 14 (by decide), eo 100 (by decide), eo 101 (by decide), eo 17 (by decide), eo 18 (by decide), eo 19 (by decide), eo 20 (by decide), eo 28 (by decide), eo 29 (by decide), eo 30 (by decide), eo 31 (by decide), eo 32 (by decide), wo 0 (by decide) (by decide)]
  refine ⟨by rw [eo 1 (by decide), ecF]; exact e _ _ (by rw [nC_1]; omega) g1, ⟨?_, ?_, ?_, ?_, ?_, ?_, ?_, ?_, ?_, ?_, ?_⟩, fun j hj => ?_, fun j hj => ?_, ?_, ?_⟩
  · rw [eo 13 (by decide), wo 3 (by decide) (by decide)]; exact e _ _ (by rw [nC_1]; omega) a1
  · rw [eo 14 (by decide), wo 4 (by decide) (by decide)]; exact e _ _ (by rw [nC_1]; omega) a2
  · rw [eo 20 (by decide), wo 10 (by decide) (by decide)]; exact e _ _ (by rw [nC_1]; omega) a3
  · rw [eo 28 (by decide), wo 18 (by decide) (by decide)]; exact e _ _ (by rw [nC_1]; omega) a4
  · rw [eo 17 (by decide)]
    rcases hq with ⟨rfl, rfl, rfl⟩ | ⟨rfl, rfl, rfl⟩ | ⟨rfl, rfl, rfl⟩
    · rw [hs17_n (by decide) hk]; exact e5
    · rw [hs17_o (by decide) (by omega) hi]; exact e _ _ (by rw [nC_1]; decide) a5
    · rw [hs17_o (by decide) (by omega) hi]; exact e _ _ (by rw [nC_1]; decide) a5
  · rw [eo 18 (by decide)]
    rcases hq with ⟨rfl, rfl, rfl⟩ | ⟨rfl, rfl, rfl⟩ | ⟨rfl, rfl, rfl⟩
    · rw [hs17_o (by decide) (by omega) hi]; exact e _ _ (by rw [nC_1]; decide) a6
    · rw [hs17_n (by decide) hk]; exact e5
    · rw [hs17_o (by decide) (by omega) hi]; exact e _ _ (by rw [nC_1]; decide) a6
  · rw [eo 19 (by decide)]
    rcases hq with ⟨rfl, rfl, rfl⟩ | ⟨rfl, rfl, rfl⟩ | ⟨rfl, rfl, rfl⟩
    · rw [hs17_o (by decide) (by omega) hi]; exact e _ _ (by rw [nC_1]; decide) a7
    · rw [hs17_o (by decide) (by omega) hi]; exact e _ _ (by rw [nC_1]; decide) a7
    · rw [hs17_n (by decide) hk]; exact e5
  · rw [eo 29 (by decide), wo 19 (by decide) (by decide)]; exact e _ _ (by rw [nC_1]; omega) a8
  · rw [eo 30 (by decide), wo 20 (by decide) (by decide)]; exact e _ _ (by rw [nC_1]; omega) a9
  · rw [eo 31 (by decide), wo 21 (by decide) (by decide)]; exact e _ _ (by rw [nC_1]; omega) a10
  · rw [eo 32 (by decide), wo 22 (by decide) (by decide)]; exact e _ _ (by rw [nC_1]; omega) a11
  · have := scl_k hj
    obtain ⟨f, q1⟩ := g3 j hj
    exact ⟨f, by rw [eo j (by omega)]; exact e _ _ (by rw [nC_1]; omega) q1⟩
  · by_cases w : j = b + k
    · subst w
      refine ⟨?_, ?_, ?_, ?_⟩
      · rw [wHo_h (Or.inl rfl)]
        have x1 : nC (acH ac (b + k) a b0 b1 b2) (100 + (b + k)) = (100 + (b + k), a) := by unfold nC acH; rw [if_pos rfl]
        have x2 : nC (acH ac (b + k) a b0 b1 b2) (200 + (b + k)) = (200 + (b + k), b0) := by unfold nC acH; rw [if_neg (by omega), if_pos rfl]
        have x3 : nC (acH ac (b + k) a b0 b1 b2) (300 + (b + k)) = (300 + (b + k), b1) := by unfold nC acH; rw [if_neg (by omega), if_neg (by omega), if_pos rfl]
        have x4 : nC (acH ac (b + k) a b0 b1 b2) (400 + (b + k)) = (400 + (b + k), b2) := by unfold nC acH; rw [if_neg (by omega), if_neg (by omega), if_neg (by omega), if_pos rfl]
        unfold hF
        rw [x1, x2, x3, x4, eo 1 (by decide)]
        exact e1
      · rw [wHo_h (Or.inr (Or.inl rfl)), show nC (acH ac (b + k) a b0 b1 b2) (200 + (b + k)) = (200 + (b + k), b0) from by unfold nC acH; rw [if_neg (by omega), if_pos rfl]]
        exact e2
      · rw [wHo_h (Or.inr (Or.inr (Or.inl rfl))), show nC (acH ac (b + k) a b0 b1 b2) (300 + (b + k)) = (300 + (b + k), b1) from by unfold nC acH; rw [if_neg (by omega), if_neg (by omega), if_pos rfl]]
        exact e3
      · rw [wHo_h (Or.inr (Or.inr (Or.inr rfl))), show nC (acH ac (b + k) a b0 b1 b2) (400 + (b + k)) = (400 + (b + k), b2) from by unfold nC acH; rw [if_neg (by omega), if_neg (by omega), if_neg (by omega), if_pos rfl]]
        exact e4
    · have hj' : liv W j := by
        unfold liv at hj ⊢
        rw [wHo_7, j_up_ne w] at hj
        exact hj
      have hj9 := hj'.lt
      obtain ⟨q1, q2, q3, q4⟩ := g4 j hj'
      unfold iHo
      rw [acH_o (r := 100 + j) (by omega) (by omega) (by omega) (by omega), acH_o (r := 200 + j) (by omega) (by omega) (by omega) (by omega), acH_o (r := 300 + j) (by omega) (by omega) (by omega) (by omega), acH_o (r := 400 + j) (by omega) (by omega) (by omega) (by omega), wHo_o (r := 100 + j) (by omega) (by omega) (by omega) (by omega) (by omega), wHo_o (r := 200 + j) (by omega) (by omega) (by omega) (by omega) (by omega), wHo_o (r := 300 + j) (by omega) (by omega) (by omega) (by omega) (by omega), wHo_o (r := 400 + j) (by omega) (by omega) (by omega) (by omega) (by omega)]
      refine ⟨?_, e _ _ (by rw [nC_1]; omega) q2, e _ _ (by rw [nC_1]; omega) q3, e _ _ (by rw [nC_1]; omega) q4⟩
      have : hF (acH ac (b + k) a b0 b1 b2) (W (100 + j)) j = hF ac (W (100 + j)) j := by
        unfold hF
        rw [acH_o (r := 200 + j) (by omega) (by omega) (by omega) (by omega), acH_o (r := 300 + j) (by omega) (by omega) (by omega) (by omega), acH_o (r := 400 + j) (by omega) (by omega) (by omega) (by omega), eo 1 (by decide)]
      rw [this]
      exact e _ _ (by rw [nC_1]; omega) q1
  · have hq17 : 17 ≤ q ∧ q ≤ 19 := by omega
    have b10 := g5.2.2.2.2.2.2.2.2.1
    have bP := g5.2.2.2.2.2.2.2.2.2.1
    have g5' := g5.mono (h' := h') (fun x o w1 w2 k => e x o (by omega) k)
    unfold iTo at g5' ⊢
    rw [eo 50 (by decide), eo 51 (by decide), eo 52 (by decide), eo 53 (by decide), eo 54 (by decide), eo 55 (by decide), eo 56 (by decide)]
    obtain ⟨t1, t2, t3, t4, t5, t6, t7, t8⟩ := g5'
    refine ⟨t1, t2, t3, ?_, ?_, fun r hr => ?_, fun p hp => ?_, t8⟩
    · obtain ⟨mc, cap, f, z1, z2, z3, z4, z5⟩ := t4
      exact ⟨mc, cap, f, z1, z2, z3, z4, fun r hr => by rw [z5 r hr]; exact congrArg some (eo (60 + r) (by omega)).symm⟩
    · obtain ⟨mc, cap, f, z1, z2, z3, z4, z5⟩ := t5
      exact ⟨mc, cap, f, z1, z2, z3, z4, fun r hr => by rw [z5 r hr]; exact congrArg some (eo (70 + r) (by omega)).symm⟩
    · rw [eo (60 + r) (by omega)]; exact t6 r hr
    · rw [eo (70 + p) (by omega)]; exact t7 p hp
  · rw [eo 80 (by decide)]
    exact g6.mono (fun x o w k => e x o (by omega) k)
/-- the house i is another now, and may be new -/
def kpE (i : Nat) (W W' : mV) : Prop := (∀ r, ¬ r = 7 → ¬ r = 100 + i → ¬ r = 200 + i → ¬ r = 300 + i → ¬ r = 400 + i → W' r = W r) ∧ (∀ j, ¬ j = i → W' 7 j = W 7 j) ∧ W' 7 i = 1
def kpQ (ac : Nat → Nat) (W : mV) (g : HD) (F : (Nat → Int32) → Int32) (h : jH) (i : Nat) (R : Nat → Int32) : jR → jH → Prop := fun r h' => r = .inl none ∧ ∃ ac' W', InvC ac' W' g F h' ∧ cFr h h' ∧ HZ g W' i R ∧ kpE i W W' ∧ ∀ r, ¬ r = 100 + i → ¬ r = 200 + i → ¬ r = 300 + i → ¬ r = 400 + i → ac' r = ac r
theorem HZ.wHo {g : HD} {W : mV} {i j : Nat} {R : Nat → Int32} (hz : HZ g W j R) (h : ¬ j = i) (hi : i < 69) (hj : j < 69) : HZ g (wHo W i) j R := by
  unfold HZ
  rw [wHo_o (r := 200 + j) (by omega) (by omega) (by omega) (by omega) (by omega), wHo_o (r := 300 + j) (by omega) (by omega) (by omega) (by omega) (by omega), wHo_o (r := 400 + j) (by omega) (by omega) (by omega) (by omega) (by omega), wHo_o (r := 100 + j) (by omega) (by omega) (by omega) (by omega) (by omega)]
  exact hz
section
variable {E : jE} {d : Nat} {h : jH} {ac : Nat → Nat} {W : mV} {g : HD} {F : (Nat → Int32) → Int32}
theorem InvC.arr {q b n : Nat} (hI : InvC ac W g F h) (hq : (q = 17 ∧ b = 2 ∧ n = 16) ∨ (q = 18 ∧ b = 18 ∧ n = 3) ∨ (q = 19 ∧ b = 21 ∧ n = 48)) : h (nC ac q) = some (rA 4 n (hs17 ac W b n)) := by
  rcases hq with ⟨rfl, rfl, rfl⟩ | ⟨rfl, rfl, rfl⟩ | ⟨rfl, rfl, rfl⟩
  · exact hI.2.1.2.2.2.2.1
  · exact hI.2.1.2.2.2.2.2.1
  · exact hI.2.1.2.2.2.2.2.2.1
set_option maxHeartbeats 4000000 in
theorem k_keptH {q b n k j : Nat} {R : Nat → Int32} (hd : 6 ≤ d) (hI : InvC ac W g F h) (hq : (q = 17 ∧ b = 2 ∧ n = 16) ∨ (q = 18 ∧ b = 18 ∧ n = 3) ∨ (q = 19 ∧ b = 21 ∧ n = 48)) (hk : k < n) (hj : liv W j) (hjk : ¬ b + k = j) (hz : HZ g W j R) : Ct E d 4 36 mX1_kept [vR (nC ac 1), vR (nC ac q), vI (nI k), vR (nC ac (100 + j))] h (kpQ ac W g F h (b + k) R) := by
  refine ct_of (by decide) (Nat.le_of_ble_eq_true rfl) rfl ?_
  have hF : cFr h h := cFr.rf
  have b8 := hI.2.2.2.2.1.2.2.2.2.2.2.2.1
  have b10 := hI.2.2.2.2.1.2.2.2.2.2.2.2.2.1
  have bP := hI.2.2.2.2.1.2.2.2.2.2.2.2.2.2.1
  have hj9 := hj.lt
  have hi9 : b + k < 69 := by omega
  have hAr := hI.arr hq
  have hn9 : n < 2 ^ 31 := by omega
  by_cases hno : W 7 (b + k) = 1
  · have hl : liv W (b + k) := Or.inr ⟨hi9, hno⟩
    refine g_aload_n (pc := 0) dX1_kept_0 rfl ?_
    refine g_iload_n (pc := 1) dX1_kept_1 rfl ?_
    refine g_aaload (pc := 2) (t := 4) rfl rfl dX1_kept_2 hAr (j := k) rfl (by omega) (by first | decide | omega) (hs17_at hk hno) ?_
    refine g_ifnonnull (pc := 3) 17 dX1_kept_3 (by decide) (fun a9 e9 => ?_) (fun e9 => by cases e9)
    refine g_aload_n (pc := 17) dX1_kept_17 rfl ?_
    refine g_iload_n (pc := 18) dX1_kept_18 rfl ?_
    refine g_aaload (pc := 19) (t := 4) rfl rfl dX1_kept_19 hAr (j := k) rfl (by omega) (by first | decide | omega) (hs17_at hk hno) ?_
    refine g_aload_n (pc := 20) dX1_kept_20 rfl ?_
    refine g_callV (pc := 21) (M' := mX10_becomes) (as := [_]) (ci := 10) rfl i_X1_248_10 eX10_becomes dX1_kept_21 (hI.2.2.2.1 (b + k) hl).1 (k_becomes (i := b + k) (k := j) (by omega) hI hl hj hjk hz) (by omega) rfl rfl (Nat.le_of_ble_eq_true rfl) (by omega) (by omega) (fun C9 x9 h9 q9 => ?_) (fun r9 h9 q9 => ?_)
    · cases q9.1
    obtain ⟨e9, W9, hI, fr9, hz9, he9⟩ := q9
    cases e9
    replace hF := cFr.tr hF fr9
    refine g_pop (pc := 24) dX1_kept_24 rfl ?_
    refine g_return (pc := 25) dX1_kept_25 rfl ?_
    refine ⟨rfl, ac, W9, hI, hF, hz9, ⟨fun r _ b c e f => he9.1 r b c e f, fun j hj => ?_, ?_⟩, fun _ _ _ _ _ => rfl⟩
    · rw [he9.1 7 (by omega) (by omega) (by omega) (by omega)]
    · rw [he9.1 7 (by omega) (by omega) (by omega) (by omega)]; exact hno
  · have hnn : vQ (hs17 ac W b n k) = vN := by
      unfold hs17
      rw [if_neg (fun w => hno w.2)]
    refine g_aload_n (pc := 0) dX1_kept_0 rfl ?_
    refine g_iload_n (pc := 1) dX1_kept_1 rfl ?_
    refine g_aaload (pc := 2) (t := 4) rfl rfl dX1_kept_2 hAr (j := k) rfl (by omega) (by first | decide | omega) hnn ?_
    refine g_ifnonnull (pc := 3) 17 dX1_kept_3 (by decide) (fun a9 e9 => by cases e9) (fun e9 => ?_)
    refine g_aload_n (pc := 6) dX1_kept_6 rfl ?_
    refine g_iload_n (pc := 7) dX1_kept_7 rfl ?_
    refine n_new (pc := 8) (ci := 10) (fs := [vN, vN, vN, vI 0, vI 0, vI 0, vI 0, vI 0, vI 0, vN]) (100 + (b + k)) k_X10 q603 q604 q128 dX1_kept_8 (fun j hj => by match j, hj with | 0, _ => rfl | 1, _ => rfl | 2, _ => rfl | 3, _ => rfl | 4, _ => rfl | 5, _ => rfl | 6, _ => rfl | 7, _ => rfl | 8, _ => rfl | 9, _ => rfl | j + 10, hj => exact absurd hj (by omega)) (by decide) (by decide) (fun a h1 q1 n1 o1 => ?_)
    refine g_dup (pc := 11) dX1_kept_11 rfl ?_
    refine g_aload_n (pc := 12) dX1_kept_12 rfl ?_
    refine g_callI (pc := 13) (M' := mX10_init) (as := [_]) i_X1_55 eX10_init dX1_kept_13 (k_House (by omega) hi9 q1) (by omega) rfl rfl (Nat.le_of_ble_eq_true rfl) (by decide) (by decide) (fun C9 x9 h9 q9 => by cases q9.1) (fun r9 h9 q9 => ?_)
    obtain ⟨e9, b0, b1, b2, hx, y0, y1, y2, m0, m1, m2, ex, c9⟩ := q9
    cases e9
    have ex1 : ∀ y o, h y = some o → h9 y = some o := fun y o k9 => ex y o (ne_new k9 n1) ((o1 y (ne_new k9 n1)).trans k9)
    have c1 : cFr h h9 := cFr.tr (cFr.at (by show 100 + (b + k) < 900; omega) o1) c9
    have hAr9 : h9 (nC ac q) = some (rA 4 n (hs17 ac W b n)) := ex1 _ _ hAr
    have hq9 : 17 ≤ q ∧ q ≤ 19 := by omega
    refine g_aastoreS (pc := 16) (t := 4) (ci := 10) rfl rfl dX1_kept_16 hAr9 hx (by show q ≠ 0; omega) (j := k) rfl (by omega) hn9 ?_
    have hne : ∀ r v : Nat, 100 ≤ r → (r, v) ≠ nC ac q := fun r v hr z => by
      have z1 : r = q := congrArg Prod.fst z
      omega
    have hI' : InvC (acH ac (b + k) a b0 b1 b2) (wHo W (b + k)) g F (hs h9 (nC ac q) (rA 4 n (j_up (hs17 ac W b n) k (some (100 + (b + k), a))))) := by
      refine hI.born hq hk hno ?_ ?_ ?_ ?_ hs_same (fun y o hy k9 => ?_)
      · rw [hs_ne (hne _ _ (by omega))]; exact hx
      · rw [hs_ne (hne _ _ (by omega))]; exact y0
      · rw [hs_ne (hne _ _ (by omega))]; exact y1
      · rw [hs_ne (hne _ _ (by omega))]; exact y2
      · rw [hs_ne (fun z => hy (by rw [z, nC_1]))]
        exact ex1 _ _ k9
    have hF' : cFr h (hs h9 (nC ac q) (rA 4 n (j_up (hs17 ac W b n) k (some (100 + (b + k), a))))) := cFr.tr c1 (cFr.set (by rw [nC_1]; omega))
    generalize hs h9 (nC ac q) (rA 4 n (j_up (hs17 ac W b n) k (some (100 + (b + k), a)))) = h2 at hI' hF' ⊢
    have hl : liv (wHo W (b + k)) (b + k) := Or.inr ⟨hi9, by rw [wHo_7, j_up_same]⟩
    have hj' : liv (wHo W (b + k)) j := by
      unfold liv at hj ⊢
      rw [wHo_7, j_up_ne (fun z => hjk z.symm)]
      exact hj
    have hz' := hz.wHo (i := b + k) (fun z => hjk z.symm) hi9 hj9
    have hn1 : nC (acH ac (b + k) a b0 b1 b2) q = nC ac q := acH_o (by omega) (by omega) (by omega) (by omega)
    have hnj : nC (acH ac (b + k) a b0 b1 b2) (100 + j) = nC ac (100 + j) := acH_o (by omega) (by omega) (by omega) (by omega)
    rw [← hn1, ← hnj]
    have hAr2 := hI'.arr hq
    have hk1 : wHo W (b + k) 7 (b + k) = 1 := by rw [wHo_7, j_up_same]
    refine g_aload_n (pc := 17) dX1_kept_17 rfl ?_
    refine g_iload_n (pc := 18) dX1_kept_18 rfl ?_
    refine g_aaload (pc := 19) (t := 4) rfl rfl dX1_kept_19 hAr2 (j := k) rfl (by omega) hn9 (hs17_at hk hk1) ?_
    refine g_aload_n (pc := 20) dX1_kept_20 rfl ?_
    refine g_callV (pc := 21) (M' := mX10_becomes) (as := [_]) (ci := 10) rfl i_X1_248_10 eX10_becomes dX1_kept_21 (hI'.2.2.2.1 (b + k) hl).1 (k_becomes (i := b + k) (k := j) (by omega) hI' hl hj' hjk hz') (by omega) rfl rfl (Nat.le_of_ble_eq_true rfl) (Nat.zero_le _) (Nat.zero_le _) (fun C9 x9 h9 q9 => by cases q9.1) (fun r9 h9 q9 => ?_)
    obtain ⟨e9, W9, hI9, fr9, hz9, he9⟩ := q9
    cases e9
    refine g_pop (pc := 24) dX1_kept_24 rfl ?_
    refine g_return (pc := 25) dX1_kept_25 rfl ?_
    refine ⟨rfl, _, W9, hI9, cFr.tr hF' fr9, hz9, ⟨fun r r7 r1 r2 r3 r4 => ?_, fun y hy => ?_, ?_⟩, fun r r1 r2 r3 r4 => ?_⟩
    · rw [he9.1 r r1 r2 r3 r4, wHo_o r1 r2 r3 r4 r7]
    · rw [he9.1 7 (by omega) (by omega) (by omega) (by omega), wHo_7, j_up_ne hy]
    · rw [he9.1 7 (by omega) (by omega) (by omega) (by omega)]; exact hk1
    · show acH ac (b + k) a b0 b1 b2 r = ac r
      unfold acH
      rw [if_neg r1, if_neg r2, if_neg r3, if_neg r4]
theorem kpE.lo {i : Nat} {W W' : mV} (h : kpE i W W') : ∀ r, r < 100 → ¬ r = 7 → W' r = W r := fun r hr h7 => h.1 r h7 (by omega) (by omega) (by omega) (by omega)
theorem kpE.hz {i j : Nat} {W W' : mV} {R : Nat → Int32} (h : kpE i W W') (hz : HZ g W j R) (hij : ¬ j = i) (hi : i < 69) (hj : j < 69) : HZ g W' j R := by
  unfold HZ
  rw [h.1 (200 + j) (by omega) (by omega) (by omega) (by omega) (by omega), h.1 (300 + j) (by omega) (by omega) (by omega) (by omega) (by omega), h.1 (400 + j) (by omega) (by omega) (by omega) (by omega) (by omega), h.1 (100 + j) (by omega) (by omega) (by omega) (by omega) (by omega)]
  exact hz
theorem kpE.lv {i j : Nat} {W W' : mV} (h : kpE i W W') (hl : liv W j) : liv W' j := by
  by_cases e : j = i
  · subst e
    have := hl.lt
    exact Or.inr ⟨this, h.2.2⟩
  · unfold liv at hl ⊢
    rw [h.2.1 j e]
    exact hl
theorem mul16 (n : Nat) : (16 : Int32) * nI n = nI (16 * n) := (Int32.ofNat_mul 16 n).symm
/-- houses that are another now -/
def hoS (g : HD) (S : Nat → Prop) (W W' : mV) : Prop := (∀ r, r < 100 → ¬ r = 7 → W' r = W r) ∧ ∀ j, j < 69 → ¬ S j → W' 7 j = W 7 j ∧ W' (100 + j) = W (100 + j) ∧ W' (200 + j) = W (200 + j) ∧ W' (300 + j) = W (300 + j) ∧ W' (400 + j) = W (400 + j)
theorem hoS.hz {g : HD} {S : Nat → Prop} {W W' : mV} {j : Nat} {R : Nat → Int32} (h : hoS g S W W') (hj : j < 69) (hn : ¬ S j) (hz : HZ g W j R) : HZ g W' j R := by
  obtain ⟨-, e1, e2, e3, e4⟩ := h.2 j hj hn
  unfold HZ
  rw [e1, e2, e3, e4]
  exact hz
theorem hoS.of {g : HD} {i : Nat} {W W' : mV} (h : kpE i W W') (hi : i < 69) : hoS g (fun j => j = i) W W' := ⟨fun r hr h7 => h.lo r hr h7, fun j hj hn => ⟨h.2.1 j hn, h.1 _ (by omega) (by omega) (by omega) (by omega) (by omega), h.1 _ (by omega) (by omega) (by omega) (by omega) (by omega), h.1 _ (by omega) (by omega) (by omega) (by omega) (by omega), h.1 _ (by omega) (by omega) (by omega) (by omega) (by omega)⟩⟩
theorem hoS.tr {g : HD} {S T : Nat → Prop} {A B C : mV} (h : hoS g S A B) (k : hoS g T B C) (U : Nat → Prop) (h1 : ∀ j, S j → U j) (h2 : ∀ j, T j → U j) : hoS g U A C := ⟨fun r hr h7 => (k.1 r hr h7).trans (h.1 r hr h7), fun j hj hn => by
  obtain ⟨a1, a2, a3, a4, a5⟩ := h.2 j hj (fun z => hn (h1 j z))
  obtain ⟨b1, b2, b3, b4, b5⟩ := k.2 j hj (fun z => hn (h2 j z))
  exact ⟨b1.trans a1, b2.trans a2, b3.trans a3, b4.trans a4, b5.trans a5⟩⟩
/-- q houses from b on are P 0, P 1, .. -/
def hoP (g : HD) (b q : Nat) (P : Nat → Nat → Int32) (W : mV) : Prop := ∀ i, i < q → W 7 (b + i) = 1 ∧ HZ g W (b + i) (P i)
def imS (n q j : Nat) : Prop := j = 18 + n ∨ (21 + 16 * n ≤ j ∧ j < 21 + 16 * n + q)
def imT (g : HD) (R : Nat → Int32) (P : Nat → Nat → Int32) (n q : Nat) (W W' : mV) : Prop := hoS g (imS n q) W W' ∧ W' 7 (18 + n) = 1 ∧ HZ g W' (18 + n) R ∧ hoP g (21 + 16 * n) q P W'
theorem imT.s {g : HD} {R : Nat → Int32} {P : Nat → Nat → Int32} {n q : Nat} {W W' W9 : mV} (h : imT g R P n q W W') (hn : n < 3) (hq : q < 16) (k : kpE (21 + (16 * n + q)) W' W9) (hz : HZ g W9 (21 + (16 * n + q)) (P q)) : imT g R P n (q + 1) W W9 := by
  obtain ⟨h1, h2, h3, h4⟩ := h
  refine ⟨h1.tr (hoS.of k (by omega)) _ (fun j z => ?_) (fun j z => ?_), by rw [k.2.1 _ (by omega)]; exact h2, k.hz h3 (by omega) (by omega) (by omega), fun i hi => ?_⟩
  · unfold imS at z ⊢; omega
  · unfold imS; omega
  · by_cases e : i = q
    · subst e
      rw [Nat.add_assoc]
      exact ⟨k.2.2, hz⟩
    · obtain ⟨a, b⟩ := h4 i (by omega)
      exact ⟨by rw [k.2.1 _ (by omega)]; exact a, k.hz b (by omega) (by omega) (by omega)⟩
def reS (q j : Nat) : Prop := j = 0 ∨ (2 ≤ j ∧ j < 2 + q)
def reT (g : HD) (R : Nat → Int32) (P : Nat → Nat → Int32) (q : Nat) (W W' : mV) : Prop := hoS g (reS q) W W' ∧ HZ g W' 0 R ∧ hoP g 2 q P W'
theorem reT.s {g : HD} {R : Nat → Int32} {P : Nat → Nat → Int32} {q : Nat} {W W' W9 : mV} (h : reT g R P q W W') (hq : q < 16) (k : kpE (2 + q) W' W9) (hz : HZ g W9 (2 + q) (P q)) : reT g R P (q + 1) W W9 := by
  obtain ⟨h1, h3, h4⟩ := h
  refine ⟨h1.tr (hoS.of k (by omega)) _ (fun j z => ?_) (fun j z => ?_), k.hz h3 (by omega) (by omega) (by omega), fun i hi => ?_⟩
  · unfold reS at z ⊢; omega
  · unfold reS; omega
  · by_cases e : i = q
    · subst e
      exact ⟨k.2.2, hz⟩
    · obtain ⟨a, b⟩ := h4 i (by omega)
      exact ⟨by rw [k.2.1 _ (by omega)]; exact a, k.hz b (by omega) (by omega) (by omega)⟩
theorem k_image0 (hI : InvC ac W g F h) (hn : W 0 17 = 3) : Ct E d 0 0 mX1_image [vR (nC ac 1)] h (cQ ac W g F h (some (vI (-1)))) := by
  refine ct_of (by decide) (Nat.le_of_ble_eq_true rfl) rfl ?_
  have hF : cFr h h := cFr.rf
  refine g_aload_n (pc := 0) dX1_image_0 rfl ?_
  refine g_getfield (pc := 1) f_X1_113_1 dX1_image_1 hI.1 rfl ?_
  rw [hn]
  refine g_iconst (pc := 4) (v := 3) dX1_image_4 (by decide) ?_
  refine g_icmp_ne (pc := 5) 10 dX1_image_5 (by decide) (fun c_5 => absurd rfl c_5) (fun c_5 => ?_)
  refine g_iconst (pc := 8) (v := -1) dX1_image_8 (by decide) ?_
  refine g_ireturn (pc := 9) dX1_image_9 rfl (by first | exact rfl | exact j_nb _) ?_
  exact ⟨rfl, hI, hF⟩
set_option maxHeartbeats 2000000 in
theorem l_kimage {n w : Nat} {Q : jR → jH → Prop} {h0 : jH} {R : Nat → Int32} {P : Nat → Nat → Int32} {a1 : Nat} (hd : 8 ≤ d) (hn : n < 3) (hw : w ≤ 16) (hn0 : W 0 17 = nI n) (hw0 : W 0 11 = nI w) (hp : hoP g 2 w P W) : ∀ (m r bc bs : Nat) (h : jH) (W' : mV) (ac : Nat → Nat), w - r = m → r ≤ w → 4 * m ≤ bc → 36 * m ≤ bs → InvC ac W' g F h → cFr h0 h → ac 1 = a1 → imT g R P n r W W' → (∀ (bc bs : Nat) (h : jH) (W' : mV) (ac : Nat → Nat), InvC ac W' g F h → cFr h0 h → ac 1 = a1 → imT g R P n w W W' → G E d bc bs mX1_image 65 [some (vR (nC ac 1)), some (vI (nI w))] [] h Q) → G E d bc bs mX1_image 28 [some (vR (nC ac 1)), some (vI (nI r))] [] h Q := by
  intro m
  induction m with
  | zero =>
    intro r bc bs h W' ac hm hr hbc hbs hI hF ha ht kk
    have e : r = w := by omega
    subst e
    refine g_iload_n (pc := 28) dX1_image_28 rfl ?_
    refine g_aload_n (pc := 29) dX1_image_29 rfl ?_
    refine g_getfield (pc := 30) f_X1_104_1 dX1_image_30 hI.1 rfl ?_
    rw [ht.1.1 0 (by decide) (by decide), hw0]
    refine g_icmp_ge (pc := 33) 65 dX1_image_33 (by decide) (fun c_33 => ?_) (fun c_33 => absurd (nI_le (Nat.le_refl _) (by omega)) c_33)
    exact kk _ _ h W' ac hI hF ha ht
  | succ m ih =>
    intro r bc bs h W' ac hm hr hbc hbs hI hF ha ht kk
    have hb8 := hI.2.2.2.2.1.2.2.2.2.2.2.2.1
    have hno : ¬ imS n r (2 + r) := by unfold imS; omega
    obtain ⟨p1, p2⟩ := hp r (by omega)
    have p3 := ht.1.hz (show 2 + r < 69 by omega) hno p2
    have p4 : W' 7 (2 + r) = 1 := by rw [(ht.1.2 (2 + r) (by omega) hno).1]; exact p1
    have hl2 : liv W' (2 + r) := Or.inr ⟨by omega, p4⟩
    refine g_iload_n (pc := 28) dX1_image_28 rfl ?_
    refine g_aload_n (pc := 29) dX1_image_29 rfl ?_
    refine g_getfield (pc := 30) f_X1_104_1 dX1_image_30 hI.1 rfl ?_
    rw [ht.1.1 0 (by decide) (by decide), hw0]
    refine g_icmp_ge (pc := 33) 65 dX1_image_33 (by decide) (fun c_33 => absurd c_33 (by intro w9; have := (nI_leI (by omega) (by omega)).mp w9; omega)) (fun c_33 => ?_)
    refine g_aload_n (pc := 36) dX1_image_36 rfl ?_
    refine g_aload_n (pc := 37) dX1_image_37 rfl ?_
    refine g_getfield (pc := 38) f_X1_72_1 dX1_image_38 hI.1 rfl ?_
    refine g_bipush (pc := 41) (v := 16) dX1_image_41 (by decide) ?_
    refine g_aload_n (pc := 43) dX1_image_43 rfl ?_
    refine g_getfield (pc := 44) f_X1_113_1 dX1_image_44 hI.1 rfl ?_
    rw [ht.1.1 0 (by decide) (by decide), hn0]
    refine g_imul (pc := 47) dX1_image_47 ?_
    rw [mul16]
    refine g_iload_n (pc := 48) dX1_image_48 rfl ?_
    refine g_iadd (pc := 49) dX1_image_49 ?_
    rw [nI_add]
    refine g_aload_n (pc := 50) dX1_image_50 rfl ?_
    refine g_getfield (pc := 51) f_X1_65_1 dX1_image_51 hI.1 rfl ?_
    refine g_iload_n (pc := 54) dX1_image_54 rfl ?_
    refine g_aaload (pc := 55) (t := 4) rfl rfl dX1_image_55 hI.2.1.2.2.2.2.1 (j := r) rfl (by omega) (by first | decide | omega) (hs17_at (show r < 16 by omega) p4) ?_
    refine g_callV (pc := 56) (M' := mX1_kept) (as := [_, _, _]) (ci := 1) rfl i_X1_213_1 eX1_kept dX1_image_56 hI.1 (k_keptH (q := 19) (b := 21) (n := 48) (k := 16 * n + r) (j := 2 + r) (by omega) hI (Or.inr (Or.inr ⟨rfl, rfl, rfl⟩)) (by omega) hl2 (by omega) p3) (by omega) rfl rfl (Nat.le_of_ble_eq_true rfl) (by omega) (by omega) (fun C9 x9 h9 q9 => ?_) (fun r9 h9 q9 => ?_)
    · cases q9.1
    obtain ⟨e9, ac', W9, hI, fr9, hz9, hk9, ha9⟩ := q9
    cases e9
    replace hF := cFr.tr hF fr9
    have e1 : nC ac' 1 = nC ac 1 := by unfold nC; rw [ha9 1 (by omega) (by omega) (by omega) (by omega)]
    rw [← e1]
    refine g_iinc (pc := 59) (ls' := [_, _]) dX1_image_59 rfl (by first | exact nI_1 _ | exact rfl) (by decide) rfl rfl ?_
    refine g_goto (pc := 62) 28 dX1_image_62 (by decide) ?_
    exact ih (r + 1) _ _ _ W9 ac' (by omega) (by omega) (by omega) (by omega) hI hF (by rw [ha9 1 (by omega) (by omega) (by omega) (by omega)]; exact ha) (ht.s hn (by omega) hk9 hz9) kk
/-- an image more -/
def imE (g : HD) (R : Nat → Int32) (P : Nat → Nat → Int32) (n w : Nat) (W W' : mV) : Prop := ∃ W9, imT g R P n w W W9 ∧ W' = sv (sv W9 10 n (nI w)) 0 17 (nI (n + 1))
set_option maxHeartbeats 2000000 in
theorem k_image1 {n w : Nat} {R : Nat → Int32} {P : Nat → Nat → Int32} (hd : 9 ≤ d) (hI : InvC ac W g F h) (hn : n < 3) (hw : w ≤ 16) (hn0 : W 0 17 = nI n) (hw0 : W 0 11 = nI w) (hz : HZ g W 0 R) (hp : hoP g 2 w P W) : Ct E d 68 612 mX1_image [vR (nC ac 1)] h (fun r h' => r = .inl (some (vI (nI (n + 1)))) ∧ ∃ ac' W', InvC ac' W' g F h' ∧ cFr h h' ∧ ac' 1 = ac 1 ∧ imE g R P n w W W') := by
  refine ct_of (by decide) (Nat.le_of_ble_eq_true rfl) rfl ?_
  have hF : cFr h h := cFr.rf
  refine g_aload_n (pc := 0) dX1_image_0 rfl ?_
  refine g_getfield (pc := 1) f_X1_113_1 dX1_image_1 hI.1 rfl ?_
  rw [hn0]
  refine g_iconst (pc := 4) (v := 3) dX1_image_4 (by decide) ?_
  refine g_icmp_ne (pc := 5) 10 dX1_image_5 (by decide) (fun c_5 => ?_) (fun c_5 => absurd c_5 (by intro e; have := (nI_eq (a := n) (b := 3) (by omega) (by decide)).mp e; omega))
  refine g_aload_n (pc := 10) dX1_image_10 rfl ?_
  refine g_aload_n (pc := 11) dX1_image_11 rfl ?_
  refine g_getfield (pc := 12) f_X1_69_1 dX1_image_12 hI.1 rfl ?_
  refine g_aload_n (pc := 15) dX1_image_15 rfl ?_
  refine g_getfield (pc := 16) f_X1_113_1 dX1_image_16 hI.1 rfl ?_
  rw [hn0]
  refine g_aload_n (pc := 19) dX1_image_19 rfl ?_
  refine g_getfield (pc := 20) f_X1_58_1 dX1_image_20 hI.1 rfl ?_
  refine g_callV (pc := 23) (M' := mX1_kept) (as := [_, _, _]) (ci := 1) rfl i_X1_213_1 eX1_kept dX1_image_23 hI.1 (k_keptH (q := 18) (b := 18) (n := 3) (k := n) (j := 0) (by omega) hI (Or.inr (Or.inl ⟨rfl, rfl, rfl⟩)) hn liv0 (by omega) hz) (by omega) rfl rfl (Nat.le_of_ble_eq_true rfl) (by omega) (by omega) (fun C9 x9 h9 q9 => ?_) (fun r9 h9 q9 => ?_)
  · cases q9.1
  obtain ⟨e9, ac', W9, hI, fr9, hz9, hk9, ha9⟩ := q9
  cases e9
  replace hF := cFr.tr hF fr9
  have e1 : nC ac' 1 = nC ac 1 := by unfold nC; rw [ha9 1 (by omega) (by omega) (by omega) (by omega)]
  rw [← e1]
  refine g_iconst (pc := 26) (v := 0) dX1_image_26 (by decide) ?_
  refine g_istore_n (pc := 27) (ls' := [_, _]) dX1_image_27 (by decide) rfl rfl ?_
  refine l_kimage (a1 := ac 1) (R := R) (P := P) (by omega) hn hw hn0 hw0 hp w 0 _ _ _ W9 ac' rfl (Nat.zero_le _) (by omega) (by omega) hI hF (ha9 1 (by omega) (by omega) (by omega) (by omega)) ⟨⟨(hoS.of (g := g) hk9 (by omega)).1, fun j hj hs9 => (hoS.of (g := g) hk9 (by omega)).2 j hj (fun z => hs9 (Or.inl z))⟩, hk9.2.2, hz9, fun i hi => absurd hi (Nat.not_lt_zero i)⟩ (fun bc bs h W' ac hI hF ha ht => ?_)
  refine g_aload_n (pc := 65) dX1_image_65 rfl ?_
  refine g_getfield (pc := 66) f_X1_75_1 dX1_image_66 hI.1 rfl ?_
  refine g_aload_n (pc := 69) dX1_image_69 rfl ?_
  refine g_getfield (pc := 70) f_X1_113_1 dX1_image_70 hI.1 rfl ?_
  rw [ht.1.1 0 (by decide) (by decide), hn0]
  refine g_aload_n (pc := 73) dX1_image_73 rfl ?_
  refine g_getfield (pc := 74) f_X1_104_1 dX1_image_74 hI.1 rfl ?_
  rw [ht.1.1 0 (by decide) (by decide), hw0]
  refine c_rast (pc := 77) (k := 10) (n := 3) hI rfl (by decide) dX1_image_77 (j := n) rfl (by omega) (by decide) (fun h hI fr => ?_)
  replace hF := cFr.tr hF fr
  refine g_aload_n (pc := 78) dX1_image_78 rfl ?_
  refine g_dup (pc := 79) dX1_image_79 rfl ?_
  refine g_getfield (pc := 80) f_X1_113_1 dX1_image_80 hI.1 rfl ?_
  rw [sv_ne (by decide), ht.1.1 0 (by decide) (by decide), hn0]
  refine g_iconst (pc := 83) (v := 1) dX1_image_83 (by decide) ?_
  refine g_iadd (pc := 84) dX1_image_84 ?_
  rw [nI_1]
  refine c_put (pc := 85) hI w_X1_113_1 rfl (by decide) dX1_image_85 (fun h hI fr => ?_)
  replace hF := cFr.tr hF fr
  refine g_aload_n (pc := 88) dX1_image_88 rfl ?_
  refine g_getfield (pc := 89) f_X1_113_1 dX1_image_89 hI.1 rfl ?_
  rw [sv_same]
  refine g_ireturn (pc := 92) dX1_image_92 rfl (by first | exact rfl | exact j_nb _) ?_
  exact ⟨rfl, ac, _, hI, hF, ha, W', ht, rfl⟩
theorem k_restore0 (hI : InvC ac W g F h) (hn : W 0 17 = 0) : Ct E d 0 0 mX1_restore [vR (nC ac 1)] h (cQ ac W g F h (some (vI (-1)))) := by
  refine ct_of (by decide) (Nat.le_of_ble_eq_true rfl) rfl ?_
  have hF : cFr h h := cFr.rf
  refine g_aload_n (pc := 0) dX1_restore_0 rfl ?_
  refine g_getfield (pc := 1) f_X1_113_1 dX1_restore_1 hI.1 rfl ?_
  rw [hn]
  refine g_if_ne (pc := 4) 9 dX1_restore_4 (by decide) (fun c_4 => absurd rfl c_4) (fun c_4 => ?_)
  refine g_iconst (pc := 7) (v := -1) dX1_restore_7 (by decide) ?_
  refine g_ireturn (pc := 8) dX1_restore_8 rfl (by first | exact rfl | exact j_nb _) ?_
  exact ⟨rfl, hI, hF⟩
set_option maxHeartbeats 2000000 in
theorem l_krestore {n w : Nat} {Q : jR → jH → Prop} {h0 : jH} {R : Nat → Int32} {P : Nat → Nat → Int32} {a1 : Nat} (hd : 8 ≤ d) (hn : n < 3) (hw : w ≤ 16) (hn0 : W 0 17 = nI n) (hw0 : W 0 11 = nI w) (hp : hoP g (21 + 16 * n) w P W) : ∀ (m r bc bs : Nat) (h : jH) (W' : mV) (ac : Nat → Nat), w - r = m → r ≤ w → 4 * m ≤ bc → 36 * m ≤ bs → InvC ac W' g F h → cFr h0 h → ac 1 = a1 → reT g R P r W W' → (∀ (bc bs : Nat) (h : jH) (W' : mV) (ac : Nat → Nat), InvC ac W' g F h → cFr h0 h → ac 1 = a1 → reT g R P w W W' → G E d bc bs mX1_restore 88 [some (vR (nC ac 1)), some (vI (nI w))] [] h Q) → G E d bc bs mX1_restore 51 [some (vR (nC ac 1)), some (vI (nI r))] [] h Q := by
  intro m
  induction m with
  | zero =>
    intro r bc bs h W' ac hm hr hbc hbs hI hF ha ht kk
    have e : r = w := by omega
    subst e
    refine g_iload_n (pc := 51) dX1_restore_51 rfl ?_
    refine g_aload_n (pc := 52) dX1_restore_52 rfl ?_
    refine g_getfield (pc := 53) f_X1_104_1 dX1_restore_53 hI.1 rfl ?_
    rw [ht.1.1 0 (by decide) (by decide), hw0]
    refine g_icmp_ge (pc := 56) 88 dX1_restore_56 (by decide) (fun c_56 => ?_) (fun c_56 => absurd (nI_le (Nat.le_refl _) (by omega)) c_56)
    exact kk _ _ h W' ac hI hF ha ht
  | succ m ih =>
    intro r bc bs h W' ac hm hr hbc hbs hI hF ha ht kk
    have hno : ¬ reS r (21 + (16 * n + r)) := by unfold reS; omega
    obtain ⟨p1, p2⟩ := hp r (by omega)
    rw [Nat.add_assoc] at p1 p2
    have p3 := ht.1.hz (show 21 + (16 * n + r) < 69 by omega) hno p2
    have p4 : W' 7 (21 + (16 * n + r)) = 1 := by rw [(ht.1.2 (21 + (16 * n + r)) (by omega) hno).1]; exact p1
    have hl2 : liv W' (21 + (16 * n + r)) := Or.inr ⟨by omega, p4⟩
    refine g_iload_n (pc := 51) dX1_restore_51 rfl ?_
    refine g_aload_n (pc := 52) dX1_restore_52 rfl ?_
    refine g_getfield (pc := 53) f_X1_104_1 dX1_restore_53 hI.1 rfl ?_
    rw [ht.1.1 0 (by decide) (by decide), hw0]
    refine g_icmp_ge (pc := 56) 88 dX1_restore_56 (by decide) (fun c_56 => absurd c_56 (by intro w9; have := (nI_leI (by omega) (by omega)).mp w9; omega)) (fun c_56 => ?_)
    refine g_aload_n (pc := 59) dX1_restore_59 rfl ?_
    refine g_aload_n (pc := 60) dX1_restore_60 rfl ?_
    refine g_getfield (pc := 61) f_X1_65_1 dX1_restore_61 hI.1 rfl ?_
    refine g_iload_n (pc := 64) dX1_restore_64 rfl ?_
    refine g_aload_n (pc := 65) dX1_restore_65 rfl ?_
    refine g_getfield (pc := 66) f_X1_72_1 dX1_restore_66 hI.1 rfl ?_
    refine g_bipush (pc := 69) (v := 16) dX1_restore_69 (by decide) ?_
    refine g_aload_n (pc := 71) dX1_restore_71 rfl ?_
    refine g_getfield (pc := 72) f_X1_113_1 dX1_restore_72 hI.1 rfl ?_
    rw [ht.1.1 0 (by decide) (by decide), hn0]
    refine g_imul (pc := 75) dX1_restore_75 ?_
    rw [mul16]
    refine g_iload_n (pc := 76) dX1_restore_76 rfl ?_
    refine g_iadd (pc := 77) dX1_restore_77 ?_
    rw [nI_add]
    refine g_aaload (pc := 78) (t := 4) rfl rfl dX1_restore_78 hI.2.1.2.2.2.2.2.2.1 (j := 16 * n + r) rfl (by omega) (by first | decide | omega) (hs17_at (show 16 * n + r < 48 by omega) p4) ?_
    refine g_callV (pc := 79) (M' := mX1_kept) (as := [_, _, _]) (ci := 1) rfl i_X1_213_1 eX1_kept dX1_restore_79 hI.1 (k_keptH (q := 17) (b := 2) (n := 16) (k := r) (j := 21 + (16 * n + r)) (by omega) hI (Or.inl ⟨rfl, rfl, rfl⟩) (by omega) hl2 (by omega) p3) (by omega) rfl rfl (Nat.le_of_ble_eq_true rfl) (by omega) (by omega) (fun C9 x9 h9 q9 => ?_) (fun r9 h9 q9 => ?_)
    · cases q9.1
    obtain ⟨e9, ac', W9, hI, fr9, hz9, hk9, ha9⟩ := q9
    cases e9
    replace hF := cFr.tr hF fr9
    have e1 : nC ac' 1 = nC ac 1 := by unfold nC; rw [ha9 1 (by omega) (by omega) (by omega) (by omega)]
    rw [← e1]
    refine g_iinc (pc := 82) (ls' := [_, _]) dX1_restore_82 rfl (by first | exact nI_1 _ | exact rfl) (by decide) rfl rfl ?_
    refine g_goto (pc := 85) 51 dX1_restore_85 (by decide) ?_
    exact ih (r + 1) _ _ _ W9 ac' (by omega) (by omega) (by omega) (by omega) hI hF (by rw [ha9 1 (by omega) (by omega) (by omega) (by omega)]; exact ha) (ht.s (by omega) hk9 hz9) kk
/-- an image taken back -/
def reE (g : HD) (R : Nat → Int32) (P : Nat → Nat → Int32) (n w : Nat) (W W' : mV) : Prop := ∃ W8 W9, hE 0 (sv W 0 17 (nI n)) W8 ∧ reT g R P w (sv W8 0 11 (nI w)) W9 ∧ W' = sv W9 0 12 0
set_option maxHeartbeats 2000000 in
theorem k_restore1 {n w : Nat} {R : Nat → Int32} {P : Nat → Nat → Int32} (hd : 9 ≤ d) (hI : InvC ac W g F h) (hn : n < 3) (hw : w ≤ 16) (hn0 : W 0 17 = nI (n + 1)) (hw0 : W 10 n = nI w) (h18 : W 7 (18 + n) = 1) (hz : HZ g W (18 + n) R) (hp : hoP g (21 + 16 * n) w P W) : Ct E d 68 612 mX1_restore [vR (nC ac 1)] h (fun r h' => r = .inl (some (vI (nI n))) ∧ ∃ ac' W', InvC ac' W' g F h' ∧ cFr h h' ∧ ac' 1 = ac 1 ∧ reE g R P n w W W') := by
  refine ct_of (by decide) (Nat.le_of_ble_eq_true rfl) rfl ?_
  have hF : cFr h h := cFr.rf
  have hl2 : liv (sv W 0 17 (nI n)) (18 + n) := Or.inr ⟨by omega, by rw [sv_ne (by decide)]; exact h18⟩
  refine g_aload_n (pc := 0) dX1_restore_0 rfl ?_
  refine g_getfield (pc := 1) f_X1_113_1 dX1_restore_1 hI.1 rfl ?_
  rw [hn0]
  refine g_if_ne (pc := 4) 9 dX1_restore_4 (by decide) (fun c_4 => ?_) (fun c_4 => absurd c_4 (nI_ne0 (by omega) (by omega)))
  refine g_aload_n (pc := 9) dX1_restore_9 rfl ?_
  refine g_dup (pc := 10) dX1_restore_10 rfl ?_
  refine g_getfield (pc := 11) f_X1_113_1 dX1_restore_11 hI.1 rfl ?_
  rw [hn0]
  refine g_iconst (pc := 14) (v := 1) dX1_restore_14 (by decide) ?_
  refine g_isub (pc := 15) dX1_restore_15 ?_
  rw [nI_pred]
  refine c_put (pc := 16) hI w_X1_113_1 rfl (by decide) dX1_restore_16 (fun h hI fr => ?_)
  replace hF := cFr.tr hF fr
  refine g_aload_n (pc := 19) dX1_restore_19 rfl ?_
  refine g_getfield (pc := 20) f_X1_58_1 dX1_restore_20 hI.1 rfl ?_
  refine g_aload_n (pc := 23) dX1_restore_23 rfl ?_
  refine g_getfield (pc := 24) f_X1_69_1 dX1_restore_24 hI.1 rfl ?_
  refine g_aload_n (pc := 27) dX1_restore_27 rfl ?_
  refine g_getfield (pc := 28) f_X1_113_1 dX1_restore_28 hI.1 rfl ?_
  rw [sv_same]
  refine g_aaload (pc := 31) (t := 4) rfl rfl dX1_restore_31 hI.2.1.2.2.2.2.2.1 (j := n) rfl (by omega) (by first | decide | omega) (hs17_at (W := sv W 0 17 (nI n)) (ac := ac) (b := 18) (n := 3) hn (by rw [sv_ne (by decide)]; exact h18)) ?_
  refine g_callV (pc := 32) (M' := mX10_becomes) (as := [_]) (ci := 10) rfl i_X1_248_10 eX10_becomes dX1_restore_32 (hI.2.2.2.1 0 liv0).1 (k_becomes (i := 0) (k := 18 + n) (by omega) hI liv0 hl2 (by omega) hz.f0) (by omega) rfl rfl (Nat.le_of_ble_eq_true rfl) (by omega) (by omega) (fun C9 x9 h9 q9 => ?_) (fun r9 h9 q9 => ?_)
  · cases q9.1
  obtain ⟨e9, W8, hI, fr9, hz9, he9⟩ := q9
  cases e9
  replace hF := cFr.tr hF fr9
  have z0 : W8 0 = sv W 0 17 (nI n) 0 := he9.1 0 (by decide) (by decide) (by decide) (by decide)
  have z10 : W8 10 = W 10 := (he9.1 10 (by decide) (by decide) (by decide) (by decide)).trans (sv_ne (by decide))
  refine g_pop (pc := 35) dX1_restore_35 rfl ?_
  refine g_aload_n (pc := 36) dX1_restore_36 rfl ?_
  refine g_aload_n (pc := 37) dX1_restore_37 rfl ?_
  refine g_getfield (pc := 38) f_X1_75_1 dX1_restore_38 hI.1 rfl ?_
  refine g_aload_n (pc := 41) dX1_restore_41 rfl ?_
  refine g_getfield (pc := 42) f_X1_113_1 dX1_restore_42 hI.1 rfl ?_
  rw [z0, sv_same]
  refine g_iaload (pc := 45) dX1_restore_45 hI.2.1.2.2.1 (j := n) rfl (by omega) (by first | decide | omega) rfl ?_
  rw [z10, hw0]
  refine c_put (pc := 46) hI w_X1_104_1 rfl (by decide) dX1_restore_46 (fun h hI fr => ?_)
  replace hF := cFr.tr hF fr
  refine g_iconst (pc := 49) (v := 0) dX1_restore_49 (by decide) ?_
  refine g_istore_n (pc := 50) (ls' := [_, _]) dX1_restore_50 (by decide) rfl rfl ?_
  have hp9 : hoP g (21 + 16 * n) w P (sv W8 0 11 (nI w)) := fun i hi => by
    obtain ⟨a, b⟩ := hp i hi
    refine ⟨by rw [sv_ne (by decide), he9.1 7 (by decide) (by decide) (by decide) (by decide), sv_ne (by decide)]; exact a, HZ.f0 ?_⟩
    unfold HZ
    rw [he9.1 (200 + (21 + 16 * n + i)) (by omega) (by omega) (by omega) (by omega), he9.1 (300 + (21 + 16 * n + i)) (by omega) (by omega) (by omega) (by omega), he9.1 (400 + (21 + 16 * n + i)) (by omega) (by omega) (by omega) (by omega), he9.1 (100 + (21 + 16 * n + i)) (by omega) (by omega) (by omega) (by omega)]
    exact b.f0
  refine l_krestore (W := sv W8 0 11 (nI w)) (a1 := ac 1) (R := R) (P := P) (n := n) (by omega) hn hw (by rw [sv_nj (by decide), z0, sv_same]) sv_same hp9 w 0 _ _ _ _ ac rfl (Nat.zero_le _) (by omega) (by omega) hI hF rfl ⟨⟨fun _ _ _ => rfl, fun _ _ _ => ⟨rfl, rfl, rfl, rfl, rfl⟩⟩, hz9.f0, fun i hi => absurd hi (Nat.not_lt_zero i)⟩ (fun bc bs h W' ac' hI hF ha ht => ?_)
  have e1 : nC ac' 1 = nC ac 1 := by unfold nC; rw [ha]
  refine g_aload_n (pc := 88) dX1_restore_88 rfl ?_
  refine g_iconst (pc := 89) (v := 0) dX1_restore_89 (by decide) ?_
  refine c_put (pc := 90) hI w_X1_107_1 rfl (by decide) dX1_restore_90 (fun h hI fr => ?_)
  replace hF := cFr.tr hF fr
  refine g_aload_n (pc := 93) dX1_restore_93 rfl ?_
  refine g_getfield (pc := 94) f_X1_113_1 dX1_restore_94 hI.1 rfl ?_
  rw [sv_nj (by decide), ht.1.1 0 (by decide) (by decide), sv_nj (by decide), z0, sv_same]
  refine g_ireturn (pc := 97) dX1_restore_97 rfl (by first | exact rfl | exact j_nb _) ?_
  exact ⟨rfl, ac', _, hI, hF, ha, W8, W', he9, ht, rfl⟩
end
