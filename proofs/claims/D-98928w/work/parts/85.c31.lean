/-! THE COMPONENT: the reader of houses, four. Printed by m_c31.py -/
set_option maxRecDepth 100000
theorem tdI.rel {ac : Nat → Nat} {g : HD} {c e aP cap' s i w : Nat} {mc : Int32} {f' : Nat → Option jN} {h h' : jH} (k : tdI ac g c h) (hg : okH g) (hp8 : gR g < 10) (o : ∀ y o, y ≠ nC ac 53 → y ≠ nC ac 55 → h y = some o → h' y = some o) (z1 : h' (nC ac 53) = some (oO 33 [vI mc, vR (55, e), vI (nI (gR g + 1))])) (z2 : h' (55, e) = some (rA 3 cap' f')) (z3 : gR g < cap') (z4 : cap' ≤ 100) (z5 : ∀ j, j < gR g → f' j = some (nC ac (60 + j))) (z6 : f' (gR g) = some (60 + gR g, aP)) (zp : h' (60 + gR g, aP) = some (oO 15 [vI (nI s), vI (nI i), vI (nI w)])) :
    tdI (acN ac 55 e (60 + gR g) aP) ((dU (dU (dU (gD g) 0 (gR g) s) 1 (gR g) i) 2 (gR g) w), gW g, gS g, gR g + 1, gP g) c h' := by
  have hR := hg.2.1
  have hP := hg.2.2.1
  obtain ⟨h1, ⟨f, h2, h2b⟩, h3, -, ⟨m4, c4, f4, h4, h4b, h4c⟩, h6, h7⟩ := k
  have z : ∀ j ob, ¬ j = 53 → ¬ j = 55 → h (nC ac j) = some ob → h' (nC ac j) = some ob := fun j ob a b q => o _ _ (nC_ne a) (nC_ne b) q
  have n : ∀ j, ¬ j = 55 → ¬ j = 60 + gR g → nC (acN ac 55 e (60 + gR g) aP) j = nC ac j := fun j a b => acN_o a b
  refine ⟨?_, ⟨f, ?_, fun s2 hs => ?_⟩, ?_, ⟨mc, cap', f', ?_, ?_, z3, by omega, z4, fun p hp => ?_⟩, ⟨m4, c4, f4, ?_, ?_, h4c.1, h4c.2.1, h4c.2.2.1, fun r hr => ?_⟩, fun p hp => ?_, fun r hr => ?_⟩
  · rw [n 50 (by decide) (by omega), n 51 (by decide) (by omega), n 52 (by decide) (by omega), n 53 (by decide) (by omega), n 54 (by decide) (by omega)]
    exact z 50 _ (by decide) (by decide) h1
  · rw [n 51 (by decide) (by omega)]; exact z 51 _ (by decide) (by decide) h2
  · rw [h2b s2 hs]
    show nI (gD g 5 s2) = nI ((dU (dU (dU (gD g) 0 (gR g) s) 1 (gR g) i) 2 (gR g) w) 5 s2)
    rw [dU_k (by decide), dU_k (by decide), dU_k (by decide)]
  · rw [n 52 (by decide) (by omega)]; exact z 52 _ (by decide) (by decide) h3
  · rw [n 53 (by decide) (by omega), acN_p]; exact z1
  · rw [acN_p]; exact z2
  · have hp' : p < gR g + 1 := hp
    by_cases q : p = gR g
    · subst q
      rw [z6]
      exact congrArg some (acN_q (by omega)).symm
    · rw [z5 p (by omega)]
      exact congrArg some (acN_o (by omega) (by omega)).symm
  · rw [n 54 (by decide) (by omega), n 56 (by decide) (by omega)]; exact z 54 _ (by decide) (by decide) h4
  · rw [n 56 (by decide) (by omega)]; exact z 56 _ (by decide) (by decide) h4b
  · have hr' : r < gP g := hr
    rw [h4c.2.2.2 r hr']
    exact congrArg some (n (70 + r) (by omega) (by omega)).symm
  · have hp' : p < gR g + 1 := hp
    by_cases q : p = gR g
    · subst q
      rw [acN_q (by omega), zp]
      show some (oO 15 [vI (nI s), vI (nI i), vI (nI w)]) = some (oO 15 [vI (nI ((dU (dU (dU (gD g) 0 (gR g) s) 1 (gR g) i) 2 (gR g) w) 0 (gR g))), vI (nI ((dU (dU (dU (gD g) 0 (gR g) s) 1 (gR g) i) 2 (gR g) w) 1 (gR g))), vI (nI ((dU (dU (dU (gD g) 0 (gR g) s) 1 (gR g) i) 2 (gR g) w) 2 (gR g)))])
      rw [dU_same, dU_k (k := 2) (k' := 1) (by decide), dU_same, dU_k (k := 2) (k' := 0) (by decide), dU_k (k := 1) (k' := 0) (by decide), dU_same]
    · rw [acN_o (by omega) (by omega), z (60 + p) _ (by omega) (by omega) (h6 p (by omega))]
      show some (oO 15 [vI (nI (gD g 0 p)), vI (nI (gD g 1 p)), vI (nI (gD g 2 p))]) = some (oO 15 [vI (nI ((dU (dU (dU (gD g) 0 (gR g) s) 1 (gR g) i) 2 (gR g) w) 0 p)), vI (nI ((dU (dU (dU (gD g) 0 (gR g) s) 1 (gR g) i) 2 (gR g) w) 1 p)), vI (nI ((dU (dU (dU (gD g) 0 (gR g) s) 1 (gR g) i) 2 (gR g) w) 2 p))])
      rw [dU_i q, dU_i q, dU_i q, dU_i q, dU_i q, dU_i q, dU_i q, dU_i q, dU_i q]
  · have hr' : r < gP g := hr
    rw [n (70 + r) (by omega) (by omega), z (70 + r) _ (by omega) (by omega) (h7 r hr')]
    show some (oO 16 [vI (nI (gD g 3 r)), vI (nI (gD g 4 r))]) = some (oO 16 [vI (nI ((dU (dU (dU (gD g) 0 (gR g) s) 1 (gR g) i) 2 (gR g) w) 3 r)), vI (nI ((dU (dU (dU (gD g) 0 (gR g) s) 1 (gR g) i) 2 (gR g) w) 4 r))])
    rw [dU_k (by decide), dU_k (by decide), dU_k (by decide), dU_k (by decide), dU_k (by decide), dU_k (by decide)]
section
variable {E : jE} {d : Nat} {h : jH} {t : Nat → Nat} {n a c : Nat} {T : Nat → Int32} {tp x : jN} {fr op : Int32} {P : jN → Prop} {ac : Nat → Nat} {g : HD}
theorem clK0_1 {t : Nat → Nat} {n b : Nat} {g : HD} : clK0 t n g 1 b = pB (nuP t n 0 (nI (gS g) - 1) b) fun p s => pB (nuP t n 0 5 p) fun p i => pB (nuP t n 1 30 p) fun p w => .inr (p, (dU (dU (dU (gD g) 0 (gR g) s) 1 (gR g) i) 2 (gR g) w, gW g, gS g, gR g + 1, gP g)) := rfl
set_option maxHeartbeats 2000000 in
theorem l_clR {bc bs : Nat} {h0 : jH} {l1 l2 l4 l5 : Option jV} {z : Int32} (hd : 12 ≤ d) (hbc : 6 ≤ bc) (hbs : 220 ≤ bs) (hcx : cxt P h) (hR : RH x tp n T t) (hP : P x) (hPt : ∀ j, 50 ≤ j → j < 57 → P (nC ac j)) (hx8 : 80 ≤ x.1) (hg : okH g) (ha : a ≤ n) (fx : h x = some (rdO 13 tp n a fr op [vR (nC ac 50)])) (ft : h tp = some (bA 600 T)) (ht : tdI ac g c h) (k0 : kp P h0 h) (hp8 : gR g < 10) : G E d bc bs mX13_clause 324 [some (vR x), l1, l2, some (vI z), l4, l5] [] h (clQ ac P h0 x tp n c op (clK0 t n g 1 a)) := by
  refine g_aload_n (pc := 324) dX13_clause_324 rfl ?_
  refine g_callV (pc := 325) (M' := mX13_sister) (as := []) (ci := 13) rfl i_X13_101_13 eX13_sister dX13_clause_325 fx (k_sister13 (by omega) hR hP ha fx ft ht) (by omega) rfl rfl (Nat.le_of_ble_eq_true rfl) (by omega) (by omega) (fun C9 x9 h9 q9 => ?_) (fun r9 h9 q9 => ?_)
  · obtain ⟨e9, e8, w9⟩ := nu13_x q9
    exact gx_out (fun z hz => absurd hz List.not_mem_nil) (by rw [clK0_1, e8]; exact w9.kp k0)
  obtain ⟨p1, e1, e8, fx', o9⟩ := nu13_r q9
  subst e8
  obtain ⟨-, -, -, v1, r1, -, n1⟩ := nuP_ok ha e1
  replace fx := fx'
  replace ft := (o9 _ hR.2.2.1.symm).trans ft
  replace ht := ht.ex hg (fun y o h1 h2 q => (o9 y (fun e => by rw [e] at h2; exact absurd hx8 (by omega))).trans q)
  replace k0 := k0.tr (kp.at hP hR.2.1 o9)
  replace hcx := hcx.kp (kp.at hP hR.2.1 o9)
  obtain ⟨⟨mr, er, hz1⟩, ⟨mp, ep, hz2⟩⟩ := ht.sz
  refine g_istore (pc := 328) (ls' := [_, _, _, _, _, _]) dX13_clause_328 (by decide) rfl rfl ?_
  refine g_aload_n (pc := 330) dX13_clause_330 rfl ?_
  refine g_iconst (pc := 331) (v := 0) dX13_clause_331 (by decide) ?_
  refine g_iconst (pc := 332) (v := 5) dX13_clause_332 (by decide) ?_
  refine g_callV (pc := 333) (M' := mX12_number) (as := [_, _]) (ci := 13) rfl i_X13_75_13 eX12_number dX13_clause_333 fx (k_number13 (by omega) hR hP n1 fx ft) (by omega) rfl rfl (Nat.le_of_ble_eq_true rfl) (by omega) (by omega) (fun C9 x9 h9 q9 => ?_) (fun r9 h9 q9 => ?_)
  · obtain ⟨e9, e8, w9⟩ := nu13_x q9
    exact gx_out (fun z hz => absurd hz List.not_mem_nil) (by rw [clK0_1, e1, pB_r, e8]; exact w9.kp k0)
  obtain ⟨p2, e2, e8, fx', o9⟩ := nu13_r q9
  subst e8
  obtain ⟨-, -, -, v2, r2, -, n2⟩ := nuP_ok n1 e2
  replace fx := fx'
  replace ft := (o9 _ hR.2.2.1.symm).trans ft
  replace ht := ht.ex hg (fun y o h1 h2 q => (o9 y (fun e => by rw [e] at h2; exact absurd hx8 (by omega))).trans q)
  replace k0 := k0.tr (kp.at hP hR.2.1 o9)
  replace hcx := hcx.kp (kp.at hP hR.2.1 o9)
  obtain ⟨⟨mr, er, hz1⟩, ⟨mp, ep, hz2⟩⟩ := ht.sz
  refine g_istore (pc := 336) (ls' := [_, _, _, _, _, _]) dX13_clause_336 (by decide) rfl rfl ?_
  refine g_aload_n (pc := 338) dX13_clause_338 rfl ?_
  refine g_getfield (pc := 339) f_X13_14_13 dX13_clause_339 fx rfl ?_
  refine g_getfield (pc := 342) f_X13_64_2 dX13_clause_342 ht.1 rfl ?_
  refine n_new (pc := 345) (fs := [vI 0, vI 0, vI 0]) (60 + gR g) k_X15 q1175 q1176 q133 dX13_clause_345 (fun j hj => by match j, hj with | 0, _ => rfl | 1, _ => rfl | 2, _ => rfl | j + 3, hj => exact absurd hj (by omega)) (by omega) (by omega) (fun aP h1 q8 n8 o8 => ?_)
  have E8 : ∀ y o, h9 y = some o → h1 y = some o := fun y o k => (o8 _ (ne_new k n8)).trans k
  have hxP := ne_new (kd := 60 + gR g) fx n8
  replace fx := E8 _ _ fx
  replace ft := E8 _ _ ft
  have k1 : kp P h0 h1 := k0.tr (kp.ex E8 (cFr.at (by show 60 + gR g < 900; omega) o8))
  refine g_dup (pc := 348) dX13_clause_348 rfl ?_
  refine g_iload (pc := 349) dX13_clause_349 rfl ?_
  refine g_iload (pc := 351) dX13_clause_351 rfl ?_
  refine g_aload_n (pc := 353) dX13_clause_353 rfl ?_
  refine g_iconst (pc := 354) (v := 1) dX13_clause_354 (by decide) ?_
  refine g_bipush (pc := 355) (v := 30) dX13_clause_355 (by decide) ?_
  refine g_callV (pc := 357) (M' := mX12_number) (as := [_, _]) (ci := 13) rfl i_X13_75_13 eX12_number dX13_clause_357 fx (k_number13 (by omega) hR hP n2 fx ft) (by omega) rfl rfl (Nat.le_of_ble_eq_true rfl) (by omega) (by omega) (fun C9 x9 h9 q9 => ?_) (fun r9 h2 q9 => ?_)
  · obtain ⟨e9, e8, w9⟩ := nu13_x q9
    exact gx_out (fun z hz => absurd hz List.not_mem_nil) (by rw [clK0_1, e1, pB_r, e2, pB_r, e8]; exact w9.kp k1)
  obtain ⟨p3, e3, e8, fx2, o7⟩ := nu13_r q9
  subst e8
  obtain ⟨-, -, -, v3, r3, -, n3⟩ := nuP_ok n2 e3
  refine n_init (pc := 360) (M' := mX15_init) (as := [_, _, _]) i_X13_105 eX15_init dX13_clause_360 (k_Relic (x := (60 + gR g, aP)) (by omega) (by show 60 + gR g ≠ 0; omega) ((o7 _ hxP.symm).trans q8) _ _ _) (by omega) rfl rfl (Nat.le_of_ble_eq_true rfl) (fun h3 q6 o6 => ?_)
  have t3 : tdI ac g c h3 := ht.ex hg (fun y o r1 r2 q => (o6 y (ne_new q n8)).trans ((o7 y (fun e => by rw [e] at r2; exact absurd hx8 (by omega))).trans (E8 y o q)))
  have k3 : kp P h0 h3 := (k1.tr (kp.at hP hR.2.1 o7)).tr ⟨fun y o p q => (o6 y (fun e => p (by
    rw [e]
    apply Classical.byContradiction
    intro w
    obtain ⟨o', ho'⟩ := hcx _ w
    rw [n8] at ho'; cases ho'))).trans q, cFr.at (by show 60 + gR g < 900; omega) o6⟩
  obtain ⟨m4, c4, f4, h4, h4b, h4c, h4d, h4e, h4f⟩ := t3.2.2.2.1
  have eL : mr = m4 ∧ er = vR (nC ac 55) := by
    have q := (o6 _ (ne_new hz1 n8)).trans ((o7 _ (fun e => by have e1 : (53 : Nat) = x.1 := congrArg Prod.fst e; omega)).trans (E8 _ _ hz1))
    rw [h4] at q
    cases q
    exact ⟨rfl, rfl⟩
  have hel : elC h3 f4 (gR g) := fun j hj => ⟨_, 15, _, _, _, _, h4f j hj, t3.2.2.2.2.2.1 j hj, rfl, q2622⟩
  refine g_callV (pc := 363) (M' := mJ2_add) (as := [_]) (ci := 33) rfl i_X13_108_33 eJ2_add dX13_clause_363 h4 (k_add 55 (by decide) (by decide) rfl (by show 53 ≠ 0; decide) (by show 53 < 900; decide) h4 h4b hel h4d h4c (by omega) (ci := 15) rfl q2622 q6 (fun e => by have e1 : 60 + gR g = 53 := congrArg Prod.fst e; omega) (by omega)) (by omega) rfl rfl (Nat.le_of_ble_eq_true rfl) (by omega) (by have := Nat.max_le.mpr (show 1 ≤ 100 ∧ c4 / 2 ≤ 100 by omega); omega) (fun C9 x9 h9 q9 => by cases q9.1) (fun r9 h5 q9 => ?_)
  obtain ⟨e9, mc, e, cap', f', z1, z2, z3, z4, z5, z6, z7, z8, z9, z10⟩ := q9
  cases e9
  obtain ⟨er2, e⟩ := e
  have z5' : er2 = 55 := z5
  subst z5'
  refine g_pop (pc := 366) dX13_clause_366 rfl ?_
  refine g_return (pc := 367) dX13_clause_367 rfl ?_
  rw [clK0_1, e1, pB_r, e2, pB_r, e3]
  have hcap : cap' ≤ 100 := by rcases z4 with z4 | z4 <;> omega
  refine ⟨rfl, acN ac 55 e (60 + gR g) aP, nI (bl t n p2.1), fun j hj => ?_, t3.rel hg hp8 z9 z1 z2 z3 hcap (fun j hj => (z6 j hj).trans (h4f j hj)) z7 (z9 _ _ (fun e => by have e1 : 60 + gR g = 53 := congrArg Prod.fst e; omega) (fun e => by have e1 : 60 + gR g = 55 := congrArg Prod.fst e; omega) q6), ?_, k3.tr ⟨fun y o p q => z9 y o (fun e => p (by rw [e]; exact hPt 53 (by decide) (by decide))) (fun e => p (by rw [e]; exact hPt 55 (by decide) (by decide))) q, z10⟩, n3⟩
  · unfold acN
    rw [if_neg (by omega), if_neg (by omega)]
  · exact z9 _ _ (fun e => by have e1 : x.1 = 53 := congrArg Prod.fst e; omega) (fun e => by have e1 : x.1 = 55 := congrArg Prod.fst e; omega) ((o6 _ hxP).trans fx2)
end
