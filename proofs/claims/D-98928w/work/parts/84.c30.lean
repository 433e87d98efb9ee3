/-! THE COMPONENT: the reader of houses, three. Printed by m_c30.py -/
set_option maxRecDepth 100000
def acN (ac : Nat → Nat) (p e q b : Nat) : Nat → Nat := fun r => if r = p then e else if r = q then b else ac r
theorem acN_o {ac : Nat → Nat} {p e q b r : Nat} (h1 : ¬ r = p) (h2 : ¬ r = q) : nC (acN ac p e q b) r = nC ac r := by
  unfold nC acN
  rw [if_neg h1, if_neg h2]
theorem acN_p {ac : Nat → Nat} {p e q b : Nat} : nC (acN ac p e q b) p = (p, e) := by
  unfold nC acN
  rw [if_pos rfl]
theorem acN_q {ac : Nat → Nat} {p e q b : Nat} (h : ¬ q = p) : nC (acN ac p e q b) q = (q, b) := by
  unfold nC acN
  rw [if_neg h, if_pos rfl]
theorem tdI.pil {ac : Nat → Nat} {g : HD} {c e aP cap' i w : Nat} {mc : Int32} {f' : Nat → Option jN} {h h' : jH} (k : tdI ac g c h) (hg : okH g) (hp8 : gP g < 8) (o : ∀ y o, y ≠ nC ac 54 → y ≠ nC ac 56 → h y = some o → h' y = some o) (z1 : h' (nC ac 54) = some (oO 33 [vI mc, vR (56, e), vI (nI (gP g + 1))])) (z2 : h' (56, e) = some (rA 3 cap' f')) (z3 : gP g < cap') (z4 : cap' ≤ 100) (z5 : ∀ j, j < gP g → f' j = some (nC ac (70 + j))) (z6 : f' (gP g) = some (70 + gP g, aP)) (zp : h' (70 + gP g, aP) = some (oO 16 [vI (nI i), vI (nI w)])) :
    tdI (acN ac 56 e (70 + gP g) aP) (dU (dU (gD g) 3 (gP g) i) 4 (gP g) w, gW g, gS g, gR g, gP g + 1) c h' := by
  have hR := hg.2.1
  have hP := hg.2.2.1
  obtain ⟨h1, ⟨f, h2, h2b⟩, h3, ⟨m4, c4, f4, h4, h4b, h4c⟩, -, h6, h7⟩ := k
  have z : ∀ j ob, ¬ j = 54 → ¬ j = 56 → h (nC ac j) = some ob → h' (nC ac j) = some ob := fun j ob a b q => o _ _ (nC_ne a) (nC_ne b) q
  have n : ∀ j, ¬ j = 56 → j < 70 → nC (acN ac 56 e (70 + gP g) aP) j = nC ac j := fun j a b => acN_o a (by omega)
  refine ⟨?_, ⟨f, ?_, fun s hs => ?_⟩, ?_, ⟨m4, c4, f4, ?_, ?_, h4c.1, h4c.2.1, h4c.2.2.1, fun r hr => ?_⟩, ⟨mc, cap', f', ?_, ?_, z3, by omega, z4, fun p hp => ?_⟩, fun r hr => ?_, fun p hp => ?_⟩
  · rw [n 50 (by decide) (by decide), n 51 (by decide) (by decide), n 52 (by decide) (by decide), n 53 (by decide) (by decide), n 54 (by decide) (by decide)]
    exact z 50 _ (by decide) (by decide) h1
  · rw [n 51 (by decide) (by decide)]; exact z 51 _ (by decide) (by decide) h2
  · rw [h2b s hs]
    show nI (gD g 5 s) = nI (dU (dU (gD g) 3 (gP g) i) 4 (gP g) w 5 s)
    rw [dU_k (by decide), dU_k (by decide)]
  · rw [n 52 (by decide) (by decide)]; exact z 52 _ (by decide) (by decide) h3
  · rw [n 53 (by decide) (by decide), n 55 (by decide) (by decide)]; exact z 53 _ (by decide) (by decide) h4
  · rw [n 55 (by decide) (by decide)]; exact z 55 _ (by decide) (by decide) h4b
  · have hr' : r < gR g := hr
    rw [h4c.2.2.2 r hr']
    exact congrArg some (n (60 + r) (by omega) (by omega)).symm
  · rw [n 54 (by decide) (by decide), acN_p]; exact z1
  · rw [acN_p]; exact z2
  · have hp' : p < gP g + 1 := hp
    by_cases q : p = gP g
    · subst q
      rw [z6]
      exact congrArg some (acN_q (by omega)).symm
    · rw [z5 p (by omega)]
      exact congrArg some (acN_o (by omega) (by omega)).symm
  · have hr' : r < gR g := hr
    rw [n (60 + r) (by omega) (by omega), z (60 + r) _ (by omega) (by omega) (h6 r hr')]
    show some (oO 15 [vI (nI (gD g 0 r)), vI (nI (gD g 1 r)), vI (nI (gD g 2 r))]) = some (oO 15 [vI (nI (dU (dU (gD g) 3 (gP g) i) 4 (gP g) w 0 r)), vI (nI (dU (dU (gD g) 3 (gP g) i) 4 (gP g) w 1 r)), vI (nI (dU (dU (gD g) 3 (gP g) i) 4 (gP g) w 2 r))])
    rw [dU_k (by decide), dU_k (by decide), dU_k (by decide), dU_k (by decide), dU_k (by decide), dU_k (by decide)]
  · have hp' : p < gP g + 1 := hp
    by_cases q : p = gP g
    · subst q
      rw [acN_q (by omega), zp]
      show some (oO 16 [vI (nI i), vI (nI w)]) = some (oO 16 [vI (nI (dU (dU (gD g) 3 (gP g) i) 4 (gP g) w 3 (gP g))), vI (nI (dU (dU (gD g) 3 (gP g) i) 4 (gP g) w 4 (gP g)))])
      rw [dU_same, dU_k (by decide), dU_same]
    · rw [acN_o (by omega) (by omega), z (70 + p) _ (by omega) (by omega) (h7 p (by omega))]
      show some (oO 16 [vI (nI (gD g 3 p)), vI (nI (gD g 4 p))]) = some (oO 16 [vI (nI (dU (dU (gD g) 3 (gP g) i) 4 (gP g) w 3 p)), vI (nI (dU (dU (gD g) 3 (gP g) i) 4 (gP g) w 4 p))])
      rw [dU_k (by decide), dU_i q, dU_i q, dU_k (by decide)]
section
variable {E : jE} {d : Nat} {h : jH} {t : Nat → Nat} {n a c : Nat} {T : Nat → Int32} {tp x : jN} {fr op : Int32} {P : jN → Prop} {ac : Nat → Nat} {g : HD}
theorem clK0_2 {t : Nat → Nat} {n b : Nat} {g : HD} : clK0 t n g 2 b = pB (nuP t n 0 5 b) fun p i => pB (nuP t n 1 99 p) fun p w => .inr (p, (dU (dU (gD g) 3 (gP g) i) 4 (gP g) w, gW g, gS g, gR g, gP g + 1)) := rfl
set_option maxHeartbeats 2000000 in
theorem l_clP {bc bs : Nat} {h0 : jH} {l1 l2 l4 l5 : Option jV} {z : Int32} (hd : 12 ≤ d) (hbc : 5 ≤ bc) (hbs : 200 ≤ bs) (hcx : cxt P h) (hR : RH x tp n T t) (hP : P x) (hPt : ∀ j, 50 ≤ j → j < 57 → P (nC ac j)) (hx8 : 80 ≤ x.1) (hg : okH g) (ha : a ≤ n) (fx : h x = some (rdO 13 tp n a fr op [vR (nC ac 50)])) (ft : h tp = some (bA 600 T)) (ht : tdI ac g c h) (k0 : kp P h0 h) (hp8 : gP g < 8) : G E d bc bs mX13_clause 368 [some (vR x), l1, l2, some (vI z), l4, l5] [] h (clQ ac P h0 x tp n c op (clK0 t n g 2 a)) := by
  refine g_aload_n (pc := 368) dX13_clause_368 rfl ?_
  refine g_iconst (pc := 369) (v := 0) dX13_clause_369 (by decide) ?_
  refine g_iconst (pc := 370) (v := 5) dX13_clause_370 (by decide) ?_
  refine g_callV (pc := 371) (M' := mX12_number) (as := [_, _]) (ci := 13) rfl i_X13_75_13 eX12_number dX13_clause_371 fx (k_number13 (by omega) hR hP ha fx ft) (by omega) rfl rfl (Nat.le_of_ble_eq_true rfl) (by omega) (by omega) (fun C9 x9 h9 q9 => ?_) (fun r9 h9 q9 => ?_)
  · obtain ⟨e9, e8, w9⟩ := nu13_x q9
    exact gx_out (fun z hz => absurd hz List.not_mem_nil) (by rw [clK0_2, e8]; exact w9.kp k0)
  obtain ⟨p1, e1, e8, fx', o9⟩ := nu13_r q9
  subst e8
  obtain ⟨-, -, -, v1, r1, -, n1⟩ := nuP_ok ha e1
  replace fx := fx'
  replace ft := (o9 _ hR.2.2.1.symm).trans ft
  replace ht := ht.ex hg (fun y o h1 h2 q => (o9 y (fun e => by rw [e] at h2; exact absurd hx8 (by omega))).trans q)
  replace k0 := k0.tr (kp.at hP hR.2.1 o9)
  replace hcx := hcx.kp (kp.at hP hR.2.1 o9)
  obtain ⟨⟨mr, er, hz1⟩, ⟨mp, ep, hz2⟩⟩ := ht.sz
  refine g_istore (pc := 374) (ls' := [_, _, _, _, _, _]) dX13_clause_374 (by decide) rfl rfl ?_
  refine g_aload_n (pc := 376) dX13_clause_376 rfl ?_
  refine g_getfield (pc := 377) f_X13_14_13 dX13_clause_377 fx rfl ?_
  refine g_getfield (pc := 380) f_X13_72_2 dX13_clause_380 ht.1 rfl ?_
  refine n_new (pc := 383) (fs := [vI 0, vI 0]) (70 + gP g) k_X16 q1263 q1264 q134 dX13_clause_383 (fun j hj => by match j, hj with | 0, _ => rfl | 1, _ => rfl | j + 2, hj => exact absurd hj (by omega)) (by omega) (by omega) (fun aP h1 q8 n8 o8 => ?_)
  have E8 : ∀ y o, h9 y = some o → h1 y = some o := fun y o k => (o8 _ (ne_new k n8)).trans k
  have hxP := ne_new (kd := 70 + gP g) fx n8
  replace fx := E8 _ _ fx
  replace ft := E8 _ _ ft
  have k1 : kp P h0 h1 := k0.tr (kp.ex E8 (cFr.at (by show 70 + gP g < 900; omega) o8))
  refine g_dup (pc := 386) dX13_clause_386 rfl ?_
  refine g_iload (pc := 387) dX13_clause_387 rfl ?_
  refine g_aload_n (pc := 389) dX13_clause_389 rfl ?_
  refine g_iconst (pc := 390) (v := 1) dX13_clause_390 (by decide) ?_
  refine g_bipush (pc := 391) (v := 99) dX13_clause_391 (by decide) ?_
  refine g_callV (pc := 393) (M' := mX12_number) (as := [_, _]) (ci := 13) rfl i_X13_75_13 eX12_number dX13_clause_393 fx (k_number13 (by omega) hR hP n1 fx ft) (by omega) rfl rfl (Nat.le_of_ble_eq_true rfl) (by omega) (by omega) (fun C9 x9 h9 q9 => ?_) (fun r9 h2 q9 => ?_)
  · obtain ⟨e9, e8, w9⟩ := nu13_x q9
    exact gx_out (fun z hz => absurd hz List.not_mem_nil) (by rw [clK0_2, e1, pB_r, e8]; exact w9.kp k1)
  obtain ⟨p2, e2, e8, fx2, o7⟩ := nu13_r q9
  subst e8
  obtain ⟨-, -, -, v2, r2, -, n2⟩ := nuP_ok n1 e2
  refine n_init (pc := 396) (M' := mX16_init) (as := [_, _]) i_X13_113 eX16_init dX13_clause_396 (k_Pilgrim (x := (70 + gP g, aP)) (by omega) (by show 70 + gP g ≠ 0; omega) ((o7 _ hxP.symm).trans q8) _ _) (by omega) rfl rfl (Nat.le_of_ble_eq_true rfl) (fun h3 q6 o6 => ?_)
  have t3 : tdI ac g c h3 := ht.ex hg (fun y o r1 r2 q => (o6 y (ne_new q n8)).trans ((o7 y (fun e => by rw [e] at r2; exact absurd hx8 (by omega))).trans (E8 y o q)))
  have k3 : kp P h0 h3 := (k1.tr (kp.at hP hR.2.1 o7)).tr ⟨fun y o p q => (o6 y (fun e => p (by
    rw [e]
    apply Classical.byContradiction
    intro w
    obtain ⟨o', ho'⟩ := hcx _ w
    rw [n8] at ho'; cases ho'))).trans q, cFr.at (by show 70 + gP g < 900; omega) o6⟩
  obtain ⟨m4, c4, f4, h4, h4b, h4c, h4d, h4e, h4f⟩ := t3.2.2.2.2.1
  have eL : mp = m4 ∧ ep = vR (nC ac 56) := by
    have q := (o6 _ (ne_new hz2 n8)).trans ((o7 _ (fun e => by have e1 : (54 : Nat) = x.1 := congrArg Prod.fst e; omega)).trans (E8 _ _ hz2))
    rw [h4] at q
    cases q
    exact ⟨rfl, rfl⟩
  have hel : elC h3 f4 (gP g) := fun j hj => ⟨_, 16, _, _, _, _, h4f j hj, t3.2.2.2.2.2.2 j hj, rfl, q2623⟩
  refine g_callV (pc := 399) (M' := mJ2_add) (as := [_]) (ci := 33) rfl i_X13_108_33 eJ2_add dX13_clause_399 h4 (k_add 56 (by decide) (by decide) rfl (by show 54 ≠ 0; decide) (by show 54 < 900; decide) h4 h4b hel h4d h4c (by omega) (ci := 16) rfl q2623 q6 (fun e => by have e1 : 70 + gP g = 54 := congrArg Prod.fst e; omega) (by omega)) (by omega) rfl rfl (Nat.le_of_ble_eq_true rfl) (by omega) (by have := Nat.max_le.mpr (show 1 ≤ 100 ∧ c4 / 2 ≤ 100 by omega); omega) (fun C9 x9 h9 q9 => by cases q9.1) (fun r9 h5 q9 => ?_)
  obtain ⟨e9, mc, e, cap', f', z1, z2, z3, z4, z5, z6, z7, z8, z9, z10⟩ := q9
  cases e9
  obtain ⟨er, e⟩ := e
  have z5' : er = 56 := z5
  subst z5'
  refine g_pop (pc := 402) dX13_clause_402 rfl ?_
  refine g_return (pc := 403) dX13_clause_403 rfl ?_
  rw [clK0_2, e1, pB_r, e2]
  have hcap : cap' ≤ 100 := by rcases z4 with z4 | z4 <;> omega
  refine ⟨rfl, acN ac 56 e (70 + gP g) aP, nI (bl t n p1.1), fun j hj => ?_, t3.pil hg hp8 z9 z1 z2 z3 hcap (fun j hj => (z6 j hj).trans (h4f j hj)) z7 (z9 _ _ (fun e => by have e1 : 70 + gP g = 54 := congrArg Prod.fst e; omega) (fun e => by have e1 : 70 + gP g = 56 := congrArg Prod.fst e; omega) q6), ?_, k3.tr ⟨fun y o p q => z9 y o (fun e => p (by rw [e]; exact hPt 54 (by decide) (by decide))) (fun e => p (by rw [e]; exact hPt 56 (by decide) (by decide))) q, z10⟩, n2⟩
  · unfold acN
    rw [if_neg (by omega), if_neg (by omega)]
  · exact z9 _ _ (fun e => by have e1 : x.1 = 54 := congrArg Prod.fst e; omega) (fun e => by have e1 : x.1 = 56 := congrArg Prod.fst e; omega) ((o6 _ hxP).trans fx2)
end
