/-! THE COMPONENT: the reader of houses, two. Printed by m_c29.py -/
set_option maxRecDepth 100000
/-- a clause, its word behind it, what ends it still to come -/
def clK0 (t : Nat → Nat) (n : Nat) (g : HD) (k b : Nat) : pR HD :=
  if k = 0 then pB (nuP t n 0 15 b) fun p v => .inr (p, (dU (gD g) 5 (gS g) v, gW g, gS g + 1, gR g, gP g))
  else if k = 1 then pB (nuP t n 0 (nI (gS g) - 1) b) fun p s => pB (nuP t n 0 5 p) fun p i => pB (nuP t n 1 30 p) fun p w => .inr (p, (dU (dU (dU (gD g) 0 (gR g) s) 1 (gR g) i) 2 (gR g) w, gW g, gS g, gR g + 1, gP g))
  else if k = 2 then pB (nuP t n 0 5 b) fun p i => pB (nuP t n 1 99 p) fun p w => .inr (p, (dU (dU (gD g) 3 (gP g) i) 4 (gP g) w, gW g, gS g, gR g, gP g + 1))
  else pB (nuP t n 0 (nI (gS g) - 1) b) fun p x => pB (nuP t n 0 (nI (gS g) - 1) p) fun p y => .inr (p, (gD g, j_up (gW g) x (nI y), gS g, gR g, gP g))
theorem pB_B {α β γ : Type} (x : pR α) (f : Nat → α → pR β) (k : Nat → β → pR γ) : pB (pB x f) k = pB x fun p v => pB (f p v) k := by cases x <;> rfl
theorem pB_r {α β : Type} {p : Nat × α} {f : Nat → α → pR β} : pB (.inr p) f = f p.1 p.2 := rfl
theorem clK_0 {t : Nat → Nat} {n : Nat} {g : HD} {k b : Nat} : clK t n g k b = pB (clK0 t n g k b) fun p g' => clE t n g' p := by
  unfold clK clK0
  by_cases h0 : k = 0
  · rw [if_pos h0, if_pos h0, pB_B]; rfl
  · rw [if_neg h0, if_neg h0]
    by_cases h1 : k = 1
    · rw [if_pos h1, if_pos h1, pB_B]; simp only [pB_B]; rfl
    · rw [if_neg h1, if_neg h1]
      by_cases h2 : k = 2
      · rw [if_pos h2, if_pos h2, pB_B]; simp only [pB_B]; rfl
      · rw [if_neg h2, if_neg h2, pB_B]; simp only [pB_B]; rfl
/-- a clause read: thrown, or told -/
def clQ (ac : Nat → Nat) (P : jN → Prop) (h : jH) (x tp : jN) (n c : Nat) (op : Int32) (q : pR HD) : jR → jH → Prop := fun r h' => match q with
  | .inl e => wrX P h e r h'
  | .inr p => r = .inl none ∧ ∃ (ac' : Nat → Nat) (fr' : Int32), (∀ j, j ≤ 54 → ac' j = ac j) ∧ tdI ac' p.2 c h' ∧ h' x = some (rdO 13 tp n p.1 fr' op [vR (nC ac 50)]) ∧ kp P h h' ∧ p.1 ≤ n
theorem liB.eq {h h' : jH} {l e : jN} {n : Nat} {x : Nat → jN} (k : liB h l e n x) (e1 : h' l = h l) (e2 : h' e = h e) : liB h' l e n x := by
  obtain ⟨mc, cap, f, h1, h2, h3⟩ := k
  exact ⟨mc, cap, f, e1.trans h1, e2.trans h2, h3⟩
/-- a vow more -/
theorem tdI.vow {ac : Nat → Nat} {g : HD} {c : Nat} {h h' : jH} {w : Nat → Int32} (k : tdI ac g c h) (hg : okH g) (q : h' (nC ac 52) = some (iA 8 w)) (o : ∀ y, y ≠ nC ac 52 → h' y = h y) : tdI ac (gD g, w, gS g, gR g, gP g) c h' := by
  have hR := hg.2.1
  have hP := hg.2.2.1
  obtain ⟨h1, ⟨f, h2, h2b⟩, h3, h4, h5, h6, h7⟩ := k
  have z : ∀ j, ¬ j = 52 → h' (nC ac j) = h (nC ac j) := fun j hj => o _ (nC_ne hj)
  exact ⟨(z 50 (by decide)).trans h1, ⟨f, (z 51 (by decide)).trans h2, h2b⟩, q, h4.eq (z 53 (by decide)) (z 55 (by decide)), h5.eq (z 54 (by decide)) (z 56 (by decide)), fun r hr => (z (60 + r) (by omega)).trans (h6 r hr), fun p hp => (z (70 + p) (by omega)).trans (h7 p hp)⟩
/-- a sister more -/
theorem tdI.sis {ac : Nat → Nat} {g : HD} {c v : Nat} {h h' : jH} {f : Nat → Int32} (k : tdI ac g c h) (hg : okH g) (hf : ∀ s, s < gS g → f s = nI (gD g 5 s)) (q : h' (nC ac 51) = some (iA 8 (j_up f (gS g) (nI v)))) (q2 : h' (nC ac 50) = some (oO 2 [vR (nC ac 51), vR (nC ac 52), vR (nC ac 53), vR (nC ac 54), vI (nI (gS g + 1)), vI (nI c)])) (o : ∀ y, y ≠ nC ac 50 → y ≠ nC ac 51 → h' y = h y) : tdI ac (dU (gD g) 5 (gS g) v, gW g, gS g + 1, gR g, gP g) c h' := by
  have hR := hg.2.1
  have hP := hg.2.2.1
  obtain ⟨h1, -, h3, h4, h5, h6, h7⟩ := k
  have z : ∀ j, ¬ j = 50 → ¬ j = 51 → h' (nC ac j) = h (nC ac j) := fun j hj hk => o _ (nC_ne hj) (nC_ne hk)
  refine ⟨q2, ⟨_, q, fun s hs => ?_⟩, (z 52 (by decide) (by decide)).trans h3, h4.eq (z 53 (by decide) (by decide)) (z 55 (by decide) (by decide)), h5.eq (z 54 (by decide) (by decide)) (z 56 (by decide) (by decide)), fun r hr => ?_, fun p hp => ?_⟩
  · by_cases e : s = gS g
    · subst e
      rw [j_up_same]
      exact congrArg nI (dU_same).symm
    · rw [j_up_ne e, hf s (by have : s < gS g + 1 := hs; omega)]
      exact congrArg nI (dU_i e).symm
  · have q := (z (60 + r) (by omega) (by omega)).trans (h6 r hr)
    rw [q]
    show some (oO 15 [vI (nI (gD g 0 r)), vI (nI (gD g 1 r)), vI (nI (gD g 2 r))]) = some (oO 15 [vI (nI (dU (gD g) 5 (gS g) v 0 r)), vI (nI (dU (gD g) 5 (gS g) v 1 r)), vI (nI (dU (gD g) 5 (gS g) v 2 r))])
    rw [dU_k (by decide), dU_k (by decide), dU_k (by decide)]
  · have q := (z (70 + p) (by omega) (by omega)).trans (h7 p hp)
    rw [q]
    show some (oO 16 [vI (nI (gD g 3 p)), vI (nI (gD g 4 p))]) = some (oO 16 [vI (nI (dU (gD g) 5 (gS g) v 3 p)), vI (nI (dU (gD g) 5 (gS g) v 4 p))])
    rw [dU_k (by decide), dU_k (by decide)]
section
variable {E : jE} {d : Nat} {h : jH} {t : Nat → Nat} {n a c : Nat} {T : Nat → Int32} {tp x : jN} {fr op : Int32} {P : jN → Prop} {ac : Nat → Nat} {g : HD}
theorem clK0_3 {t : Nat → Nat} {n b : Nat} {g : HD} : clK0 t n g 3 b = pB (nuP t n 0 (nI (gS g) - 1) b) fun p x => pB (nuP t n 0 (nI (gS g) - 1) p) fun p y => .inr (p, (gD g, j_up (gW g) x (nI y), gS g, gR g, gP g)) := rfl
theorem clK0_0 {t : Nat → Nat} {n b : Nat} {g : HD} : clK0 t n g 0 b = pB (nuP t n 0 15 b) fun p v => .inr (p, (dU (gD g) 5 (gS g) v, gW g, gS g + 1, gR g, gP g)) := rfl
set_option maxHeartbeats 2000000 in
theorem l_clV {bc bs : Nat} {h0 : jH} {l1 l2 l4 l5 : Option jV} {z : Int32} (hd : 9 ≤ d) (hbc : 2 ≤ bc) (hbs : 16 ≤ bs) (hR : RH x tp n T t) (hP : P x) (hPt : ∀ j, 50 ≤ j → j < 57 → P (nC ac j)) (hx8 : 80 ≤ x.1) (hg : okH g) (ha : a ≤ n) (fx : h x = some (rdO 13 tp n a fr op [vR (nC ac 50)])) (ft : h tp = some (bA 600 T)) (ht : tdI ac g c h) (k0 : kp P h0 h) : G E d bc bs mX13_clause 404 [some (vR x), l1, l2, some (vI z), l4, l5] [] h (clQ ac P h0 x tp n c op (clK0 t n g 3 a)) := by
  have b8 := hg.1
  refine g_aload_n (pc := 404) dX13_clause_404 rfl ?_
  refine g_callV (pc := 405) (M' := mX13_sister) (as := []) (ci := 13) rfl i_X13_101_13 eX13_sister dX13_clause_405 fx (k_sister13 (by omega) hR hP ha fx ft ht) (by omega) rfl rfl (Nat.le_of_ble_eq_true rfl) (by omega) (by omega) (fun C9 x9 h9 q9 => ?_) (fun r9 h9 q9 => ?_)
  · obtain ⟨e9, e8, w9⟩ := nu13_x q9
    exact gx_out (fun z hz => absurd hz List.not_mem_nil) (by rw [clK0_3, e8]; exact w9.kp k0)
  obtain ⟨p1, e1, e8, fx', o9⟩ := nu13_r q9
  subst e8
  obtain ⟨-, -, -, v1, r1, -, n1⟩ := nuP_ok ha e1
  replace fx := fx'
  replace ft := (o9 _ hR.2.2.1.symm).trans ft
  replace ht := ht.ex hg (fun y o h1 h2 q => (o9 y (fun e => by rw [e] at h2; exact absurd hx8 (by omega))).trans q)
  replace k0 := k0.tr (kp.at hP hR.2.1 o9)
  refine g_istore (pc := 408) (ls' := [_, _, _, _, _, _]) dX13_clause_408 (by decide) rfl rfl ?_
  refine g_aload_n (pc := 410) dX13_clause_410 rfl ?_
  refine g_getfield (pc := 411) f_X13_14_13 dX13_clause_411 fx rfl ?_
  refine g_getfield (pc := 414) f_X13_114_2 dX13_clause_414 ht.1 rfl ?_
  refine g_iload (pc := 417) dX13_clause_417 rfl ?_
  refine g_aload_n (pc := 419) dX13_clause_419 rfl ?_
  refine g_callV (pc := 420) (M' := mX13_sister) (as := []) (ci := 13) rfl i_X13_101_13 eX13_sister dX13_clause_420 fx (k_sister13 (by omega) hR hP n1 fx ft ht) (by omega) rfl rfl (Nat.le_of_ble_eq_true rfl) (by omega) (by omega) (fun C9 x9 h9 q9 => ?_) (fun r9 h9 q9 => ?_)
  · obtain ⟨e9, e8, w9⟩ := nu13_x q9
    exact gx_out (fun z hz => absurd hz List.not_mem_nil) (by rw [clK0_3, e1, pB_r, e8]; exact w9.kp k0)
  obtain ⟨p2, e2, e8, fx', o9⟩ := nu13_r q9
  subst e8
  obtain ⟨-, -, -, v2, r2, -, n2⟩ := nuP_ok n1 e2
  replace fx := fx'
  replace ft := (o9 _ hR.2.2.1.symm).trans ft
  replace ht := ht.ex hg (fun y o h1 h2 q => (o9 y (fun e => by rw [e] at h2; exact absurd hx8 (by omega))).trans q)
  replace k0 := k0.tr (kp.at hP hR.2.1 o9)
  have hx1 := inR_m v1 (by omega) r1
  refine n_ast (pc := 423) dX13_clause_423 ht.2.2.1 (by show 52 ≠ 0; decide) (j := p1.2) rfl (by omega) (by decide) (fun h' q9 o9 => ?_)
  refine g_return (pc := 424) dX13_clause_424 rfl ?_
  rw [clK0_3, e1, pB_r, e2]
  exact ⟨rfl, ac, _, fun _ _ => rfl, ht.vow hg q9 o9, (o9 _ (fun e => by rw [e] at hx8; exact absurd hx8 (by show ¬ 80 ≤ 52; decide))).trans fx, k0.tr (kp.at (hPt 52 (by decide) (by decide)) (by show 52 < 900; decide) o9), n2⟩
set_option maxHeartbeats 2000000 in
theorem l_clS {bc bs : Nat} {h0 : jH} {l1 l2 l4 l5 : Option jV} {z : Int32} (hd : 9 ≤ d) (hbc : 1 ≤ bc) (hbs : 8 ≤ bs) (hR : RH x tp n T t) (hP : P x) (hPt : ∀ j, 50 ≤ j → j < 57 → P (nC ac j)) (hx8 : 80 ≤ x.1) (hg : okH g) (ha : a ≤ n) (fx : h x = some (rdO 13 tp n a fr op [vR (nC ac 50)])) (ft : h tp = some (bA 600 T)) (ht : tdI ac g c h) (k0 : kp P h0 h) (hs : gS g < 8) : G E d bc bs mX13_clause 288 [some (vR x), l1, l2, some (vI z), l4, l5] [] h (clQ ac P h0 x tp n c op (clK0 t n g 0 a)) := by
  have ht51 := ht.2.1
  obtain ⟨f51, ft51, hf51⟩ := ht51
  refine g_aload_n (pc := 288) dX13_clause_288 rfl ?_
  refine g_getfield (pc := 289) f_X13_14_13 dX13_clause_289 fx rfl ?_
  refine g_getfield (pc := 292) f_X13_97_2 dX13_clause_292 ht.1 rfl ?_
  refine g_aload_n (pc := 295) dX13_clause_295 rfl ?_
  refine g_getfield (pc := 296) f_X13_14_13 dX13_clause_296 fx rfl ?_
  refine g_getfield (pc := 299) f_X13_61_2 dX13_clause_299 ht.1 rfl ?_
  refine g_aload_n (pc := 302) dX13_clause_302 rfl ?_
  refine g_iconst (pc := 303) (v := 0) dX13_clause_303 (by decide) ?_
  refine g_bipush (pc := 304) (v := 15) dX13_clause_304 (by decide) ?_
  refine g_callV (pc := 306) (M' := mX12_number) (as := [_, _]) (ci := 13) rfl i_X13_75_13 eX12_number dX13_clause_306 fx (k_number13 (by omega) hR hP ha fx ft) (by omega) rfl rfl (Nat.le_of_ble_eq_true rfl) (by omega) (by omega) (fun C9 x9 h9 q9 => ?_) (fun r9 h9 q9 => ?_)
  · obtain ⟨e9, e8, w9⟩ := nu13_x q9
    exact gx_out (fun z hz => absurd hz List.not_mem_nil) (by rw [clK0_0, e8]; exact w9.kp k0)
  obtain ⟨p1, e1, e8, fx', o9⟩ := nu13_r q9
  subst e8
  obtain ⟨-, -, -, v1, r1, -, n1⟩ := nuP_ok ha e1
  replace fx := fx'
  replace ft := (o9 _ hR.2.2.1.symm).trans ft
  replace ht := ht.ex hg (fun y o h1 h2 q => (o9 y (fun e => by rw [e] at h2; exact absurd hx8 (by omega))).trans q)
  replace k0 := k0.tr (kp.at hP hR.2.1 o9)
  obtain ⟨f51, ft51, hf51⟩ := ht.2.1
  refine n_ast (pc := 309) dX13_clause_309 ft51 (by show 51 ≠ 0; decide) (j := gS g) rfl hs (by decide) (fun h2 q9 o9 => ?_)
  have fx2 := (o9 _ (fun e => by rw [e] at hx8; exact absurd hx8 (by show ¬ 80 ≤ 51; decide))).trans fx
  have f50 := (o9 _ (nC_ne (by decide))).trans ht.1
  refine g_aload_n (pc := 310) dX13_clause_310 rfl ?_
  refine g_getfield (pc := 311) f_X13_14_13 dX13_clause_311 fx2 rfl ?_
  refine g_dup (pc := 314) dX13_clause_314 rfl ?_
  refine g_getfield (pc := 315) f_X13_61_2 dX13_clause_315 f50 rfl ?_
  refine g_iconst (pc := 318) (v := 1) dX13_clause_318 (by decide) ?_
  refine g_iadd (pc := 319) dX13_clause_319 ?_
  rw [nI_1]
  refine n_put (pc := 320) w_X13_61_2 dX13_clause_320 f50 (Nat.le_of_ble_eq_true rfl) (by show 50 ≠ 0; decide) (j_fit_int _) rfl (fun h3 q8 o8 => ?_)
  refine g_return (pc := 323) dX13_clause_323 rfl ?_
  rw [clK0_0, e1]
  refine ⟨rfl, ac, _, fun _ _ => rfl, ht.sis hg hf51 ((o8 _ (nC_ne (by decide))).trans q9) q8 (fun y z1 z2 => (o8 y z1).trans (o9 y z2)), (o8 _ (fun e => by rw [e] at hx8; exact absurd hx8 (by show ¬ 80 ≤ 50; decide))).trans fx2, k0.tr ((kp.at (hPt 51 (by decide) (by decide)) (by show 51 < 900; decide) o9).tr (kp.at (hPt 50 (by decide) (by decide)) (by show 50 < 900; decide) o8)), n1⟩
end
