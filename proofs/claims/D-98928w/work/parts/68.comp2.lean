/-! THE COMPONENT: rows for new things -/
set_option maxRecDepth 100000
def iP (h : jH) (x : jN) (o : jO) : jR → jH → Prop := fun r h' => r = .inl none ∧ h' x = some o ∧ ∀ y, y ≠ x → h' y = h y
theorem ne_new {h : jH} {y : jN} {o : jO} {kd a : Nat} (f : h y = some o) (n : ∀ k, h (k, a) = none) : y ≠ (kd, a) := fun e => by rw [e, n] at f; cases f
theorem arr_cong {c : ClassId} {n : Nat} {f f' : Nat → Value} (e : ∀ j, j < n → f j = f' j) : arrV c n f = arrV c n f' := by
  unfold arrV
  congr 1
  exact congrArg Array.ofFn (funext (fun j => e j.1 j.2))
theorem cFr.at {h h' : jH} {x : jN} (hx : x.1 < 900) (o9 : ∀ y, y ≠ x → h' y = h y) : cFr h h' := fun y hy => o9 y (fun e => by rw [e] at hy; omega)
theorem cFr.at2 {h h' : jH} {x z : jN} (hx : x.1 < 900) (hz : z.1 < 900) (o9 : ∀ y, y ≠ x → y ≠ z → h' y = h y) : cFr h h' := fun y hy => o9 y (fun e => by rw [e] at hy; omega) (fun e => by rw [e] at hy; omega)
theorem n0_of {h0 h : jH} {a k : Nat} (E1 : ∀ y o, h0 y = some o → h y = some o) (n9 : ∀ k, h (k, a) = none) : h0 (k, a) = none := by
  cases q : h0 (k, a) with
  | none => rfl
  | some o =>
    have := E1 _ _ q
    rw [n9] at this
    cases this
theorem n0_ofx {h0 h : jH} {x : jN} {a k : Nat} (E1 : ∀ y o, y ≠ x → h0 y = some o → h y = some o) (n9 : ∀ k, h (k, a) = none) (hx : x ≠ (k, a)) : h0 (k, a) = none := by
  cases q : h0 (k, a) with
  | none => rfl
  | some o =>
    have := E1 _ _ (fun e => hx e.symm) q
    rw [n9] at this
    cases this
section
variable {E : jE} {d bc bs : Nat} {M M' : jM} {pc i n : Nat} {ls : List (Option jV)} {st st0 as : List jV} {h : jH} {Q : jR → jH → Prop}
theorem g_cIv {b : jN} (iv : jII M.1.cls i M'.1 n) (me : jMe M') (hd : decode M.2.1 pc = .ok (.invokespecial i, 3)) (hC : Ct E (d - 1) 0 0 M' (vR b :: as) h (qR none h)) (hdp : 1 ≤ d) (hn : as.length = n) (hst : as.reverse ++ vR b :: st = st0) (hw : jW st ≤ 8) (kr : G E d bc bs M (pc + 3) ls st h Q) : G E d bc bs M pc ls st0 h Q :=
  g_callI iv me hd hC hdp hn hst hw (Nat.zero_le _) (Nat.zero_le _) (fun C x h' q => by cases q.1) (fun r h' q => by
    obtain ⟨e1, e2⟩ := q
    cases e1
    subst e2
    exact kr)
theorem n_init {b : jN} {o : jO} (iv : jII M.1.cls i M'.1 n) (me : jMe M') (hd : decode M.2.1 pc = .ok (.invokespecial i, 3)) (hC : Ct E (d - 1) 0 0 M' (vR b :: as) h (iP h b o)) (hdp : 1 ≤ d) (hn : as.length = n) (hst : as.reverse ++ vR b :: st = st0) (hw : jW st ≤ 8) (kk : ∀ h', h' b = some o → (∀ y, y ≠ b → h' y = h y) → G E d bc bs M (pc + 3) ls st h' Q) : G E d bc bs M pc ls st0 h Q :=
  g_callI iv me hd hC hdp hn hst hw (Nat.zero_le _) (Nat.zero_le _) (fun C x h' q => by cases q.1) (fun r h' q => by
    obtain ⟨e1, e2, e3⟩ := q
    cases e1
    exact kk h' e2 e3)
theorem n_put {ci k : Nat} {t0 : FieldType} {x : jN} {fs fs' : List jV} {v : jV} (fl : jFw M.1.cls i ci k t0) (hd : decode M.2.1 pc = .ok (.putfield i, 3)) (hx : h x = some (oO ci fs)) (hk' : k < fs.length) (hro : x.1 ≠ 0) (hf : j_fit t0 v) (he : fs.set k v = fs') (kk : ∀ h', h' x = some (oO ci fs') → (∀ y, y ≠ x → h' y = h y) → G E d bc bs M (pc + 3) ls st h' Q) : G E d bc bs M pc ls (v :: vR x :: st) h Q :=
  g_putfield fl hd hx hk' hro hf he (kk _ hs_same (fun _ hy => hs_ne hy))
theorem n_putF {ci k : Nat} {t0 : FieldType} {x : jN} {fs fs' : List jV} {v : jV} (fl : jFf M.1.cls i ci k t0) (hd : decode M.2.1 pc = .ok (.putfield i, 3)) (hx : h x = some (oO ci fs)) (hk' : k < fs.length) (hro : x.1 ≠ 0) (hf : j_fit t0 v) (hnm : M.1.name = "<init>") (he : fs.set k v = fs') (kk : ∀ h', h' x = some (oO ci fs') → (∀ y, y ≠ x → h' y = h y) → G E d bc bs M (pc + 3) ls st h' Q) : G E d bc bs M pc ls (v :: vR x :: st) h Q :=
  g_putfinal fl hd hx hk' hro hf hnm he (kk _ hs_same (fun _ hy => hs_ne hy))
theorem n_arrI {v : Int32} {N : Nat} (kd : Nat) (hd : decode M.2.1 pc = .ok (.newarray .int, 2)) (hn : v = nI N) (hN : N ≤ 100000) (h1 : 1 ≤ bc) (h2 : N ≤ bs)
    (kk : ∀ (a : Nat) (h' : jH), h' (kd, a) = some (iA N (fun _ => 0)) → (∀ k, h (k, a) = none) → (∀ y, y ≠ (kd, a) → h' y = h y) → G E d (bc - 1) (bs - N) M (pc + 2) ls (vR (kd, a) :: st) h' Q) : G E d bc bs M pc ls (vI v :: st) h Q :=
  g_newarray (ty := .int) (t := 0) (v0 := vI 0) kd rfl rfl (fun _ _ => rfl) q255 rfl hd hn (by show N * 4 ≤ 536870912; omega) (by omega) h1 h2 (fun a n9 => kk a _ hs_same n9 (fun _ hy => hs_ne hy))
theorem n_arrB {v : Int32} {N : Nat} (kd : Nat) (hd : decode M.2.1 pc = .ok (.newarray .byte, 2)) (hn : v = nI N) (hN : N ≤ 100000) (h1 : 1 ≤ bc) (h2 : N ≤ bs)
    (kk : ∀ (a : Nat) (h' : jH), h' (kd, a) = some (bA N (fun _ => 0)) → (∀ k, h (k, a) = none) → (∀ y, y ≠ (kd, a) → h' y = h y) → G E d (bc - 1) (bs - N) M (pc + 2) ls (vR (kd, a) :: st) h' Q) : G E d bc bs M pc ls (vI v :: st) h Q :=
  g_newarray (ty := .byte) (t := 1) (v0 := vI 0) kd rfl rfl (fun _ _ => rfl) q256 rfl hd hn (by show N * 1 ≤ 536870912; omega) (by omega) h1 h2 (fun a n9 => kk a _ hs_same n9 (fun _ hy => hs_ne hy))
theorem n_arrL {v : Int32} {N : Nat} (kd : Nat) (hd : decode M.2.1 pc = .ok (.newarray .long, 2)) (hn : v = nI N) (hN : N ≤ 100000) (h1 : 1 ≤ bc) (h2 : N ≤ bs)
    (kk : ∀ (a : Nat) (h' : jH), h' (kd, a) = some (lA N (fun _ => 0)) → (∀ k, h (k, a) = none) → (∀ y, y ≠ (kd, a) → h' y = h y) → G E d (bc - 1) (bs - N) M (pc + 2) ls (vR (kd, a) :: st) h' Q) : G E d bc bs M pc ls (vI v :: st) h Q :=
  g_newarray (ty := .long) (t := 2) (v0 := vL 0) kd rfl rfl (fun _ _ => rfl) q2576 rfl hd hn (by show N * 8 ≤ 536870912; omega) (by omega) h1 h2 (fun a n9 => kk a _ hs_same n9 (fun _ hy => hs_ne hy))
theorem n_arrR {C : String} {v : Int32} {t N : Nat} (kd : Nat) (ht : gAt[t]? = some (.object C)) (hl : Cond.classLink M.1.cls i C ∈ lw_all) (hov : Cond.arrayOver (.object C) ∈ lw_tbl) (hd : decode M.2.1 pc = .ok (.anewarray i, 3)) (hn : v = nI N) (hN : N ≤ 100000) (h1 : 1 ≤ bc) (h2 : N ≤ bs)
    (kk : ∀ (a : Nat) (h' : jH), h' (kd, a) = some (rA t N (fun _ => none)) → (∀ k, h (k, a) = none) → (∀ y, y ≠ (kd, a) → h' y = h y) → G E d (bc - 1) (bs - N) M (pc + 3) ls (vR (kd, a) :: st) h' Q) : G E d bc bs M pc ls (vI v :: st) h Q :=
  g_anewarray kd ht hl hov hd hn (by omega) h1 h2 (fun a n9 => kk a _ hs_same n9 (fun _ hy => hs_ne hy))
theorem n_new {ci : Nat} {C : String} {T : u_T} {N : Nat} {ty : Nat → FieldType} {fs : List jV} (kd : Nat) (hcl : jCls ci C T N ty) (hl : Cond.classLink M.1.cls i C ∈ lw_all) (hi : Cond.instantiable C N ∈ lw_all) (hn : Cond.initialized C ∈ lw_all) (hd : decode M.2.1 pc = .ok (.new i, 3)) (hfs : ∀ j, j < N → defaultValue (ty j) = j_v (fs.getD j vN)) (h1 : 1 ≤ bc) (h2 : N ≤ bs)
    (kk : ∀ (a : Nat) (h' : jH), h' (kd, a) = some (oO ci fs) → (∀ k, h (k, a) = none) → (∀ y, y ≠ (kd, a) → h' y = h y) → G E d (bc - 1) (bs - N) M (pc + 3) ls (vR (kd, a) :: st) h' Q) : G E d bc bs M pc ls st h Q :=
  g_new kd hcl hl hi hn hd hfs h1 h2 (fun a n9 => kk a _ hs_same n9 (fun _ hy => hs_ne hy))
/-- a row of ints told in other words -/
theorem g_same {x : jN} {N : Nat} {f f' : Nat → Int32} (hx : h x = some (iA N f)) (e : ∀ j, j < N → f j = f' j) (k : G E d bc bs M pc ls st (hs h x (iA N f')) Q) : G E d bc bs M pc ls st h Q := by
  intro p e9 s m args below meth c R H locs cells slots A F r z l lo hc hs
  refine k p e9 s m args below meth c R H locs cells slots A F (r.less hx ?_) z l lo hc hs
  have h1 : H[x.2]? = some (arrV (eA E 0) N (fun j => j_v (vI (f j)))) := r.1 _ _ hx
  show H[x.2]? = some (arrV (eA E 0) N (fun j => j_v (vI (f' j))))
  rw [h1, arr_cong (fun j hj => by rw [e j hj])]
theorem n_same {x : jN} {N : Nat} {f f' : Nat → Int32} (hx : h x = some (iA N f)) (e : ∀ j, j < N → f j = f' j) (kk : ∀ h', h' x = some (iA N f') → (∀ y, y ≠ x → h' y = h y) → G E d bc bs M pc ls st h' Q) : G E d bc bs M pc ls st h Q :=
  g_same hx e (kk _ hs_same (fun _ hy => hs_ne hy))
theorem n_ast {x : jN} {v y : Int32} {j N : Nat} {f : Nat → Int32} (hd : decode M.2.1 pc = .ok (.iastore, 1)) (hx : h x = some (iA N f)) (hro : x.1 ≠ 0) (hi : v = nI j) (hj : j < N) (hn : N < 2 ^ 31) (kk : ∀ h', h' x = some (iA N (j_up f j y)) → (∀ y, y ≠ x → h' y = h y) → G E d bc bs M (pc + 1) ls st h' Q) : G E d bc bs M pc ls (vI y :: vI v :: vR x :: st) h Q :=
  g_iastore hd hx hro hi hj hn (kk _ hs_same (fun _ hy => hs_ne hy))
/-- a reference to an object of the rows' own class -/
theorem g_aastoreS {x y : jN} {v : Int32} {t j N ci : Nat} {C : String} {Tc : u_T} {Nc : Nat} {fs : List jV} {f : Nat → Option jN} (ht : gAt[t]? = some (.object C)) (hcl : gCl[ci]? = some (C, Tc, Nc)) (hd : decode M.2.1 pc = .ok (.aastore, 1)) (hx : h x = some (rA t N f)) (hy : h y = some (oO ci fs)) (hro : x.1 ≠ 0) (hi : v = nI j) (hj : j < N) (hn : N < 2 ^ 31) (k : G E d bc bs M (pc + 1) ls st (hs h x (rA t N (j_up f j (some y)))) Q) : G E d bc bs M pc ls (vR y :: vI v :: vR x :: st) h Q := by
  intro p e s m args below meth c R H locs cells slots A F r z l lo hc hs
  have q := j_in hi hj hn (eA E t) (fun j => j_v (vQ (f j)))
  obtain ⟨r', hr', cellV, g1, g2, g3, -⟩ := r.1 _ _ hy
  have hcls := (j_kn F.1 F.2.1 hcl).2
  obtain ⟨kA, comp, k1, k2, k3, -⟩ := (j_ar F.1 F.2.1 ht).2
  obtain ⟨kC, hkC, -⟩ := hcls.2
  have hcb : comp = eC E ci := Option.some.inj (k3.symm.trans hcls.1)
  subst hcb
  refine W.aast F.2.2.1 F.2.2.2.1 (r.1 _ _ hx) (fun q h => by cases h) (fun h => by cases h) k1 k2 rfl hkC ⟨fun w => q.1 (Or.inl w), by rw [q.2, arrV_size]; exact hj⟩ g1 (fun q h => by rw [g3] at h; cases h) (by rw [g2]; exact hkC) (by rw [g2]; exact va_asg _ _) rfl rfl hd fun H' e1 e2 e3 => ?_
  refine k p e s m args below meth c R H' _ cells slots A F (r.set hro hx ?_ e3) (by rw [e2]; exact z) l ?_ hc hs
  · show H'[x.2]? = some (arrV _ _ _)
    rw [e1, q.2, arrV_store]
    rw [show (Value.ref y.2) = j_v (vQ (some y)) from rfl, j_upv (fun j => vQ (f j)), j_upQ]
  · intro q hq
    rcases List.mem_append.mp hq with hq | hq
    · exact lo q hq
    · rw [List.mem_singleton.mp hq]
      exact r.2.2.1 _ _ hx hro
theorem n_list {b : jN} {kd N : Nat} {o : jO} (iv : jII M.1.cls i M'.1 n) (me : jMe M') (hd : decode M.2.1 pc = .ok (.invokespecial i, 3)) (hC : Ct E (d - 1) 1 N M' (vR b :: as) h (fun r h' => r = .inl none ∧ ∃ e : Nat, h' b = some (oO 33 [vI 0, vR (kd, e), vI 0]) ∧ h' (kd, e) = some o ∧ (∀ k, h (k, e) = none) ∧ ∀ y, y ≠ b → y ≠ (kd, e) → h' y = h y)) (hdp : 1 ≤ d) (hn : as.length = n) (hst : as.reverse ++ vR b :: st = st0) (hw : jW st ≤ 8) (h1 : 1 ≤ bc) (h2 : N ≤ bs)
    (kk : ∀ (e : Nat) (h' : jH), h' b = some (oO 33 [vI 0, vR (kd, e), vI 0]) → h' (kd, e) = some o → (∀ k, h (k, e) = none) → (∀ y, y ≠ b → y ≠ (kd, e) → h' y = h y) → G E d (bc - 1) (bs - N) M (pc + 3) ls st h' Q) : G E d bc bs M pc ls st0 h Q :=
  g_callI iv me hd hC hdp hn hst hw h1 h2 (fun C x h' q => by cases q.1) (fun r h' q => by
    obtain ⟨e1, e, e2, e3, e4, e5⟩ := q
    cases e1
    exact kk e h' e2 e3 e4 e5)
/-- Object's constructor, and back -/
theorem g_obj {x : jN} (hl : Cond.methodLink M.1.cls i Lib.objectInit ∈ lw_all) (hd : decode M.2.1 pc = .ok (.invokespecial i, 3)) (hdp : 1 ≤ d) (hw : jW st ≤ 8) (k : G E d bc bs M (pc + 3) ls st h Q) : G E d bc bs M pc ls (vR x :: st) h Q := by
  intro p e s m args below meth c R H locs cells slots A F r z l lo hc hs
  have hR1 := F.2.2.2.2.2.2.2.2.2.2.2.1
  have hR2 := F.2.2.2.2.2.2.2.2.2.2.2.2.1
  refine W.objInit (g := F0 m pc A (j_v (vR x) :: st.map j_v)) (a := x.2) (rest := st.map j_v) F.2.2.1 F.2.2.2.1 F.2.2.2.2.2.2.2.1 (j_w F.1 F.2.1 hl args) (j_w F.1 F.2.1 q159 args) (j_w F.1 F.2.1 q160 args) rfl (l.1.trans F.2.2.2.2.2.2.1.symm) rfl hd (by omega) (Nat.le_trans (Nat.add_le_add_right (lv_room (by rw [jW_eq]; exact hw)) 12) (by omega)) (k p e s m args below meth c R H locs cells slots A F r z l lo hc hs)
end
