/-! CORE, second half: old things, catches, casts, exceptions made, copies -/
set_option maxRecDepth 100000
theorem ct_mono {E : jE} {d bc bs : Nat} {M : jM} {as : List jV} {h : jH} {Q Q' : jR → jH → Prop} (hq : ∀ r h', Q r h' → Q' r h') (k : Ct E d bc bs M as h Q) : Ct E d bc bs M as h Q' := by
  intro K p e a1 a2 a3 s m args below b1 b2 b3 b4
  obtain ⟨n, o, c1, c2, c3, c4⟩ := k K p e a1 a2 a3 s m args below b1 b2 b3 b4
  refine ⟨n, o, c1, c2, c3, ?_⟩
  rcases c4 with ⟨r, h, L, q1, q2⟩ | ⟨C, x, h, ce, L, q1, q2⟩
  · exact Or.inl ⟨r, h, L, hq _ _ q1, q2⟩
  · exact Or.inr ⟨C, x, h, ce, L, hq _ _ q1, q2⟩
/-- where new things lie -/
def eN (E : jE) : Nat → Prop := fun q => (eS E).heap.size ≤ q
theorem j_keep {E : jE} {h : jH} {H : Heap} (r : jRel E h H) : ∀ a : Nat, a < (eS E).heap.size → ¬ eN E a → H[a]? = (eS E).heap[a]? := fun a ha _ => r.2.2.2 a ha
theorem eN_old {E : jE} : ∀ a : Nat, a < (eS E).heap.size → ¬ eN E a := fun a ha q => absurd ha (Nat.not_lt.mpr q)
/-- a leaf of the premises, by its path -/
def nwAt : Cond → List Bool → Cond
  | .and a _, false :: r => nwAt a r
  | .and _ b, true :: r => nwAt b r
  | c, _ => c
theorem nw_at {args : Array Value} {s : State} : ∀ (pa : List Bool) (c : Cond), c.before args s = true → (nwAt c pa).before args s = true
  | [], c, h => by cases c <;> exact h
  | b :: r, c, h => by
    cases c with
    | and x y =>
      rw [Cond.before_and, Bool.and_eq_true] at h
      cases b with
      | false => exact nw_at r x h.1
      | true => exact nw_at r y h.2
    | _ => cases b <;> exact h
theorem nw_of {E : jE} (K : jOK E) (pa : List Bool) {w : Cond} (hw : nwAt narrow_1 pa = w) : w.before #[Value.ref (eB E)] (eS E) = true := by
  subst hw
  have h := K.2.2.1
  rw [Cond.before_and, Bool.and_eq_true] at h
  exact nw_at pa narrow_1 h.2
section
variable {E : jE} {d bc bs : Nat} {M : jM} {pc : Nat} {ls : List (Option jV)} {st : List jV} {h : jH} {Q : jR → jH → Prop}
/-- a new thing lies behind the old ones -/
theorem g_new2 {x : jN} {o : jO} (hx : h x = some o) (hr : x.1 ≠ 0) (k : (eS E).heap.size ≤ x.2 → G E d bc bs M pc ls st h Q) : G E d bc bs M pc ls st h Q := by
  intro p e s m args below meth c R H locs cells slots A F r z l lo hc hs
  exact k (r.2.2.1 _ _ hx hr) p e s m args below meth c R H locs cells slots A F r z l lo hc hs
/-- two names of one address are one name -/
theorem g_inj {x y : jN} {o o' : jO} (hx : h x = some o) (hy : h y = some o') (k : (x.2 = y.2 → x = y) → G E d bc bs M pc ls st h Q) : G E d bc bs M pc ls st h Q := by
  intro p e s m args below meth c R H locs cells slots A F r z l lo hc hs
  exact k (r.2.1 _ _ _ _ hx hy) p e s m args below meth c R H locs cells slots A F r z l lo hc hs
/-- what the start says -/
theorem g_ok (k : jOK E → G E d bc bs M pc ls st h Q) : G E d bc bs M pc ls st h Q := by
  intro p e s m args below meth c R H locs cells slots A F
  exact k F.1 p e s m args below meth c R H locs cells slots A F
theorem gx_mono {C : String} {x : jN} {Q' : jR → jH → Prop} (hq : ∀ r h, Q r h → Q' r h) (k : GX E d bc bs M pc ls h C x Q) : GX E d bc bs M pc ls h C x Q' := by
  intro p e s m args below meth c R H locs cells slots A rest ce F r z l lo hc hs hce hcv hcl T hT X
  obtain ⟨t, a1, o, b1, b2, b3⟩ := k p e s m args below meth c R H locs cells slots A rest ce F r z l lo hc hs hce hcv hcl T hT X
  refine ⟨t, a1, o, b1, b2, ?_⟩
  rcases b3 with ⟨r, h, L, q1, q2⟩ | ⟨C, x, h, ce, L, q1, q2⟩
  · exact Or.inl ⟨r, h, L, hq _ _ q1, q2⟩
  · exact Or.inr ⟨C, x, h, ce, L, hq _ _ q1, q2⟩
/-- the handler y, behind those in pre that pass -/
theorem gx_catch {C nm : String} {x : jN} (pre : List (Nat × Nat × Nat × Nat)) (y : Nat × Nat × Nat × Nat) (suf : List (Nat × Nat × Nat × Nat)) (hsp : M.2.2.2.2 = pre ++ y :: suf)
    (hpass : jOK E → ∀ z ∈ tableOf pre, covers z pc = false ∨ (z.catchType ≠ 0 ∧ ∃ nm : String, Cond.classLink M.1.cls z.catchType nm ∈ lw_all ∧ va_Nc C nm (eS E)))
    (hy : covers (⟨y.1, y.2.1, y.2.2.1, y.2.2.2⟩ : ExceptionTableEntry) pc = true) (h0 : y.2.2.2 ≠ 0) (hl : Cond.classLink M.1.cls y.2.2.2 nm ∈ lw_all) (hcast : Cond.castable C nm ∈ lw_tbl)
    (k : G E d bc bs M y.2.2.1 ls [vR x] h Q) : GX E d bc bs M pc ls h C x Q := by
  intro p e s m args below meth c R H locs cells slots A rest ce F r z l lo hc hs hce hcv hcl
  refine vx_catch (ce := ce) F.2.2.2.2.2.2.2.1 (tableOf pre) ⟨y.1, y.2.1, y.2.2.1, y.2.2.2⟩ (tableOf suf) ?_ ?_ hy h0 (j_w F.1 F.2.1 hl args) (va_Nw.use rfl (va_Nw.warmC F.2.1 (va_Nw.of rfl (F.1.2.1 _ hcast)))) hce hcv hcl (k p e s m args below meth c R H locs cells slots A F r z l lo hc hs)
  · rw [F.2.2.2.2.2.2.2.2.2.1, hsp]
    simp [tableOf]
  · intro w hw
    rcases hpass F.1 w hw with q | ⟨q, n9, q1, q2⟩
    · exact Or.inl q
    · exact Or.inr ⟨q, n9, j_w F.1 F.2.1 q1 args, va_Nc.moved F.2.1.alike q2⟩
/-- statics -/
theorem g_getstatic {i : Nat} {C n ds ref : String} {v : jV} (hl : Cond.fieldLink M.1.cls i ref n ds ∈ lw_all) (hsm : ref = C ∨ Cond.sameField ref C n ds ∈ lw_all) (hZ : jOK E → va_Z C n ds (j_v v) (eN E) (eS E) (eS E).heap) (hd : decode M.2.1 pc = .ok (.getstatic i, 3)) (k : G E d bc bs M (pc + 3) ls (v :: st) h Q) : G E d bc bs M pc ls st h Q := by
  intro p e s m args below meth c R H locs cells slots A F r z l lo hc hs
  have hts : ∀ w ∈ lw_all, w.before args s = true := fun w hw => j_w F.1 F.2.1 hw args
  obtain ⟨cf, kf, fi, f, a, cell, h1, h2, h3, h4, h5, h6, h7, h8⟩ := va_Z.kept (va_Z.moved F.2.1.alike (hZ F.1)) (j_keep r)
  exact W.gets F.2.2.1 F.2.2.2.1 F.2.2.2.2.2.2.2.1 (hts _ hl) (j_same hsm hts _ h1) h2 h3 h4 h5 (fun q => by rw [q] at h6; cases h6) h7 rfl hd (k p e s m args below meth c R H locs cells slots A F r z l lo hc hs)
theorem g_getstaticQ {i : Nat} {C n ds ref : String} (hl : Cond.fieldLink M.1.cls i ref n ds ∈ lw_all) (hsm : ref = C ∨ Cond.sameField ref C n ds ∈ lw_all) (hZ : jOK E → va_Zq C n ds (eN E) (eS E) (eS E).heap) (hd : decode M.2.1 pc = .ok (.getstatic i, 3)) (k : ∀ o : Option jN, G E d bc bs M (pc + 3) ls (vQ o :: st) h Q) : G E d bc bs M pc ls st h Q := by
  refine g_ok (fun K => ?_)
  rcases hZ K with q | ⟨t, q⟩
  · exact g_getstatic (v := vN) hl hsm (fun _ => q) hd (k none)
  · exact g_getstatic (v := vR (0, t)) hl hsm (fun _ => q) hd (k (some (0, t)))
/-- casts that hold -/
theorem j_rcv {x : jN} {ci : Nat} {C : String} {T0 : u_T} {N0 : Nat} {fs : List jV} {H : Heap} {s : State} (K : jOK E) (hW : (eS E).WarmedH s.vm) (r : jRel E h H) (hcl : gCl[ci]? = some (C, T0, N0)) (hx : h x = some (oO ci fs)) : ∃ cell : Cell, H[x.2]? = some cell ∧ cell.vm.isStatics = false ∧ s.vm.findClass C = some cell.cls := by
  obtain ⟨q', g0, cell, g1, g2, g3, -⟩ := r.1 _ _ hx
  exact ⟨cell, g1, by rw [g3]; rfl, by rw [g2]; exact (j_kn K hW hcl).2.1⟩
theorem g_castE {x : jN} {i ci : Nat} {C : String} {T0 : u_T} {N0 : Nat} {fs : List jV} (hcl : gCl[ci]? = some (C, T0, N0)) (hl : Cond.classLink M.1.cls i C ∈ lw_all) (hd : decode M.2.1 pc = .ok (.checkcast i, 3)) (hx : h x = some (oO ci fs)) (k : G E d bc bs M (pc + 3) ls (vR x :: st) h Q) : G E d bc bs M pc ls (vR x :: st) h Q := by
  intro p e s m args below meth c R H locs cells slots A F r z l lo hc hs
  exact va_castE F.2.2.1 F.2.2.2.1 F.2.2.2.2.2.2.2.1 (j_w F.1 F.2.1 hl args) (j_rcv F.1 F.2.1 r hcl hx) hd (k p e s m args below meth c R H locs cells slots A F r z l lo hc hs)
theorem g_castY {x : jN} {i ci : Nat} {C nm : String} {T0 : u_T} {N0 : Nat} {fs : List jV} (hcl : gCl[ci]? = some (C, T0, N0)) (hl : Cond.classLink M.1.cls i nm ∈ lw_all) (hcast : Cond.castable C nm ∈ lw_tbl) (hd : decode M.2.1 pc = .ok (.checkcast i, 3)) (hx : h x = some (oO ci fs)) (k : G E d bc bs M (pc + 3) ls (vR x :: st) h Q) : G E d bc bs M pc ls (vR x :: st) h Q := by
  intro p e s m args below meth c R H locs cells slots A F r z l lo hc hs
  exact va_castY F.2.2.1 F.2.2.2.1 F.2.2.2.2.2.2.2.1 (j_w F.1 F.2.1 hl args) (va_Nw.warmC F.2.1 (va_Nw.of rfl (F.1.2.1 _ hcast))) (j_rcv F.1 F.2.1 r hcl hx) hd (k p e s m args below meth c R H locs cells slots A F r z l lo hc hs)
/-- System.arraycopy between rows of one kind -/
theorem g_arraycopy {x y : jN} {i t n0 n1 : Nat} {ty : FieldType} {f g : Nat → jV} {sp dp n : Int32} {a b len : Nat} (ht : gAt[t]? = some ty) (hl : Cond.methodLink M.1.cls i arraycopyName ∈ lw_all) (hnat : Cond.native arraycopyName ∈ lw_all) (hstt : Cond.static arraycopyName ∈ lw_all) (hini : Cond.initialized "java/lang/System" ∈ lw_all)
    (hd : decode M.2.1 pc = .ok (.invokestatic i, 3)) (hx : h x = some (oA t n0 f)) (hy : h y = some (oA t n1 g)) (hro : y.1 ≠ 0) (h1 : sp = nI a) (h2 : dp = nI b) (h3 : n = nI len) (h4 : a + len ≤ n0) (h5 : b + len ≤ n1) (hn : n0 < 2 ^ 31) (hn1 : n1 < 2 ^ 31)
    (hv : ∀ j, j < len → fits ty (j_v (f (a + j))) = true ∧ (match f (a + j) with
      | .inr (.inr (some q)) => ∃ (ci : Nat) (C B : String) (T0 : u_T) (N0 : Nat) (fs : List jV), h q = some (oO ci fs) ∧ gCl[ci]? = some (C, T0, N0) ∧ ty = .object B ∧ Cond.castable C B ∈ lw_tbl
      | _ => True)) (hdp : 2 ≤ d) (hw : jW st ≤ 8)
    (k : G E d bc bs M (pc + 3) ls st (hs h y (oA t n1 (va_cpy f g a b len))) Q) : G E d bc bs M pc ls (vI n :: vI dp :: vR y :: vI sp :: vR x :: st) h Q := by
  subst h1
  subst h2
  subst h3
  intro p e s m args below meth c R H locs cells slots A F r z l lo hc hs T hT X
  have hR1 := F.2.2.2.2.2.2.2.2.2.2.2.1
  have hR2 := F.2.2.2.2.2.2.2.2.2.2.2.2.1
  have hts : ∀ w ∈ lw_all, w.before args s = true := fun w hw => j_w F.1 F.2.1 hw args
  have hc0 : H[x.2]? = some (arrV (eA E t) n0 (fun j => j_v (f j))) := r.1 _ _ hx
  have hc1 : H[y.2]? = some (arrV (eA E t) n1 (fun j => j_v (g j))) := r.1 _ _ hy
  obtain ⟨-, k0, hk0, cm0, hkk0⟩ := (j_ar F.1 F.2.1 ht).1 n0 (fun j => j_v (f j))
  obtain ⟨-, k1, hk1, cm1, hkk1⟩ := (j_ar F.1 F.2.1 ht).1 n1 (fun j => j_v (g j))
  have ca : (nI a).toNatClampNeg = a := nI_clamp (by omega)
  have cb : (nI b).toNatClampNeg = b := nI_clamp (by omega)
  have cl : (nI len).toNatClampNeg = len := nI_clamp (by omega)
  obtain ⟨vm', X', step⟩ := X.arraycopy F.2.2.1 F.2.2.2.2.2.2.2.1 (hts _ hl) (hts _ hnat) (hts _ hstt) (hts _ hini) (src := x.2) (dst := y.2) (cs := arrV (eA E t) n0 (fun j => j_v (f j))) (cd := arrV (eA E t) n1 (fun j => j_v (g j))) (srcPos := nI a) (destPos := nI b) (n := nI len) (by rw [hT]; exact hc0) (by rw [hT]; exact hc1)
    (fun _ h => by cases h) (fun _ h => by cases h) (fun h => by cases h) (fun h => by cases h) hk0 hk1 hkk0 hkk1 (by simp) (nI_pos (by omega)) (nI_pos (by omega)) (nI_pos (by omega))
    (by rw [arrV_size, nI_toInt (by omega), nI_toInt (by omega)]; omega)
    (by rw [arrV_size, nI_toInt (by omega), nI_toInt (by omega)]; omega)
    (fun vm₁ hal j hj => by
      rw [cl] at hj
      rw [ca]
      have e : (arrV (eA E t) n0 (fun j => j_v (f j))).slots.getD (a + j) .null = j_v (f (a + j)) := by
        rw [Array.getD_eq_getD_getElem?, arrV_read _ _ (by omega)]
        rfl
      rw [e]
      obtain ⟨v1, v2⟩ := hv j hj
      refine ⟨v1, ?_⟩
      cases hf : f (a + j) with
      | inl u => exact trivial
      | inr u =>
        cases u with
        | inl u => exact trivial
        | inr u =>
          cases u with
          | none => exact trivial
          | some q =>
            rw [hf] at v2
            obtain ⟨ci, C, B, T0, N0, fs, v3, v4, v5, v6⟩ := v2
            subst v5
            obtain ⟨cellV, g1, g2, g3⟩ := j_rcv F.1 F.2.1 r v4 v3
            obtain ⟨kC, hkC, -⟩ := Vm.findClass_spec g3
            obtain ⟨kA, comp, r1, r2, r3, -⟩ := (j_ar F.1 F.2.1 ht).2
            have e9 := hk1.symm.trans r1
            cases e9
            have e8 := hkk1.symm.trans r2
            cases e8
            obtain ⟨kE, hkE, -⟩ := Vm.findClass_spec r3
            obtain ⟨kC', hkC', -⟩ := hal.2.2 _ _ hkC
            obtain ⟨kE', hkE', -⟩ := hal.2.2 _ _ hkE
            obtain ⟨c3, c4, hc3, hc4, hasg⟩ := Cond.castable_spec (va_Nw.use (A := args) rfl (va_Nw.warmC F.2.1 (va_Nw.of rfl (F.1.2.1 _ v6))))
            refine ⟨cellV, (show T.heap[q.2]? = some cellV by rw [hT]; exact g1), (fun q h => by rw [h] at g2; cases g2), ⟨kC', hkC'⟩, ⟨kE', hkE'⟩, ?_⟩
            show vm₁.assignable _ _ = true
            rw [hal.assignable]
            have e7 : c3 = cellV.cls := Option.some.inj (hc3.symm.trans g3)
            have e6 : c4 = cm1 := Option.some.inj (hc4.symm.trans r3)
            rw [← e7, ← e6]
            exact hasg)
    (g := F0 m pc A (.int (nI len) :: .int (nI b) :: .ref y.2 :: .int (nI a) :: .ref x.2 :: st.map j_v)) rfl (l.1.trans F.2.2.2.2.2.2.1.symm) (rest := st.map j_v) rfl (by rw [F.2.2.2.1]; exact hd) (by omega) (by
      have := jW_eq st
      have hnf : nativeFrameWords "java/lang/System" "arraycopy" 5 ≤ 20 := by decide
      show 2 * 0 + _ + _ ≤ _
      omega)
  have e1 : copied (arrV (eA E t) n0 (fun j => j_v (f j))) (arrV (eA E t) n1 (fun j => j_v (g j))) (nI a) (nI b) (nI len) = arrV (eA E t) n1 (fun j => j_v (va_cpy f g a b len j)) := by
    have q := va_copied (fun z => j_v z) (eA E t) (eA E t) (n0 := n0) (n1 := n1) (sp := a) (dp := b) (n := len) f g h4
    unfold copied
    rw [ca, cb, cl]
    exact q
  rw [e1] at X' step
  have hl9 : y.2 < H.size := (Array.getElem?_eq_some_iff.mp hc1).1
  have oq : ∀ q : Nat, q ≠ y.2 → (H.setIfInBounds y.2 (arrV (eA E t) n1 (fun j => j_v (va_cpy f g a b len j))))[q]? = H[q]? := fun q hq => by simp [Array.getElem?_setIfInBounds, Ne.symm hq]
  have hheap : ((T.setVm vm').setCell y.2 (arrV (eA E t) n1 (fun j => j_v (va_cpy f g a b len j)))).heap = H.setIfInBounds y.2 (arrV (eA E t) n1 (fun j => j_v (va_cpy f g a b len j))) := by rw [← hT]; rfl
  obtain ⟨t9, a1, b1⟩ := k p e s m args below meth c R _ _ cells slots A F (r.set hro hy (show (H.setIfInBounds y.2 _)[y.2]? = some _ by simp [Array.getElem?_setIfInBounds, hl9]) oq) (by simp; exact z) l (fun q hq => by
      rcases List.mem_append.mp hq with h9 | h9
      · exact lo q h9
      · obtain ⟨w, -, hw9⟩ := List.mem_map.mp h9
        rw [← hw9]
        exact r.2.2.1 _ _ hy hro) hc hs _ hheap X'
  exact ⟨t9, step t9 a1, b1⟩
end
section
variable {p : Program} {l : Launch} {e : Env} {R : Room} {s : State} {m : MethodId} {args : Array Value} {below : List Frame} {meth : Method} {c : Code} {H : Heap} {locs : List Loc} {cells slots : Nat} {Q : State → Prop}
/-- 'new X()' of an exception's class, after vx_make0 of EXCEPTIONS.to-paste: what is old stays -/
theorem jx_make0 {cc : ByteArray} {pc : Nat} (hexec : p.tables.exec = Jvm.exec) (hb : c.code = cc) (hl : l.stackTraces = false) {own cls : String} {names : List String} {ik ic : Nat} {A : Nat → Prop} {ls : Array Slot} {rest : List Value}
    (hown : s.vm.findClass own = some m.cls) (hcls : Bundle.fit cls = true) (hnames : ∀ n ∈ names, Bundle.fit n = true)
    (hk : (Cond.classLink own ik cls).before args s = true) (hini : (Cond.initialized cls).before args s = true) (hat : ∀ w ∈ vx_at0 own ic cls names, w.before args s = true)
    (hgood : ∀ w ∈ Cond.classLink own ik cls :: Cond.initialized cls :: vx_at0 own ic cls names, vx_ot w = true)
    (hU : vx_Zq Bundle.tN "UNASSIGNED_STACK" Bundle.steD A s H) (hN : vx_Zq Bundle.tN "SUPPRESSED_SENTINEL" Bundle.listD A s H) (hsize : ls.size = c.maxLocals)
    (d0 : decode cc pc = .ok (.new ik, 3)) (d3 : decode cc (pc + 3) = .ok (.dup, 1)) (d4 : decode cc (pc + 4) = .ok (.invokespecial ic, 3))
    (hRframes : names.length + 3 < R.frames) (hRlocals : (rest.map fun v => v.category).sum + (13 * (names.length + 1) + 42) ≤ R.locals) (hRcells : cells + 1 ≤ R.cells) (hRslots : slots + 6 ≤ R.slots)
    (kk : ∀ (H1 : Heap) (ce : Cell), H1[H.size]? = some ce → ce.vm = .none → s.vm.findClass cls = some ce.cls → (∀ q : Nat, q < H.size → H1[q]? = H[q]?) → H.size ≤ H1.size → W p l e R s m args below meth c H1 locs (cells + 1) (slots + 6) Q (F0 m (pc + 7) ls (.ref H.size :: rest))) :
    W p l e R s m args below meth c H locs cells slots Q (F0 m pc ls rest) := by
  intro T hT X
  subst hT
  have htr : e.platform.stackTraces = false := (show e.platform.stackTraces = l.stackTraces by rw [X.admits.platform]).trans hl
  have Y := vx_rebase X (R' := { frames := R.frames, locals := R.locals, cells := 1, slots := 6 }) (Nat.le_refl _) (Nat.le_refl _) hRcells hRslots
  obtain ⟨s', hA'⟩ : ∃ z, z = (T.setVm s.vm).setFrames (.invoking m args :: below) := ⟨_, rfl⟩
  rw [← hA'] at Y
  have hvm : s'.vm = s.vm := by rw [hA']; rfl
  have hhp : s'.heap = T.heap := by rw [hA']; rfl
  have hW0 : s.WarmedH s'.vm := by rw [hvm]; exact State.WarmedH.refl s
  have hat' : ∀ w ∈ vx_at0 own ic cls names, w.before args s' = true := fun w hw => vx_ot_at hW0 hvm.symm (hgood w (List.mem_cons_of_mem _ (List.mem_cons_of_mem _ hw))) (hat w hw)
  have hk' : (Cond.classLink own ik cls).before args s' = true := vx_ot_at hW0 hvm.symm (hgood _ List.mem_cons_self) hk
  have hini' : (Cond.initialized cls).before args s' = true := vx_ot_at hW0 hvm.symm (hgood _ (List.mem_cons_of_mem _ List.mem_cons_self)) hini
  have hU' : vx_Zq Bundle.tN "UNASSIGNED_STACK" Bundle.steD A s' s'.heap := by rw [hhp]; exact vx_Zq.moved hW0.alike hU
  have hN' : vx_Zq Bundle.tN "SUPPRESSED_SENTINEL" Bundle.listD A s' s'.heap := by rw [hhp]; exact vx_Zq.moved hW0.alike hN
  have h : ∀ w ∈ Bundle.ownAtoms0 own ic cls names, w.before args s' = true := vx_own hat' (vx_isRefq hU'.1) (vx_isRefq hN'.1) hU'.2.word hN'.2.word
  have hown' : s'.vm.findClass own = some m.cls := by rw [hvm]; exact hown
  have hins : (Cond.instantiable cls 6).before args s' = true := h _ (by simp [Bundle.ownAtoms0])
  obtain ⟨vm₁, cX, kX, hfX, hkX, -, -, X₁, st1⟩ := Y.newCold hexec (own := own) (C := cls) (index := ik) (n := 6) hown' hk' hins hini'
    (g := F0 m pc ls rest) rfl (by rw [hb]; exact d0) (Nat.le_refl _) (Nat.le_refl _)
  generalize hT1 : (T.setVm vm₁).pushCell { cls := cX, slots := kX.instanceTypes.map defaultValue, vm := .none } = T1 at X₁ st1
  have hcat : (Value.ref T.heap.size).category = 1 := rfl
  have hcellA : T1.heap[T.heap.size]? = some (freshCell cX kX) := by rw [← hT1]; exact State.heap_pushCell_size _ _
  have d3' : decode c.code (pc + 3) = .ok (.dup, 1) := by rw [hb]; exact d3
  obtain ⟨V, ce, L, Z, hL, hlt, hcl9, hvm9, st⟩ := vx_ctorMade0 X₁ hexec htr (own := own) (cls := cls) (names := names) (ic := ic) hown' hcls hnames h (fun x hx => nomatch hx) hfX hkX hcellA (by rw [hhp]; exact Nat.le_refl _)
    (g := { method := m, pc := pc + 4, locals := ls, stack := .ref T.heap.size :: .ref T.heap.size :: rest, locked := none }) rfl hsize (rest := rest) rfl
    (by rw [hb]; exact d4) hRframes (by simp only [List.map_cons, List.sum_cons, hcat]; omega)
  have Z0 := Stand.forget (locs := []) Z (fun y hy => by rw [hL y hy, hhp]; exact Nat.le_refl _)
  obtain ⟨f1, f2⟩ := vx_frame Z0.same
  rw [hhp] at f1 f2
  rw [hvm] at hfX
  have hh : (V.setCell T.heap.size ce).heap[T.heap.size]? = some ce := heapAt_setCell_self (s := V) ce hlt
  subst hA'
  have X5 := vx_back9 X Y Z0
  have X6 : Stand p l e R s m args below meth c (V.setCell T.heap.size ce) locs (cells + 1) (slots + 6) := { X5 with same := X5.same.mono (by omega) (by omega) }
  obtain ⟨t, a1, b1⟩ := kk (V.setCell T.heap.size ce).heap ce hh hvm9 (by rw [hcl9]; exact hfX) (fun q hq => f2 q hq (fun z hz => nomatch hz)) f1 _ rfl X6
  refine ⟨t, st1 _ ?_, b1⟩
  show Steps p.tables e below (T1.setTop { method := m, pc := pc + 3, locals := ls, stack := .ref T.heap.size :: rest, locked := none }) _
  jvm_step X₁.here [X₁.here.top, hexec, d3', Value.category]
  exact st _ a1
end
theorem j_flags {l : Launch} (h : l.flags = flags0) : l.stackTraces = false := by
  unfold Launch.stackTraces
  rw [h]
  decide
section
variable {E : jE} {d bc bs : Nat} {M : jM} {pc : Nat} {ls : List (Option jV)} {st : List jV} {h : jH} {Q : jR → jH → Prop}
/-- a new exception without a text -/
theorem g_make0 {cls : String} {names : List String} {ik ic ci : Nat} {T0 : u_T} (kd : Nat) (hcl : gCl[ci]? = some (cls, T0, 0)) (hcls : Bundle.fit cls = true) (hnames : ∀ n ∈ names, Bundle.fit n = true) (hk : Cond.classLink M.1.cls ik cls ∈ lw_all) (hini : Cond.initialized cls ∈ lw_all) (hcs : Cond.castable cls cls ∈ lw_tbl)
    (hat : ∀ w ∈ (vx_at0 M.1.cls ic cls names).filter goodWord, w ∈ lw_all) (hat2 : ∀ w ∈ (vx_at0 M.1.cls ic cls names).filter (fun w => !goodWord w), w ∈ [Cond.castable cls cls]) (hgood : ∀ w ∈ Cond.classLink M.1.cls ik cls :: Cond.initialized cls :: vx_at0 M.1.cls ic cls names, vx_ot w = true)
    (hZ : jOK E → vx_Zq Bundle.tN "UNASSIGNED_STACK" Bundle.steD (eN E) (eS E) (eS E).heap ∧ vx_Zq Bundle.tN "SUPPRESSED_SENTINEL" Bundle.listD (eN E) (eS E) (eS E).heap)
    (d0 : decode M.2.1 pc = .ok (.new ik, 3)) (d3 : decode M.2.1 (pc + 3) = .ok (.dup, 1)) (d4 : decode M.2.1 (pc + 4) = .ok (.invokespecial ic, 3)) (hdp : names.length + 4 ≤ d) (hnl : names.length ≤ 3) (hw : jW st ≤ 8) (h1 : 1 ≤ bc) (h2 : 6 ≤ bs)
    (k : ∀ a, (∀ k, h (k, a) = none) → G E d (bc - 1) (bs - 6) M (pc + 7) ls (vR (kd, a) :: st) (hs h (kd, a) (oO ci [])) Q) : G E d bc bs M pc ls st h Q := by
  intro p e s m args below meth c R H locs cells slots A F r z l lo hc hs
  have hR1 := F.2.2.2.2.2.2.2.2.2.2.2.1
  have hR2 := F.2.2.2.2.2.2.2.2.2.2.2.2.1
  have hts : ∀ w ∈ lw_all, w.before args s = true := fun w hw => j_w F.1 F.2.1 hw args
  have hZ' := hZ F.1
  have hjw := jW_eq st
  refine jx_make0 (A := eN E) F.2.2.1 F.2.2.2.1 (j_flags F.1.1) F.2.2.2.2.2.2.2.1 hcls hnames (hts _ hk) (hts _ hini) (vx_hat (fun w hw => hts _ (hat w hw)) hat2 (vx_c (va_Nw.use rfl (va_Nw.warmC F.2.1 (va_Nw.of rfl (F.1.2.1 _ hcs)))) vx_n)) hgood
    (vx_Zq.kept (vx_Zq.moved F.2.1.alike hZ'.1) (j_keep r)) (vx_Zq.kept (vx_Zq.moved F.2.1.alike hZ'.2) (j_keep r)) (l.1.trans F.2.2.2.2.2.2.1.symm) d0 d3 d4 (by omega) (by omega) (by omega) (by omega) (fun H1 ce e1 e2 e3 e4 e5 => ?_)
  refine k H.size (fun k => r.fresh k) p e s m args below meth c R H1 locs (cells + 1) (slots + 6) A F (r.new kd z ⟨_, hcl, ce, e1, ?_, e2, fun k hk => absurd hk (Nat.not_lt_zero k)⟩ e4) (by omega) l lo (by omega) (by omega)
  exact Option.some.inj (e3.symm.trans (j_kn F.1 F.2.1 hcl).2.1)
end
