/-! CORE, third part: calls of the class above, its private methods, String constants and other old cells -/
set_option maxRecDepth 100000
def jSU (own : String) (idx : Nat) (y : MethodName) (n : Nat) : Prop :=
  ∀ (E : jE) (p : Program) (e : Env) (R : Room) (s : State) (m : MethodId) (args : Array Value) (below : List Frame) (meth : Method) (c : Code) (T : State) (locs : List Loc) (cells slots W9 : Nat) (Pre : Pt → Array Value → Prop) (Post : Pt → Array Value → Option Value → Pt → Prop) (PostX : Pt → Array Value → Addr → Pt → Prop) (b : Addr) (cellB : Cell) (kB : Class) (g : JFrame) (argsL rest : List Value),
    jOK E → (eS E).WarmedH s.vm → Stand p (eL E) e R s m args below meth c T locs cells slots → p.tables.exec = Jvm.exec → s.vm.findClass own = some m.cls → vx_Back (eL E) R p e below s args y 3 W9 Pre Post PostX →
    T.heap[b]? = some cellB → cellB.vm.isStatics = false → s.vm.classes[cellB.cls]? = some kB → g.method = m → g.locals.size = c.maxLocals → argsL.length = n → g.stack = argsL.reverse ++ .ref b :: rest → 2 * g.monitorRoom + (rest.map fun v => v.category).sum ≤ W9 → decode c.code g.pc = .ok (.invokespecial idx, 3) →
    (∀ vm₁, s.WarmedH vm₁ → Pre ⟨T.setVm vm₁, locs, cells, slots⟩ (Value.ref b :: argsL).toArray) → jTwo p (eL E) e R s m args below meth c T locs cells slots g rest (Value.ref b :: argsL).toArray Post PostX
theorem jsu_S {own : String} {idx n L : Nat} {y : MethodName} {b : ByteArray} {r : Option FieldType} (h1 : Cond.methodLink own idx y ∈ lw_all) (h2 : Cond.sameMethod y.cls y.cls y.name y.desc ∈ lw_all) (h3 : Cond.superclass own y.cls ∈ lw_all) (h4 : Cond.instanceMethod y ∈ lw_all) (h5 : Cond.code y b L r ∈ lw_all) (hno : y.name ≠ "<init>") (hn : j_np y.desc n) : jSU own idx y n := by
  intro E p e R s m args below meth c T locs cells slots W9 Pre Post PostX b0 cellB kB g argsL rest K hW X hx ho hB hc1 hc2 hc3 hg hsz hl hst hW9 hd hp
  exact vx_callSU X hx ho (j_w K hW h1 args) (j_w K hW h2 args) (j_w K hW h3 args) (j_w K hW h4 args) (j_w K hW h5 args) hno hB hc1 hc2 hc3 hg hsz (j_npl hn hl) hst hW9 hd hp
/-- a private method of a class above the receiver's -/
theorem jiv_P {own C C2 : String} {idx n L : Nat} {y z z2 : MethodName} {b : ByteArray} {r : Option FieldType} (h1 : Cond.methodLink own idx y ∈ lw_all) (h2 : Cond.instanceMethod y ∈ lw_all) (hpr : Cond.privateMethod y ∈ lw_tbl) (h3 : Cond.selects C2 z z2 ∈ lw_all) (hz : z2.cls = y.cls) (h5 : Cond.code y b L r ∈ lw_all) (hy : j_nmh y.cls) (hn : j_np y.desc n) : jIV own idx C y n := by
  intro E p e R s m args below meth c T locs cells slots W9 Pre Post PostX b0 cellB g argsL rest K hW X hx ho hB hc1 hc2 hc3 hg hsz hl hst hW9 hd hp
  have hpriv : s.PrivateAt y := fun mk meth g1 g2 => Cond.privateMethod_at (K.2.1 _ hpr) mk meth ((State.methodNamed?_setVm hW.alike _).symm.trans (show ((eS E).setVm s.vm).methodNamed? y = some mk from g1)) (by rw [← hW.alike.method?]; exact g2)
  obtain ⟨mk, methM, hnamed, hmethM, hstM, habM⟩ := Cond.instanceMethod_spec (j_w K hW h2 args)
  obtain ⟨methM', cM, hmethM', -, -, -, -, -, -, hsigM⟩ := Cond.code_spec hnamed (j_w K hW h5 args)
  cases hmethM.symm.trans hmethM'
  obtain ⟨c2, r2, m2, -, -, q3, -, kP, hkP, hkPi⟩ := Cond.selects_spec (j_w K hW h3 args)
  have e9 : m2.cls = mk.cls := Option.some.inj ((findClass_of_methodNamed q3).symm.trans (by rw [hz]; exact findClass_of_methodNamed hnamed))
  rw [e9] at hkP
  have hselP : selectMethod e.platform s.vm cellB.cls mk = .method mk := selectMethod_private hmethM (hpriv mk methM hnamed hmethM)
  obtain ⟨vm₁, X₁, hstep₁⟩ := X.invokevirtual hx ho (j_w K hW h1 args) hnamed hmethM hstM hkP hkPi hy (a := b0) (cell := cellB) hc1
    (fun z h => by rw [h] at hc2; cases hc2) hselP hmethM habM hkP hkPi (g := g) hg (argsL := argsL) (rest := rest) (j_npl hn hl _ hsigM) hst hd
  rcases hB m meth c ⟨T.setVm vm₁, locs, cells, slots⟩ { g with stack := rest } (.invokevirtual idx) mk (Value.ref b0 :: argsL).toArray X₁ hg hsz hd hW9 (X₁.named hnamed) (hp vm₁ X₁.warmed) with ⟨v, B, X', hpost, hsteps⟩ | ⟨q, B, X', hpost, hsteps⟩
  · exact Or.inl ⟨v, vm₁, B, X₁.warmed, X', hpost, fun target h => hstep₁ _ fun acts => by rw [doInvoke_state]; exact hsteps.trans h⟩
  · exact Or.inr ⟨q, vm₁, B, X₁.warmed, X', hpost, hstep₁ _ fun acts => by rw [doInvoke_state]; exact hsteps⟩
section
variable {E : jE} {d bc bs mc ms : Nat} {M M' : jM} {pc i n : Nat} {ls : List (Option jV)} {st st0 as : List jV} {h : jH} {Q Q' : jR → jH → Prop}
theorem g_callSU {b : jN} {ci : Nat} {C0 : String} {T0 : u_T} {N0 : Nat} {fs : List jV} (hcl : gCl[ci]? = some (C0, T0, N0)) (iv : jSU M.1.cls i M'.1 n) (me : jMe M') (hd : decode M.2.1 pc = .ok (.invokespecial i, 3)) (hb : h b = some (oO ci fs)) (hC : Ct E (d - 1) mc ms M' (vR b :: as) h Q') (hdp : 1 ≤ d) (hn : as.length = n) (hst : as.reverse ++ vR b :: st = st0) (hw : jW st ≤ 8) (h1 : mc ≤ bc) (h2 : ms ≤ bs)
    (kx : ∀ C x h', Q' (.inr (C, x)) h' → GX E d (bc - mc) (bs - ms) M pc ls h' C x Q) (kr : ∀ r h', Q' (.inl r) h' → G E d (bc - mc) (bs - ms) M (pc + 3) ls (r.toList ++ st) h' Q) : G E d bc bs M pc ls st0 h Q := by
  subst hst
  intro p e s m args below meth c R H locs cells slots A F r z l lo hc hs T hT X
  have hR1 := F.2.2.2.2.2.2.2.2.2.2.2.1
  have hR2 := F.2.2.2.2.2.2.2.2.2.2.2.2.1
  have hml := me.2.2
  have hB := j_back (R := R) (p := p) (e := e) (below := below) (s := s) (sargs := args) (len := 3) (W9 := 8) F.1 F.2.1 hC me.1 me.2.1 (by omega) (by omega)
  obtain ⟨q', g0, cell, g1, g2, g3, -⟩ := r.1 _ _ hb
  obtain ⟨kB, hkB, -⟩ := Vm.findClass_spec (j_kn F.1 F.2.1 hcl).2.1
  refine j_goes F z l lo hc hs h1 h2 kr kx hT (iv E p e R s m args below meth c T locs cells slots 8 _ _ _ b.2 cell kB (F0 m pc A _) (as.map j_v) (st.map j_v) F.1 F.2.1 X F.2.2.1 F.2.2.2.2.2.2.2.1 hB (by rw [hT]; exact g1) (by rw [g3]; rfl) (by rw [g2]; exact hkB) rfl (l.1.trans F.2.2.2.2.2.2.1.symm) (by rw [List.length_map]; exact hn) (by rw [List.map_append, List.map_reverse]; rfl) (lv_room (by rw [jW_eq]; exact hw)) (by rw [F.2.2.2.1]; exact hd) (fun vm₁ hW₁ => ⟨by show cells + mc ≤ R.cells; omega, by show slots + ms ≤ R.slots; omega, rfl, State.WarmedH.trans F.2.1 hW₁, ?_, ?_⟩))
  · show _ ≤ T.heap.size
    rw [hT]; exact z
  · show jRel E h T.heap
    rw [hT]; exact r
/-- String constants -/
theorem g_ldcS {tx : String} {q : Nat} (hZ : jOK E → vk_R M.1.cls i tx q (eS E)) (hd : decode M.2.1 pc = .ok (.ldc i, 2)) (k : G E d bc bs M (pc + 2) ls (vR (0, q) :: st) h Q) : G E d bc bs M pc ls st h Q := by
  intro p e s m args below meth c R H locs cells slots A F r z l lo hc hs
  exact va_ldcS F.2.2.1 F.2.2.2.1 F.2.2.2.2.2.2.2.1 ((hZ F.1).warm F.2.1) hd (k p e s m args below meth c R H locs cells slots A F r z l lo hc hs)
/-- a field of an old object -/
theorem g_oldF {o nm ds ref : String} {v : jV} {q : Nat} (hl : Cond.fieldLink M.1.cls i ref nm ds ∈ lw_all) (hsm : ref = o ∨ Cond.sameField ref o nm ds ∈ lw_all) (hZ : jOK E → va_OF o nm ds (j_v v) q (eN E) (eS E) (eS E).heap) (hd : decode M.2.1 pc = .ok (.getfield i, 3)) (k : G E d bc bs M (pc + 3) ls (v :: st) h Q) : G E d bc bs M pc ls (vR (0, q) :: st) h Q := by
  intro p e s m args below meth c R H locs cells slots A F r z l lo hc hs
  have hts : ∀ w ∈ lw_all, w.before args s = true := fun w hw => j_w F.1 F.2.1 hw args
  obtain ⟨cf, kf, fi, f, cell, h1, h2, h3, h4, h5, h6⟩ := (va_OF.moved F.2.1.alike (hZ F.1)).kept (j_keep r)
  exact W.getf F.2.2.1 F.2.2.2.1 F.2.2.2.2.2.2.2.1 (hts _ hl) (j_same hsm hts _ h1) h2 h3 h4 (v := j_v v) h5 rfl rfl hd (k p e s m args below meth c R H locs cells slots A F r z l lo hc hs)
/-- an old row's length -/
theorem g_oldL {ty : FieldType} {N q : Nat} {f : Nat → Value} (hZ : jOK E → va_T ty q N f (eN E) (eS E) (eS E).heap) (hd : decode M.2.1 pc = .ok (.arraylength, 1)) (k : G E d bc bs M (pc + 1) ls (vI (nI N) :: st) h Q) : G E d bc bs M pc ls (vR (0, q) :: st) h Q := by
  intro p e s m args below meth c R H locs cells slots A F r z l lo hc hs
  obtain ⟨cell, h1, h2, h3, h4, h5, h6, h7⟩ := (va_T.moved F.2.1.alike (hZ F.1)).kept (j_keep r)
  exact W.alen (n := Int32.ofNat N) F.2.2.1 F.2.2.2.1 h1 h2 h5 rfl rfl hd (k p e s m args below meth c R H locs cells slots A F r z l lo hc hs)
/-- an entry of an old row of bytes -/
theorem g_oldB {N q j : Nat} {f : Nat → Int32} (hZ : jOK E → va_T .byte q N (fun j => .int (f j)) (eN E) (eS E) (eS E).heap) (hj : j < N) (hN : N < 2 ^ 31) (hd : decode M.2.1 pc = .ok (.baload, 1)) (k : G E d bc bs M (pc + 1) ls (vI (f j) :: st) h Q) : G E d bc bs M pc ls (vI (nI j) :: vR (0, q) :: st) h Q := by
  intro p e s m args below meth c R H locs cells slots A F r z l lo hc hs
  obtain ⟨cell, h1, h2, h3, h4, h5, h6, h7⟩ := (va_T.moved F.2.1.alike (hZ F.1)).kept (j_keep r)
  have ej : (nI j).toNatClampNeg = j := nI_clamp (by omega)
  refine W.bald (v := .int (f j)) F.2.2.1 F.2.2.2.1 h1 h2 h3 ?_ (by rw [ej, h6 _ hj]) rfl rfl hd (k p e s m args below meth c R H locs cells slots A F r z l lo hc hs)
  intro w
  rcases w with w | w
  · exact nI_pos (by omega) w
  · rw [ej] at w; omega
/-- instanceof and casts that hold -/
theorem g_instE {x : jN} {ci : Nat} {C : String} {T0 : u_T} {N0 : Nat} {fs : List jV} (hcl : gCl[ci]? = some (C, T0, N0)) (hl : Cond.classLink M.1.cls i C ∈ lw_all) (hd : decode M.2.1 pc = .ok (.instanceof i, 3)) (hx : h x = some (oO ci fs)) (k : G E d bc bs M (pc + 3) ls (vI 1 :: st) h Q) : G E d bc bs M pc ls (vR x :: st) h Q := by
  intro p e s m args below meth c R H locs cells slots A F r z l lo hc hs
  exact va_instE F.2.2.1 F.2.2.2.1 F.2.2.2.2.2.2.2.1 (j_w F.1 F.2.1 hl args) (j_rcv F.1 F.2.1 r hcl hx) hd (k p e s m args below meth c R H locs cells slots A F r z l lo hc hs)
theorem j_orc {C : String} {q : Nat} {H : Heap} {s : State} (K : jOK E) (hW : (eS E).WarmedH s.vm) (r : jRel E h H) (hZ : jOK E → va_O C q (eN E) (eS E) (eS E).heap) : ∃ cell : Cell, H[q]? = some cell ∧ cell.vm.isStatics = false ∧ s.vm.findClass C = some cell.cls := by
  obtain ⟨cell, h1, h2, h3, -⟩ := (va_O.moved hW.alike (hZ K)).kept (j_keep r)
  exact ⟨cell, h1, h2, h3⟩
theorem g_instO {C : String} {q : Nat} (hl : Cond.classLink M.1.cls i C ∈ lw_all) (hd : decode M.2.1 pc = .ok (.instanceof i, 3)) (hZ : jOK E → va_O C q (eN E) (eS E) (eS E).heap) (k : G E d bc bs M (pc + 3) ls (vI 1 :: st) h Q) : G E d bc bs M pc ls (vR (0, q) :: st) h Q := by
  intro p e s m args below meth c R H locs cells slots A F r z l lo hc hs
  exact va_instE F.2.2.1 F.2.2.2.1 F.2.2.2.2.2.2.2.1 (j_w F.1 F.2.1 hl args) (j_orc F.1 F.2.1 r hZ) hd (k p e s m args below meth c R H locs cells slots A F r z l lo hc hs)
theorem g_castO {C : String} {q : Nat} (hl : Cond.classLink M.1.cls i C ∈ lw_all) (hd : decode M.2.1 pc = .ok (.checkcast i, 3)) (hZ : jOK E → va_O C q (eN E) (eS E) (eS E).heap) (k : G E d bc bs M (pc + 3) ls (vR (0, q) :: st) h Q) : G E d bc bs M pc ls (vR (0, q) :: st) h Q := by
  intro p e s m args below meth c R H locs cells slots A F r z l lo hc hs
  exact va_castE F.2.2.1 F.2.2.2.1 F.2.2.2.2.2.2.2.1 (j_w F.1 F.2.1 hl args) (j_orc F.1 F.2.1 r hZ) hd (k p e s m args below meth c R H locs cells slots A F r z l lo hc hs)
/-- a row of bytes is one -/
theorem g_castB {x : jN} {n0 : Nat} {f : Nat → jV} (hl : Cond.classLink M.1.cls i "[B" ∈ lw_all) (hd : decode M.2.1 pc = .ok (.checkcast i, 3)) (hx : h x = some (oA 1 n0 f)) (k : G E d bc bs M (pc + 3) ls (vR x :: st) h Q) : G E d bc bs M pc ls (vR x :: st) h Q := by
  intro p e s m args below meth c R H locs cells slots A F r z l lo hc hs
  have hc0 : H[x.2]? = some (arrV (eA E 1) n0 (fun j => j_v (f j))) := r.1 _ _ hx
  have hra : s.vm.findClass "[B" = some (eA E 1) := (j_ar F.1 F.2.1 (t := 1) (ty := .byte) rfl).2
  exact va_castE F.2.2.1 F.2.2.2.1 F.2.2.2.2.2.2.2.1 (j_w F.1 F.2.1 hl args) ⟨_, hc0, rfl, hra⟩ hd (k p e s m args below meth c R H locs cells slots A F r z l lo hc hs)
/-- what is old and what is new -/
theorem g_apart {x : jN} {o : jO} {q : Nat} (hx : h x = some o) (hr : x.1 ≠ 0) (hq : jOK E → q < (eS E).heap.size) (k : ¬ x.2 = q → G E d bc bs M pc ls st h Q) : G E d bc bs M pc ls st h Q := by
  intro p e s m args below meth c R H locs cells slots A F r z l lo hc hs
  have h1 := r.2.2.1 _ _ hx hr
  have h2 := hq F.1
  exact k (by omega) p e s m args below meth c R H locs cells slots A F r z l lo hc hs
end
