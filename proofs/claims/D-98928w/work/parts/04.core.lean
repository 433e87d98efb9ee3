/-! THE ABSTRACT HEAP: names (role, address), values, objects, a heap as a function; what a method's frame does, over it (G), and a method's contract (Ct) -/
set_option maxRecDepth 100000
abbrev jN : Type := Nat × Nat
abbrev jV : Type := Int32 ⊕ (Int64 ⊕ Option jN)
abbrev vI (x : Int32) : jV := Sum.inl x
abbrev vL (x : Int64) : jV := Sum.inr (Sum.inl x)
abbrev vQ (o : Option jN) : jV := Sum.inr (Sum.inr o)
abbrev vN : jV := Sum.inr (Sum.inr none)
abbrev vR (a : jN) : jV := Sum.inr (Sum.inr (some a))
def j_v : jV → Value
  | .inl x => .int x
  | .inr (.inl x) => .long x
  | .inr (.inr none) => .null
  | .inr (.inr (some a)) => .ref a.2
abbrev jO : Type := (Nat × List jV) ⊕ (Nat × Nat × ((Nat → jV) ⊕ Unit))
abbrev oO (ci : Nat) (fs : List jV) : jO := Sum.inl (ci, fs)
abbrev oA (t n : Nat) (f : Nat → jV) : jO := Sum.inr (t, n, Sum.inl f)
abbrev oS (n : Nat) : jO := Sum.inr (0, n, Sum.inr ())
abbrev iA (n : Nat) (f : Nat → Int32) : jO := oA 0 n (fun j => vI (f j))
abbrev bA (n : Nat) (f : Nat → Int32) : jO := oA 1 n (fun j => vI (f j))
abbrev lA (n : Nat) (f : Nat → Int64) : jO := oA 2 n (fun j => vL (f j))
abbrev rA (t n : Nat) (f : Nat → Option jN) : jO := oA t n (fun j => vQ (f j))
abbrev jH : Type := jN → Option jO
def hs (h : jH) (a : jN) (o : jO) : jH := fun b => if b = a then some o else h b
abbrev jE : Type := Launch × State × Nat × (Nat → ClassId) × (Nat → Nat → Nat) × (Nat → ClassId)
abbrev eL (E : jE) : Launch := E.1
abbrev eS (E : jE) : State := E.2.1
abbrev eB (E : jE) : Nat := E.2.2.1
abbrev eC (E : jE) : Nat → ClassId := E.2.2.2.1
abbrev eI (E : jE) : Nat → Nat → Nat := E.2.2.2.2.1
abbrev eA (E : jE) : Nat → ClassId := E.2.2.2.2.2
abbrev jM : Type := MethodName × ByteArray × Nat × Option FieldType × List (Nat × Nat × Nat × Nat)
abbrev jR : Type := Option jV ⊕ (String × jN)
/-- the array types, by their numbers -/
def gAt : List FieldType := [.int, .byte, .long, .object "java/lang/Object", .object "RelicHouse$House", .array .int]
def jOK (E : jE) : Prop := (eL E).flags = flags0 ∧ (∀ w ∈ lw_tbl, w.before #[Value.ref (eB E)] (eS E) = true) ∧ (Jvm.Cond.and given_1 narrow_1).before #[Value.ref (eB E)] (eS E) = true ∧
  (∀ (k : Nat) (q : vw_C), gCl[k]? = some q → u_Kn (eS E) q.1 q.2.1 q.2.2 (eC E k) (eI E k)) ∧ (∀ (t : Nat) (ty : FieldType), gAt[t]? = some ty → ArrOfT (eS E) (eA E t) ty ∧ va_RA (eS E) (eA E t) ty)
def jc (E : jE) (o : jO) (a : Nat) (H : Heap) : Prop := match o with
  | .inl x => ∃ r : vw_C, gCl[x.1]? = some r ∧ t_OB a (eC E x.1) r.2.2 (eI E x.1) H (fun k => j_v (x.2.getD k vN))
  | .inr (t, n, .inl f) => H[a]? = some (arrV (eA E t) n (fun j => j_v (f j)))
  | .inr (t, n, .inr _) => ∃ f : Nat → Int32, H[a]? = some (arrV (eA E t) n (fun j => Value.int (f j)))
def jRel (E : jE) (h : jH) (H : Heap) : Prop :=
  (∀ (x : jN) (o : jO), h x = some o → jc E o x.2 H) ∧ (∀ (x y : jN) (o o' : jO), h x = some o → h y = some o' → x.2 = y.2 → x = y) ∧ (∀ (x : jN) (o : jO), h x = some o → x.1 ≠ 0 → (eS E).heap.size ≤ x.2) ∧ (∀ q : Nat, q < (eS E).heap.size → H[q]? = (eS E).heap[q]?)
theorem hs_same {h : jH} {a : jN} {o : jO} : hs h a o a = some o := by unfold hs; rw [if_pos rfl]
theorem hs_ne {h : jH} {a b : jN} {o : jO} (n : b ≠ a) : hs h a o b = h b := by unfold hs; rw [if_neg n]
theorem hs_hs {h : jH} {a : jN} {o o' : jO} : hs (hs h a o) a o' = hs h a o' := by
  funext b
  unfold hs
  by_cases q : b = a
  · rw [if_pos q, if_pos q]
  · rw [if_neg q, if_neg q, if_neg q]
theorem hs_self {h : jH} {a : jN} {o : jO} (e : h a = some o) : hs h a o = h := by
  funext b
  unfold hs
  by_cases q : b = a
  · rw [if_pos q, q, e]
  · rw [if_neg q]
theorem hs_comm {h : jH} {a b : jN} {o o' : jO} (n : a ≠ b) : hs (hs h a o) b o' = hs (hs h b o') a o := by
  funext x
  unfold hs
  by_cases q : x = b
  · subst q
    rw [if_pos rfl, if_neg (Ne.symm n), if_pos rfl]
  · by_cases r : x = a
    · rw [if_neg q, if_pos r, if_pos r]
    · rw [if_neg q, if_neg r, if_neg r, if_neg q]
theorem jc.kept {E : jE} {o : jO} {a : Nat} {H H1 : Heap} (h : jc E o a H) (hq : H1[a]? = H[a]?) : jc E o a H1 := by
  match o, h with
  | .inl x, h =>
    obtain ⟨r, h1, h2⟩ := h
    exact ⟨r, h1, h2.kept hq⟩
  | .inr (t, n, .inl f), h => exact hq.trans h
  | .inr (t, n, .inr u), h =>
    obtain ⟨f, h1⟩ := h
    exact ⟨f, hq.trans h1⟩
theorem jc.lt {E : jE} {o : jO} {a : Nat} {H : Heap} (h : jc E o a H) : a < H.size := by
  match o, h with
  | .inl x, h =>
    obtain ⟨r, h1, cell, h2, -⟩ := h
    exact (Array.getElem?_eq_some_iff.mp h2).1
  | .inr (t, n, .inl f), h => exact (Array.getElem?_eq_some_iff.mp h).1
  | .inr (t, n, .inr u), h =>
    obtain ⟨f, h1⟩ := h
    exact (Array.getElem?_eq_some_iff.mp h1).1
theorem jRel.set0 {E : jE} {h : jH} {H H1 : Heap} {x : jN} {o0 o : jO} (r : jRel E h H) (hx : h x = some o0) (ho : jc E o x.2 H1) (oq : ∀ q : Nat, q ≠ x.2 → H1[q]? = H[q]?) (ol : ∀ q : Nat, q < (eS E).heap.size → H1[q]? = H[q]?) : jRel E (hs h x o) H1 := by
  have key : ∀ (y : jN) (p : jO), hs h x o y = some p → (y = x ∧ p = o) ∨ (y ≠ x ∧ h y = some p) := by
    intro y p hy
    by_cases q : y = x
    · subst q
      rw [hs_same] at hy
      exact Or.inl ⟨rfl, (Option.some.inj hy).symm⟩
    · rw [hs_ne q] at hy
      exact Or.inr ⟨q, hy⟩
  refine ⟨fun y p hy => ?_, fun y z p p' hy hz e => ?_, fun y p hy hn => ?_, fun q hq => (ol q hq).trans (r.2.2.2 q hq)⟩
  · rcases key y p hy with ⟨rfl, rfl⟩ | ⟨n, hy⟩
    · exact ho
    · exact (r.1 y p hy).kept (oq _ (fun e => n (r.2.1 y x p o0 hy hx e)))
  · rcases key y p hy with ⟨e1, -⟩ | ⟨-, hy1⟩ <;> rcases key z p' hz with ⟨e2, -⟩ | ⟨-, hz1⟩
    · rw [e1, e2]
    · rw [e1] at e ⊢
      exact r.2.1 _ _ _ _ hx hz1 e
    · rw [e2] at e ⊢
      exact r.2.1 _ _ _ _ hy1 hx e
    · exact r.2.1 _ _ _ _ hy1 hz1 e
  · rcases key y p hy with ⟨rfl, -⟩ | ⟨-, hy⟩
    · exact r.2.2.1 _ _ hx hn
    · exact r.2.2.1 _ _ hy hn
theorem jRel.set {E : jE} {h : jH} {H H1 : Heap} {x : jN} {o0 o : jO} (hro : x.1 ≠ 0) (r : jRel E h H) (hx : h x = some o0) (ho : jc E o x.2 H1) (oq : ∀ q : Nat, q ≠ x.2 → H1[q]? = H[q]?) : jRel E (hs h x o) H1 :=
  r.set0 hx ho oq (fun q hq => oq q (fun e => by have := r.2.2.1 x o0 hx hro; omega))
theorem jRel.fresh {E : jE} {h : jH} {H : Heap} (r : jRel E h H) (k : Nat) : h (k, H.size) = none := by
  cases e : h (k, H.size) with
  | none => rfl
  | some o => exact absurd (r.1 _ _ e).lt (Nat.lt_irrefl _)
theorem jRel.new {E : jE} {h : jH} {H H1 : Heap} {o : jO} (k : Nat) (r : jRel E h H) (hz : (eS E).heap.size ≤ H.size) (ho : jc E o H.size H1) (oq : ∀ q : Nat, q < H.size → H1[q]? = H[q]?) : jRel E (hs h (k, H.size) o) H1 := by
  have key : ∀ (y : jN) (p : jO), hs h (k, H.size) o y = some p → (y = (k, H.size) ∧ p = o) ∨ (y.2 < H.size ∧ h y = some p) := by
    intro y p hy
    by_cases q : y = (k, H.size)
    · subst q
      rw [hs_same] at hy
      exact Or.inl ⟨rfl, (Option.some.inj hy).symm⟩
    · rw [hs_ne q] at hy
      exact Or.inr ⟨(r.1 y p hy).lt, hy⟩
  refine ⟨fun y p hy => ?_, fun y z p p' hy hz e => ?_, fun y p hy hn => ?_, fun q hq => (oq q (Nat.lt_of_lt_of_le hq hz)).trans (r.2.2.2 q hq)⟩
  · rcases key y p hy with ⟨rfl, rfl⟩ | ⟨n, hy⟩
    · exact ho
    · exact (r.1 y p hy).kept (oq _ n)
  · rcases key y p hy with ⟨rfl, -⟩ | ⟨n, hy⟩ <;> rcases key z p' hz with ⟨rfl, -⟩ | ⟨n', hz⟩
    · rfl
    · exact absurd n' (by rw [← e]; exact Nat.lt_irrefl _)
    · exact absurd n (by rw [e]; exact Nat.lt_irrefl _)
    · exact r.2.1 _ _ _ _ hy hz e
  · rcases key y p hy with ⟨rfl, -⟩ | ⟨-, hy⟩
    · exact hz
    · exact r.2.2.1 _ _ hy hn
/-- a cell known less well -/
theorem jRel.less {E : jE} {h : jH} {H : Heap} {x : jN} {o0 o : jO} (r : jRel E h H) (hx : h x = some o0) (ho : jc E o x.2 H) : jRel E (hs h x o) H := r.set0 hx ho (fun _ _ => rfl) (fun _ _ => rfl)
/-- the words, at any frame of the run -/
theorem j_w {E : jE} {s : State} (K : jOK E) (hW : (eS E).WarmedH s.vm) {w : Cond} (h : w ∈ lw_all) (a : Array Value) : w.before a s = true := word_at hW (lw_self w h).2 (K.2.1 w (lw_all_tbl h))
theorem j_kn {E : jE} {s : State} (K : jOK E) (hW : (eS E).WarmedH s.vm) {k : Nat} {q : vw_C} (h : gCl[k]? = some q) : u_Kn s q.1 q.2.1 q.2.2 (eC E k) (eI E k) := u_Kn_moved hW.alike (K.2.2.2.1 k q h)
theorem j_ar {E : jE} {s : State} (K : jOK E) (hW : (eS E).WarmedH s.vm) {t : Nat} {ty : FieldType} (h : gAt[t]? = some ty) : ArrOfT s (eA E t) ty ∧ va_RA s (eA E t) ty := ⟨arrOfT_moved hW.alike (K.2.2.2.2 t ty h).1, va_RA.moved hW.alike (K.2.2.2.2 t ty h).2⟩
/-- a method's frame: exec, code, locks, answer, locals, class, name, table, start, room -/
def jF (E : jE) (d : Nat) (M : jM) (p : Program) (s : State) (m : MethodId) (meth : Method) (c : Code) (R : Room) : Prop :=
  jOK E ∧ (eS E).WarmedH s.vm ∧ p.tables.exec = Jvm.exec ∧ c.code = M.2.1 ∧ meth.locks = false ∧ meth.sig.returnType = M.2.2.2.1 ∧ c.maxLocals = M.2.2.1 ∧ s.vm.findClass M.1.cls = some m.cls ∧ meth.name = M.1.name ∧ c.exceptionTable.toList = tableOf M.2.2.2.2 ∧ (eS E).heap.size ≤ s.heap.size ∧ R.frames = d ∧ R.locals = 40 * d ∧ (∀ q : Nat, q < (eS E).heap.size → s.heap[q]? = (eS E).heap[q]?)
def jL (A : Array Slot) (n : Nat) (ls : List (Option jV)) : Prop := A.size = n ∧ lv_wf A ∧ ∀ (i : Nat) (v : jV), ls[i]? = some (some v) → A[i]? = some (.val (j_v v))
def jOut (E : jE) (Q : jR → jH → Prop) (mc ms : Nat) (st : State) (o : Outcome) (t : State) : Prop :=
  (∃ (r : Option jV) (h : jH) (L : List Loc), Q (.inl r) h ∧ jRel E h t.heap ∧ o = .returned (r.map j_v) ∧ FrameEnd st o t L mc ms ∧ ∀ q ∈ L, (eS E).heap.size ≤ q.base) ∨
  (∃ (C : String) (x : jN) (h : jH) (ce : Cell) (L : List Loc), Q (.inr (C, x)) h ∧ jRel E h t.heap ∧ o = .threw x.2 ∧ t.heap[x.2]? = some ce ∧ ce.vm = .none ∧ st.vm.findClass C = some ce.cls ∧ st.WarmedH t.vm ∧ st.sameButNew ({ t with vm := st.vm } : State) L mc ms ∧ ∀ q ∈ L, (eS E).heap.size ≤ q.base)
def jMQ (E : jE) (Q : jR → jH → Prop) (below : List Frame) (s : State) (mc ms : Nat) : State → Prop := fun t => ∃ o, t.status = .running ∧ Ended t below o ∧ jOut E Q mc ms s o t
/-- from here the method comes to an end with Q: any caller, any machine -/
def G (E : jE) (d bc bs : Nat) (M : jM) (pc : Nat) (ls : List (Option jV)) (st : List jV) (h : jH) (Q : jR → jH → Prop) : Prop :=
  ∀ (p : Program) (e : Env) (s : State) (m : MethodId) (args : Array Value) (below : List Frame) (meth : Method) (c : Code) (R : Room) (H : Heap) (locs : List Loc) (cells slots : Nat) (A : Array Slot),
    jF E d M p s m meth c R → jRel E h H → (eS E).heap.size ≤ H.size → jL A M.2.2.1 ls → (∀ q ∈ locs, (eS E).heap.size ≤ q.base) → cells + bc ≤ R.cells → slots + bs ≤ R.slots →
    W p (eL E) e R s m args below meth c H locs cells slots (jMQ E Q below s R.cells R.slots) (F0 m pc A (st.map j_v))
/-- the same, with x (of class C) thrown over the frame at pc -/
def GX (E : jE) (d bc bs : Nat) (M : jM) (pc : Nat) (ls : List (Option jV)) (h : jH) (C : String) (x : jN) (Q : jR → jH → Prop) : Prop :=
  ∀ (p : Program) (e : Env) (s : State) (m : MethodId) (args : Array Value) (below : List Frame) (meth : Method) (c : Code) (R : Room) (H : Heap) (locs : List Loc) (cells slots : Nat) (A : Array Slot) (rest : List Value) (ce : Cell),
    jF E d M p s m meth c R → jRel E h H → (eS E).heap.size ≤ H.size → jL A M.2.2.1 ls → (∀ q ∈ locs, (eS E).heap.size ≤ q.base) → cells + bc ≤ R.cells → slots + bs ≤ R.slots →
    H[x.2]? = some ce → ce.vm = .none → s.vm.findClass C = some ce.cls →
    vx_W p (eL E) e R s m args below meth c H locs cells slots (jMQ E Q below s R.cells R.slots) (F0 m pc A rest) x.2
/-! ROWS: one instruction each, over G. Printed by gen_rows.py -/
section
variable {E : jE} {d bc bs : Nat} {M : jM} {pc : Nat} {ls : List (Option jV)} {st : List jV} {h : jH} {Q : jR → jH → Prop}
theorem g_iconst {n : Int} {v : Int32} (hd : decode M.2.1 pc = .ok (.iconst n, 1)) (hv : Int32.ofInt n = v) (k : G E d bc bs M (pc + 1) ls (vI v :: st) h Q) : G E d bc bs M pc ls (st) h Q := by
  intro p e s m args below meth c R H locs cells slots A F r z l lo hc hs
  exact lv_iconst F.2.2.1 F.2.2.2.1 hd hv (k p e s m args below meth c R H locs cells slots A F r z l lo hc hs)
theorem g_bipush {n : Int} {v : Int32} (hd : decode M.2.1 pc = .ok (.bipush n, 2)) (hv : (Int8.ofInt n).toInt32 = v) (k : G E d bc bs M (pc + 2) ls (vI v :: st) h Q) : G E d bc bs M pc ls (st) h Q := by
  intro p e s m args below meth c R H locs cells slots A F r z l lo hc hs
  exact lv_bipush F.2.2.1 F.2.2.2.1 hd hv (k p e s m args below meth c R H locs cells slots A F r z l lo hc hs)
theorem g_sipush {n : Int} {v : Int32} (hd : decode M.2.1 pc = .ok (.sipush n, 3)) (hv : (Int16.ofInt n).toInt32 = v) (k : G E d bc bs M (pc + 3) ls (vI v :: st) h Q) : G E d bc bs M pc ls (st) h Q := by
  intro p e s m args below meth c R H locs cells slots A F r z l lo hc hs
  exact lv_sipush F.2.2.1 F.2.2.2.1 hd hv (k p e s m args below meth c R H locs cells slots A F r z l lo hc hs)
theorem g_lconst {n : Fin 2} {v : Int64} (hd : decode M.2.1 pc = .ok (.lconst n, 1)) (hv : Int64.ofNat (n : Nat) = v) (k : G E d bc bs M (pc + 1) ls (vL v :: st) h Q) : G E d bc bs M pc ls (st) h Q := by
  intro p e s m args below meth c R H locs cells slots A F r z l lo hc hs
  exact lv_lconst F.2.2.1 F.2.2.2.1 hd hv (k p e s m args below meth c R H locs cells slots A F r z l lo hc hs)
theorem g_null  (hd : decode M.2.1 pc = .ok (.aconst_null, 1)) (k : G E d bc bs M (pc + 1) ls (vN :: st) h Q) : G E d bc bs M pc ls (st) h Q := by
  intro p e s m args below meth c R H locs cells slots A F r z l lo hc hs
  exact lv_null F.2.2.1 F.2.2.2.1 hd  (k p e s m args below meth c R H locs cells slots A F r z l lo hc hs)
theorem g_ldc {i : Nat} {v : Int32} (hd : decode M.2.1 pc = .ok (.ldc i, 2)) (hw : Cond.constant M.1.cls i v ∈ lw_all) (k : G E d bc bs M (pc + 2) ls (vI v :: st) h Q) : G E d bc bs M pc ls st h Q := by
  intro p e s m args below meth c R H locs cells slots A F r z l lo hc hs
  exact lv_ldc F.2.2.1 F.2.2.2.1 F.2.2.2.2.2.2.2.1 (j_w F.1 F.2.1 hw args) hd (k p e s m args below meth c R H locs cells slots A F r z l lo hc hs)
theorem g_ldcw {i : Nat} {v : Int32} (hd : decode M.2.1 pc = .ok (.ldc_w i, 3)) (hw : Cond.constant M.1.cls i v ∈ lw_all) (k : G E d bc bs M (pc + 3) ls (vI v :: st) h Q) : G E d bc bs M pc ls st h Q := by
  intro p e s m args below meth c R H locs cells slots A F r z l lo hc hs
  exact lv_ldcw F.2.2.1 F.2.2.2.1 F.2.2.2.2.2.2.2.1 (j_w F.1 F.2.1 hw args) hd (k p e s m args below meth c R H locs cells slots A F r z l lo hc hs)
theorem g_ldc2 {i : Nat} {v : Int64} (hd : decode M.2.1 pc = .ok (.ldc2_w i, 3)) (hw : Cond.constantLong M.1.cls i v ∈ lw_all) (k : G E d bc bs M (pc + 3) ls (vL v :: st) h Q) : G E d bc bs M pc ls st h Q := by
  intro p e s m args below meth c R H locs cells slots A F r z l lo hc hs
  exact lv_ldc2 F.2.2.1 F.2.2.2.1 F.2.2.2.2.2.2.2.1 (j_w F.1 F.2.1 hw args) hd (k p e s m args below meth c R H locs cells slots A F r z l lo hc hs)
theorem g_iload_n {i : Fin 4} {x : Int32} (hd : decode M.2.1 pc = .ok (.iload_n i, 1)) (hl : ls[(i : Nat)]? = some (some (vI x))) (k : G E d bc bs M (pc + 1) ls (vI x :: st) h Q) : G E d bc bs M pc ls st h Q := by
  intro p e s m args below meth c R H locs cells slots A F r z l lo hc hs
  exact lv_iload_n F.2.2.1 F.2.2.2.1 hd rfl (l.2.2 _ _ hl) (k p e s m args below meth c R H locs cells slots A F r z l lo hc hs)
theorem g_iload {i : Nat} {x : Int32} (hd : decode M.2.1 pc = .ok (.iload i, 2)) (hl : ls[i]? = some (some (vI x))) (k : G E d bc bs M (pc + 2) ls (vI x :: st) h Q) : G E d bc bs M pc ls st h Q := by
  intro p e s m args below meth c R H locs cells slots A F r z l lo hc hs
  exact lv_iload F.2.2.1 F.2.2.2.1 hd (l.2.2 _ _ hl) (k p e s m args below meth c R H locs cells slots A F r z l lo hc hs)
theorem g_lload_n {i : Fin 4} {x : Int64} (hd : decode M.2.1 pc = .ok (.lload_n i, 1)) (hl : ls[(i : Nat)]? = some (some (vL x))) (k : G E d bc bs M (pc + 1) ls (vL x :: st) h Q) : G E d bc bs M pc ls st h Q := by
  intro p e s m args below meth c R H locs cells slots A F r z l lo hc hs
  exact lv_lload_n F.2.2.1 F.2.2.2.1 hd rfl (l.2.2 _ _ hl) (k p e s m args below meth c R H locs cells slots A F r z l lo hc hs)
theorem g_lload {i : Nat} {x : Int64} (hd : decode M.2.1 pc = .ok (.lload i, 2)) (hl : ls[i]? = some (some (vL x))) (k : G E d bc bs M (pc + 2) ls (vL x :: st) h Q) : G E d bc bs M pc ls st h Q := by
  intro p e s m args below meth c R H locs cells slots A F r z l lo hc hs
  exact lv_lload F.2.2.1 F.2.2.2.1 hd (l.2.2 _ _ hl) (k p e s m args below meth c R H locs cells slots A F r z l lo hc hs)
theorem g_aload_n {i : Fin 4} {o : Option jN} (hd : decode M.2.1 pc = .ok (.aload_n i, 1)) (hl : ls[(i : Nat)]? = some (some (vQ o))) (k : G E d bc bs M (pc + 1) ls (vQ o :: st) h Q) : G E d bc bs M pc ls st h Q := by
  intro p e s m args below meth c R H locs cells slots A F r z l lo hc hs
  cases o with
  | none => exact lv_aload_nN F.2.2.1 F.2.2.2.1 hd rfl (l.2.2 _ _ hl) (k p e s m args below meth c R H locs cells slots A F r z l lo hc hs)
  | some a => exact lv_aload_n F.2.2.1 F.2.2.2.1 hd rfl (l.2.2 _ _ hl) (k p e s m args below meth c R H locs cells slots A F r z l lo hc hs)
theorem g_aload {i : Nat} {o : Option jN} (hd : decode M.2.1 pc = .ok (.aload i, 2)) (hl : ls[i]? = some (some (vQ o))) (k : G E d bc bs M (pc + 2) ls (vQ o :: st) h Q) : G E d bc bs M pc ls st h Q := by
  intro p e s m args below meth c R H locs cells slots A F r z l lo hc hs
  cases o with
  | none => exact lv_aloadN F.2.2.1 F.2.2.2.1 hd (l.2.2 _ _ hl) (k p e s m args below meth c R H locs cells slots A F r z l lo hc hs)
  | some a => exact lv_aload F.2.2.1 F.2.2.2.1 hd (l.2.2 _ _ hl) (k p e s m args below meth c R H locs cells slots A F r z l lo hc hs)
theorem g_iadd {x y : Int32} (hd : decode M.2.1 pc = .ok (.iadd, 1)) (k : G E d bc bs M (pc + 1) ls (vI (x + y) :: st) h Q) : G E d bc bs M pc ls (vI y :: vI x :: st) h Q := by
  intro p e s m args below meth c R H locs cells slots A F r z l lo hc hs
  exact lv_iadd F.2.2.1 F.2.2.2.1 hd  (k p e s m args below meth c R H locs cells slots A F r z l lo hc hs)
theorem g_isub {x y : Int32} (hd : decode M.2.1 pc = .ok (.isub, 1)) (k : G E d bc bs M (pc + 1) ls (vI (x - y) :: st) h Q) : G E d bc bs M pc ls (vI y :: vI x :: st) h Q := by
  intro p e s m args below meth c R H locs cells slots A F r z l lo hc hs
  exact lv_isub F.2.2.1 F.2.2.2.1 hd  (k p e s m args below meth c R H locs cells slots A F r z l lo hc hs)
theorem g_imul {x y : Int32} (hd : decode M.2.1 pc = .ok (.imul, 1)) (k : G E d bc bs M (pc + 1) ls (vI (x * y) :: st) h Q) : G E d bc bs M pc ls (vI y :: vI x :: st) h Q := by
  intro p e s m args below meth c R H locs cells slots A F r z l lo hc hs
  exact lv_imul F.2.2.1 F.2.2.2.1 hd  (k p e s m args below meth c R H locs cells slots A F r z l lo hc hs)
theorem g_iand {x y : Int32} (hd : decode M.2.1 pc = .ok (.iand, 1)) (k : G E d bc bs M (pc + 1) ls (vI (x &&& y) :: st) h Q) : G E d bc bs M pc ls (vI y :: vI x :: st) h Q := by
  intro p e s m args below meth c R H locs cells slots A F r z l lo hc hs
  exact lv_iand F.2.2.1 F.2.2.2.1 hd  (k p e s m args below meth c R H locs cells slots A F r z l lo hc hs)
theorem g_ior {x y : Int32} (hd : decode M.2.1 pc = .ok (.ior, 1)) (k : G E d bc bs M (pc + 1) ls (vI (x ||| y) :: st) h Q) : G E d bc bs M pc ls (vI y :: vI x :: st) h Q := by
  intro p e s m args below meth c R H locs cells slots A F r z l lo hc hs
  exact lv_ior F.2.2.1 F.2.2.2.1 hd  (k p e s m args below meth c R H locs cells slots A F r z l lo hc hs)
theorem g_ixor {x y : Int32} (hd : decode M.2.1 pc = .ok (.ixor, 1)) (k : G E d bc bs M (pc + 1) ls (vI (x ^^^ y) :: st) h Q) : G E d bc bs M pc ls (vI y :: vI x :: st) h Q := by
  intro p e s m args below meth c R H locs cells slots A F r z l lo hc hs
  exact lv_ixor F.2.2.1 F.2.2.2.1 hd  (k p e s m args below meth c R H locs cells slots A F r z l lo hc hs)
theorem g_ishl {x y : Int32} (hd : decode M.2.1 pc = .ok (.ishl, 1)) (k : G E d bc bs M (pc + 1) ls (vI (x <<< (y &&& 31)) :: st) h Q) : G E d bc bs M pc ls (vI y :: vI x :: st) h Q := by
  intro p e s m args below meth c R H locs cells slots A F r z l lo hc hs
  exact lv_ishl F.2.2.1 F.2.2.2.1 hd  (k p e s m args below meth c R H locs cells slots A F r z l lo hc hs)
theorem g_ishr {x y : Int32} (hd : decode M.2.1 pc = .ok (.ishr, 1)) (k : G E d bc bs M (pc + 1) ls (vI (x >>> (y &&& 31)) :: st) h Q) : G E d bc bs M pc ls (vI y :: vI x :: st) h Q := by
  intro p e s m args below meth c R H locs cells slots A F r z l lo hc hs
  exact lv_ishr F.2.2.1 F.2.2.2.1 hd  (k p e s m args below meth c R H locs cells slots A F r z l lo hc hs)
theorem g_iushr {x y : Int32} (hd : decode M.2.1 pc = .ok (.iushr, 1)) (k : G E d bc bs M (pc + 1) ls (vI ((x.toUInt32 >>> (y.toUInt32 &&& Int32.toUInt32 31)).toInt32) :: st) h Q) : G E d bc bs M pc ls (vI y :: vI x :: st) h Q := by
  intro p e s m args below meth c R H locs cells slots A F r z l lo hc hs
  exact lv_iushr F.2.2.1 F.2.2.2.1 hd rfl (k p e s m args below meth c R H locs cells slots A F r z l lo hc hs)
theorem g_ineg {x : Int32} (hd : decode M.2.1 pc = .ok (.ineg, 1)) (k : G E d bc bs M (pc + 1) ls (vI (-x) :: st) h Q) : G E d bc bs M pc ls (vI x :: st) h Q := by
  intro p e s m args below meth c R H locs cells slots A F r z l lo hc hs
  exact lv_ineg F.2.2.1 F.2.2.2.1 hd  (k p e s m args below meth c R H locs cells slots A F r z l lo hc hs)
theorem g_idiv {x y : Int32} (hd : decode M.2.1 pc = .ok (.idiv, 1)) (hne : ¬ y = 0) (k : G E d bc bs M (pc + 1) ls (vI (x / y) :: st) h Q) : G E d bc bs M pc ls (vI y :: vI x :: st) h Q := by
  intro p e s m args below meth c R H locs cells slots A F r z l lo hc hs
  exact lv_idiv F.2.2.1 F.2.2.2.1 hd hne (k p e s m args below meth c R H locs cells slots A F r z l lo hc hs)
theorem g_irem {x y : Int32} (hd : decode M.2.1 pc = .ok (.irem, 1)) (hne : ¬ y = 0) (k : G E d bc bs M (pc + 1) ls (vI (x - x / y * y) :: st) h Q) : G E d bc bs M pc ls (vI y :: vI x :: st) h Q := by
  intro p e s m args below meth c R H locs cells slots A F r z l lo hc hs
  exact lv_irem F.2.2.1 F.2.2.2.1 hd hne (k p e s m args below meth c R H locs cells slots A F r z l lo hc hs)
theorem g_ladd {x y : Int64} (hd : decode M.2.1 pc = .ok (.ladd, 1)) (k : G E d bc bs M (pc + 1) ls (vL (x + y) :: st) h Q) : G E d bc bs M pc ls (vL y :: vL x :: st) h Q := by
  intro p e s m args below meth c R H locs cells slots A F r z l lo hc hs
  exact lv_ladd F.2.2.1 F.2.2.2.1 hd  (k p e s m args below meth c R H locs cells slots A F r z l lo hc hs)
theorem g_lsub {x y : Int64} (hd : decode M.2.1 pc = .ok (.lsub, 1)) (k : G E d bc bs M (pc + 1) ls (vL (x - y) :: st) h Q) : G E d bc bs M pc ls (vL y :: vL x :: st) h Q := by
  intro p e s m args below meth c R H locs cells slots A F r z l lo hc hs
  exact lv_lsub F.2.2.1 F.2.2.2.1 hd  (k p e s m args below meth c R H locs cells slots A F r z l lo hc hs)
theorem g_lmul {x y : Int64} (hd : decode M.2.1 pc = .ok (.lmul, 1)) (k : G E d bc bs M (pc + 1) ls (vL (x * y) :: st) h Q) : G E d bc bs M pc ls (vL y :: vL x :: st) h Q := by
  intro p e s m args below meth c R H locs cells slots A F r z l lo hc hs
  exact lv_lmul F.2.2.1 F.2.2.2.1 hd  (k p e s m args below meth c R H locs cells slots A F r z l lo hc hs)
theorem g_ldiv {x y : Int64} (hd : decode M.2.1 pc = .ok (.ldiv, 1)) (hne : ¬ y = 0) (k : G E d bc bs M (pc + 1) ls (vL (x / y) :: st) h Q) : G E d bc bs M pc ls (vL y :: vL x :: st) h Q := by
  intro p e s m args below meth c R H locs cells slots A F r z l lo hc hs
  exact lv_ldiv F.2.2.1 F.2.2.2.1 hd hne (k p e s m args below meth c R H locs cells slots A F r z l lo hc hs)
theorem g_lrem {x y : Int64} (hd : decode M.2.1 pc = .ok (.lrem, 1)) (hne : ¬ y = 0) (k : G E d bc bs M (pc + 1) ls (vL (x - x / y * y) :: st) h Q) : G E d bc bs M pc ls (vL y :: vL x :: st) h Q := by
  intro p e s m args below meth c R H locs cells slots A F r z l lo hc hs
  exact lv_lrem F.2.2.1 F.2.2.2.1 hd hne (k p e s m args below meth c R H locs cells slots A F r z l lo hc hs)
theorem g_lshl {x : Int64} {y : Int32} (hd : decode M.2.1 pc = .ok (.lshl, 1)) (k : G E d bc bs M (pc + 1) ls (vL (x <<< (y.toInt64 &&& 63)) :: st) h Q) : G E d bc bs M pc ls (vI y :: vL x :: st) h Q := by
  intro p e s m args below meth c R H locs cells slots A F r z l lo hc hs
  exact lv_lshl F.2.2.1 F.2.2.2.1 hd rfl (k p e s m args below meth c R H locs cells slots A F r z l lo hc hs)
theorem g_lcmp {x y : Int64} (hd : decode M.2.1 pc = .ok (.lcmp, 1)) (k : G E d bc bs M (pc + 1) ls (vI (lg_cmp x y) :: st) h Q) : G E d bc bs M pc ls (vL y :: vL x :: st) h Q := by
  intro p e s m args below meth c R H locs cells slots A F r z l lo hc hs
  exact W.lcmp F.2.2.1 F.2.2.2.1 hd  (k p e s m args below meth c R H locs cells slots A F r z l lo hc hs)
theorem g_i2l {x : Int32} (hd : decode M.2.1 pc = .ok (.i2l, 1)) (k : G E d bc bs M (pc + 1) ls (vL x.toInt64 :: st) h Q) : G E d bc bs M pc ls (vI x :: st) h Q := by
  intro p e s m args below meth c R H locs cells slots A F r z l lo hc hs
  exact lv_i2l F.2.2.1 F.2.2.2.1 hd rfl (k p e s m args below meth c R H locs cells slots A F r z l lo hc hs)
theorem g_l2i {x : Int64} (hd : decode M.2.1 pc = .ok (.l2i, 1)) (k : G E d bc bs M (pc + 1) ls (vI x.toInt32 :: st) h Q) : G E d bc bs M pc ls (vL x :: st) h Q := by
  intro p e s m args below meth c R H locs cells slots A F r z l lo hc hs
  exact lv_l2i F.2.2.1 F.2.2.2.1 hd rfl (k p e s m args below meth c R H locs cells slots A F r z l lo hc hs)
theorem g_i2b {x : Int32} (hd : decode M.2.1 pc = .ok (.i2b, 1)) (k : G E d bc bs M (pc + 1) ls (vI x.toInt8.toInt32 :: st) h Q) : G E d bc bs M pc ls (vI x :: st) h Q := by
  intro p e s m args below meth c R H locs cells slots A F r z l lo hc hs
  exact lv_i2b F.2.2.1 F.2.2.2.1 hd rfl (k p e s m args below meth c R H locs cells slots A F r z l lo hc hs)
theorem g_i2c {x : Int32} (hd : decode M.2.1 pc = .ok (.i2c, 1)) (k : G E d bc bs M (pc + 1) ls (vI (x.toUInt32 % 65536).toInt32 :: st) h Q) : G E d bc bs M pc ls (vI x :: st) h Q := by
  intro p e s m args below meth c R H locs cells slots A F r z l lo hc hs
  exact lv_i2c F.2.2.1 F.2.2.2.1 hd rfl (k p e s m args below meth c R H locs cells slots A F r z l lo hc hs)
def j_c1 (v : jV) : Bool := match v with
  | .inr (.inl _) => false
  | _ => true
theorem j_c1v {v : jV} (h : j_c1 v = true) : (j_v v).category = 1 := by
  match v, h with
  | .inl x, _ => rfl
  | .inr (.inr none), _ => rfl
  | .inr (.inr (some a)), _ => rfl
theorem g_dup {v : jV} (hd : decode M.2.1 pc = .ok (.dup, 1)) (h1 : j_c1 v = true) (k : G E d bc bs M (pc + 1) ls (v :: v :: st) h Q) : G E d bc bs M pc ls (v :: st) h Q := by
  intro p e s m args below meth c R H locs cells slots A F r z l lo hc hs
  exact lv_dup F.2.2.1 F.2.2.2.1 hd (j_c1v h1) (k p e s m args below meth c R H locs cells slots A F r z l lo hc hs)
theorem g_pop {v : jV} (hd : decode M.2.1 pc = .ok (.pop, 1)) (h1 : j_c1 v = true) (k : G E d bc bs M (pc + 1) ls (st) h Q) : G E d bc bs M pc ls (v :: st) h Q := by
  intro p e s m args below meth c R H locs cells slots A F r z l lo hc hs
  exact lv_pop F.2.2.1 F.2.2.2.1 hd (j_c1v h1) (k p e s m args below meth c R H locs cells slots A F r z l lo hc hs)
theorem g_dup_x1 {v w : jV} (hd : decode M.2.1 pc = .ok (.dup_x1, 1)) (h1 : j_c1 v = true) (h2 : j_c1 w = true) (k : G E d bc bs M (pc + 1) ls (v :: w :: v :: st) h Q) : G E d bc bs M pc ls (v :: w :: st) h Q := by
  intro p e s m args below meth c R H locs cells slots A F r z l lo hc hs
  exact lv_dup_x1 F.2.2.1 F.2.2.2.1 hd (j_c1v h1) (j_c1v h2) (k p e s m args below meth c R H locs cells slots A F r z l lo hc hs)
theorem g_dup_x2 {v w u : jV} (hd : decode M.2.1 pc = .ok (.dup_x2, 1)) (h1 : j_c1 v = true) (h2 : j_c1 w = true) (h3 : j_c1 u = true) (k : G E d bc bs M (pc + 1) ls (v :: w :: u :: v :: st) h Q) : G E d bc bs M pc ls (v :: w :: u :: st) h Q := by
  intro p e s m args below meth c R H locs cells slots A F r z l lo hc hs
  exact lv_dup_x2 F.2.2.1 F.2.2.2.1 hd (j_c1v h1) (j_c1v h2) (j_c1v h3) (k p e s m args below meth c R H locs cells slots A F r z l lo hc hs)
theorem g_dup2 {v w : jV} (hd : decode M.2.1 pc = .ok (.dup2, 1)) (h1 : j_c1 v = true) (h2 : j_c1 w = true) (k : G E d bc bs M (pc + 1) ls (v :: w :: v :: w :: st) h Q) : G E d bc bs M pc ls (v :: w :: st) h Q := by
  intro p e s m args below meth c R H locs cells slots A F r z l lo hc hs
  exact lv_dup2_11 F.2.2.1 F.2.2.2.1 hd (j_c1v h1) (j_c1v h2) (k p e s m args below meth c R H locs cells slots A F r z l lo hc hs)
theorem g_if_eq {x : Int32} {off : Int} (tgt : Nat) (hd : decode M.2.1 pc = .ok (.ifCond .eq off, 3)) (ht : (pc : Int) + off = (tgt : Int)) (kt : x = 0 → G E d bc bs M tgt ls st h Q) (kf : ¬ x = 0 → G E d bc bs M (pc + 3) ls st h Q) : G E d bc bs M pc ls (vI x :: st) h Q := by
  intro p e s m args below meth c R H locs cells slots A F r z l lo hc hs
  exact lv_if_eq F.2.2.1 F.2.2.2.1 hd ht (fun q => kt q p e s m args below meth c R H locs cells slots A F r z l lo hc hs) (fun q => kf q p e s m args below meth c R H locs cells slots A F r z l lo hc hs)
theorem g_icmp_eq {x y : Int32} {off : Int} (tgt : Nat) (hd : decode M.2.1 pc = .ok (.if_icmp .eq off, 3)) (ht : (pc : Int) + off = (tgt : Int)) (kt : x = y → G E d bc bs M tgt ls st h Q) (kf : ¬ x = y → G E d bc bs M (pc + 3) ls st h Q) : G E d bc bs M pc ls (vI y :: vI x :: st) h Q := by
  intro p e s m args below meth c R H locs cells slots A F r z l lo hc hs
  exact lv_icmp_eq F.2.2.1 F.2.2.2.1 hd ht (fun q => kt q p e s m args below meth c R H locs cells slots A F r z l lo hc hs) (fun q => kf q p e s m args below meth c R H locs cells slots A F r z l lo hc hs)
theorem g_if_ne {x : Int32} {off : Int} (tgt : Nat) (hd : decode M.2.1 pc = .ok (.ifCond .ne off, 3)) (ht : (pc : Int) + off = (tgt : Int)) (kt : ¬ x = 0 → G E d bc bs M tgt ls st h Q) (kf : x = 0 → G E d bc bs M (pc + 3) ls st h Q) : G E d bc bs M pc ls (vI x :: st) h Q := by
  intro p e s m args below meth c R H locs cells slots A F r z l lo hc hs
  exact lv_if_ne F.2.2.1 F.2.2.2.1 hd ht (fun q => kt q p e s m args below meth c R H locs cells slots A F r z l lo hc hs) (fun q => kf q p e s m args below meth c R H locs cells slots A F r z l lo hc hs)
theorem g_icmp_ne {x y : Int32} {off : Int} (tgt : Nat) (hd : decode M.2.1 pc = .ok (.if_icmp .ne off, 3)) (ht : (pc : Int) + off = (tgt : Int)) (kt : ¬ x = y → G E d bc bs M tgt ls st h Q) (kf : x = y → G E d bc bs M (pc + 3) ls st h Q) : G E d bc bs M pc ls (vI y :: vI x :: st) h Q := by
  intro p e s m args below meth c R H locs cells slots A F r z l lo hc hs
  exact lv_icmp_ne F.2.2.1 F.2.2.2.1 hd ht (fun q => kt q p e s m args below meth c R H locs cells slots A F r z l lo hc hs) (fun q => kf q p e s m args below meth c R H locs cells slots A F r z l lo hc hs)
theorem g_if_lt {x : Int32} {off : Int} (tgt : Nat) (hd : decode M.2.1 pc = .ok (.ifCond .lt off, 3)) (ht : (pc : Int) + off = (tgt : Int)) (kt : x < 0 → G E d bc bs M tgt ls st h Q) (kf : ¬ x < 0 → G E d bc bs M (pc + 3) ls st h Q) : G E d bc bs M pc ls (vI x :: st) h Q := by
  intro p e s m args below meth c R H locs cells slots A F r z l lo hc hs
  exact lv_if_lt F.2.2.1 F.2.2.2.1 hd ht (fun q => kt q p e s m args below meth c R H locs cells slots A F r z l lo hc hs) (fun q => kf q p e s m args below meth c R H locs cells slots A F r z l lo hc hs)
theorem g_icmp_lt {x y : Int32} {off : Int} (tgt : Nat) (hd : decode M.2.1 pc = .ok (.if_icmp .lt off, 3)) (ht : (pc : Int) + off = (tgt : Int)) (kt : x < y → G E d bc bs M tgt ls st h Q) (kf : ¬ x < y → G E d bc bs M (pc + 3) ls st h Q) : G E d bc bs M pc ls (vI y :: vI x :: st) h Q := by
  intro p e s m args below meth c R H locs cells slots A F r z l lo hc hs
  exact lv_icmp_lt F.2.2.1 F.2.2.2.1 hd ht (fun q => kt q p e s m args below meth c R H locs cells slots A F r z l lo hc hs) (fun q => kf q p e s m args below meth c R H locs cells slots A F r z l lo hc hs)
theorem g_if_ge {x : Int32} {off : Int} (tgt : Nat) (hd : decode M.2.1 pc = .ok (.ifCond .ge off, 3)) (ht : (pc : Int) + off = (tgt : Int)) (kt : 0 ≤ x → G E d bc bs M tgt ls st h Q) (kf : ¬ 0 ≤ x → G E d bc bs M (pc + 3) ls st h Q) : G E d bc bs M pc ls (vI x :: st) h Q := by
  intro p e s m args below meth c R H locs cells slots A F r z l lo hc hs
  exact lv_if_ge F.2.2.1 F.2.2.2.1 hd ht (fun q => kt q p e s m args below meth c R H locs cells slots A F r z l lo hc hs) (fun q => kf q p e s m args below meth c R H locs cells slots A F r z l lo hc hs)
theorem g_icmp_ge {x y : Int32} {off : Int} (tgt : Nat) (hd : decode M.2.1 pc = .ok (.if_icmp .ge off, 3)) (ht : (pc : Int) + off = (tgt : Int)) (kt : y ≤ x → G E d bc bs M tgt ls st h Q) (kf : ¬ y ≤ x → G E d bc bs M (pc + 3) ls st h Q) : G E d bc bs M pc ls (vI y :: vI x :: st) h Q := by
  intro p e s m args below meth c R H locs cells slots A F r z l lo hc hs
  exact lv_icmp_ge F.2.2.1 F.2.2.2.1 hd ht (fun q => kt q p e s m args below meth c R H locs cells slots A F r z l lo hc hs) (fun q => kf q p e s m args below meth c R H locs cells slots A F r z l lo hc hs)
theorem g_if_gt {x : Int32} {off : Int} (tgt : Nat) (hd : decode M.2.1 pc = .ok (.ifCond .gt off, 3)) (ht : (pc : Int) + off = (tgt : Int)) (kt : 0 < x → G E d bc bs M tgt ls st h Q) (kf : ¬ 0 < x → G E d bc bs M (pc + 3) ls st h Q) : G E d bc bs M pc ls (vI x :: st) h Q := by
  intro p e s m args below meth c R H locs cells slots A F r z l lo hc hs
  exact lv_if_gt F.2.2.1 F.2.2.2.1 hd ht (fun q => kt q p e s m args below meth c R H locs cells slots A F r z l lo hc hs) (fun q => kf q p e s m args below meth c R H locs cells slots A F r z l lo hc hs)
theorem g_icmp_gt {x y : Int32} {off : Int} (tgt : Nat) (hd : decode M.2.1 pc = .ok (.if_icmp .gt off, 3)) (ht : (pc : Int) + off = (tgt : Int)) (kt : y < x → G E d bc bs M tgt ls st h Q) (kf : ¬ y < x → G E d bc bs M (pc + 3) ls st h Q) : G E d bc bs M pc ls (vI y :: vI x :: st) h Q := by
  intro p e s m args below meth c R H locs cells slots A F r z l lo hc hs
  exact lv_icmp_gt F.2.2.1 F.2.2.2.1 hd ht (fun q => kt q p e s m args below meth c R H locs cells slots A F r z l lo hc hs) (fun q => kf q p e s m args below meth c R H locs cells slots A F r z l lo hc hs)
theorem g_if_le {x : Int32} {off : Int} (tgt : Nat) (hd : decode M.2.1 pc = .ok (.ifCond .le off, 3)) (ht : (pc : Int) + off = (tgt : Int)) (kt : x ≤ 0 → G E d bc bs M tgt ls st h Q) (kf : ¬ x ≤ 0 → G E d bc bs M (pc + 3) ls st h Q) : G E d bc bs M pc ls (vI x :: st) h Q := by
  intro p e s m args below meth c R H locs cells slots A F r z l lo hc hs
  exact lv_if_le F.2.2.1 F.2.2.2.1 hd ht (fun q => kt q p e s m args below meth c R H locs cells slots A F r z l lo hc hs) (fun q => kf q p e s m args below meth c R H locs cells slots A F r z l lo hc hs)
theorem g_icmp_le {x y : Int32} {off : Int} (tgt : Nat) (hd : decode M.2.1 pc = .ok (.if_icmp .le off, 3)) (ht : (pc : Int) + off = (tgt : Int)) (kt : x ≤ y → G E d bc bs M tgt ls st h Q) (kf : ¬ x ≤ y → G E d bc bs M (pc + 3) ls st h Q) : G E d bc bs M pc ls (vI y :: vI x :: st) h Q := by
  intro p e s m args below meth c R H locs cells slots A F r z l lo hc hs
  exact lv_icmp_le F.2.2.1 F.2.2.2.1 hd ht (fun q => kt q p e s m args below meth c R H locs cells slots A F r z l lo hc hs) (fun q => kf q p e s m args below meth c R H locs cells slots A F r z l lo hc hs)
def bI (b : Bool) : Int32 := if b then 1 else 0
theorem bI_0 {b : Bool} (q : bI b = 0) : b = false := by cases b <;> first | rfl | exact absurd q (by decide)
theorem bI_1 {b : Bool} (q : ¬ bI b = 0) : b = true := by cases b <;> first | rfl | exact absurd (by decide) q
theorem g_ifB_eq {x : Bool} {off : Int} (tgt : Nat) (hd : decode M.2.1 pc = .ok (.ifCond .eq off, 3)) (ht : (pc : Int) + off = (tgt : Int)) (kt : x = false → G E d bc bs M tgt ls st h Q) (kf : x = true → G E d bc bs M (pc + 3) ls st h Q) : G E d bc bs M pc ls (vI (bI x) :: st) h Q := g_if_eq tgt hd ht (fun q => kt (bI_0 q)) (fun q => kf (bI_1 q))
theorem g_ifB_ne {x : Bool} {off : Int} (tgt : Nat) (hd : decode M.2.1 pc = .ok (.ifCond .ne off, 3)) (ht : (pc : Int) + off = (tgt : Int)) (kt : x = true → G E d bc bs M tgt ls st h Q) (kf : x = false → G E d bc bs M (pc + 3) ls st h Q) : G E d bc bs M pc ls (vI (bI x) :: st) h Q := g_if_ne tgt hd ht (fun q => kt (bI_1 q)) (fun q => kf (bI_0 q))
theorem g_goto {off : Int} (tgt : Nat) (hd : decode M.2.1 pc = .ok (.goto off, 3)) (ht : (pc : Int) + off = (tgt : Int)) (k : G E d bc bs M tgt ls st h Q) : G E d bc bs M pc ls st h Q := by
  intro p e s m args below meth c R H locs cells slots A F r z l lo hc hs
  exact lv_goto F.2.2.1 F.2.2.2.1 hd ht (k p e s m args below meth c R H locs cells slots A F r z l lo hc hs)
theorem g_ifnonnull {o : Option jN} {off : Int} (tgt : Nat) (hd : decode M.2.1 pc = .ok (.ifnonnull off, 3)) (ht : (pc : Int) + off = (tgt : Int)) (kt : ∀ a, o = some a → G E d bc bs M tgt ls st h Q) (kf : o = none → G E d bc bs M (pc + 3) ls st h Q) : G E d bc bs M pc ls (vQ o :: st) h Q := by
  intro p e s m args below meth c R H locs cells slots A F r z l lo hc hs
  cases o with
  | none => exact lv_ifnonnullN F.2.2.1 F.2.2.2.1 hd (kf rfl p e s m args below meth c R H locs cells slots A F r z l lo hc hs)
  | some a => exact lv_ifnonnull F.2.2.1 F.2.2.2.1 hd ht (kt a rfl p e s m args below meth c R H locs cells slots A F r z l lo hc hs)
theorem g_ifnull {o : Option jN} {off : Int} (tgt : Nat) (hd : decode M.2.1 pc = .ok (.ifnull off, 3)) (ht : (pc : Int) + off = (tgt : Int)) (kt : o = none → G E d bc bs M tgt ls st h Q) (kf : ∀ a, o = some a → G E d bc bs M (pc + 3) ls st h Q) : G E d bc bs M pc ls (vQ o :: st) h Q := by
  intro p e s m args below meth c R H locs cells slots A F r z l lo hc hs
  cases o with
  | none => exact lv_ifnullN F.2.2.1 F.2.2.2.1 hd ht (kt rfl p e s m args below meth c R H locs cells slots A F r z l lo hc hs)
  | some a => exact lv_ifnull F.2.2.1 F.2.2.2.1 hd (kf a rfl p e s m args below meth c R H locs cells slots A F r z l lo hc hs)
theorem j_rf (o : Option jN) : j_v (vQ o) = va_rf (o.map Prod.snd) := by cases o <;> rfl
theorem g_acmp_eq {x y : Option jN} {off : Int} (tgt : Nat) (hd : decode M.2.1 pc = .ok (.if_acmp .eq off, 3)) (ht : (pc : Int) + off = (tgt : Int)) (kt : (x.map Prod.snd = y.map Prod.snd) → G E d bc bs M tgt ls st h Q) (kf : ¬ (x.map Prod.snd = y.map Prod.snd) → G E d bc bs M (pc + 3) ls st h Q) : G E d bc bs M pc ls (vQ y :: vQ x :: st) h Q := by
  intro p e s m args below meth c R H locs cells slots A F r z l lo hc hs
  show W _ _ _ _ _ _ _ _ _ _ _ _ _ _ _ (F0 m pc A (j_v (vQ y) :: j_v (vQ x) :: st.map j_v))
  rw [j_rf, j_rf]
  exact lv_acmp_eq F.2.2.1 F.2.2.2.1 hd ht (fun q => kt q p e s m args below meth c R H locs cells slots A F r z l lo hc hs) (fun q => kf q p e s m args below meth c R H locs cells slots A F r z l lo hc hs)
theorem g_acmp_ne {x y : Option jN} {off : Int} (tgt : Nat) (hd : decode M.2.1 pc = .ok (.if_acmp .ne off, 3)) (ht : (pc : Int) + off = (tgt : Int)) (kt : ¬ (x.map Prod.snd = y.map Prod.snd) → G E d bc bs M tgt ls st h Q) (kf : (x.map Prod.snd = y.map Prod.snd) → G E d bc bs M (pc + 3) ls st h Q) : G E d bc bs M pc ls (vQ y :: vQ x :: st) h Q := by
  intro p e s m args below meth c R H locs cells slots A F r z l lo hc hs
  show W _ _ _ _ _ _ _ _ _ _ _ _ _ _ _ (F0 m pc A (j_v (vQ y) :: j_v (vQ x) :: st.map j_v))
  rw [j_rf, j_rf]
  exact lv_acmp_ne F.2.2.1 F.2.2.2.1 hd ht (fun q => kt q p e s m args below meth c R H locs cells slots A F r z l lo hc hs) (fun q => kf q p e s m args below meth c R H locs cells slots A F r z l lo hc hs)
theorem g_lookup {dflt : Int} {ps : Array (Int × Int)} {len : Nat} {x : Int32} {off : Int} (tgt : Nat) (hd : decode M.2.1 pc = .ok (.lookupswitch dflt ps, len)) (hp : (ps.toList.zip (ps.toList.drop 1)).all (fun (a, next) => a.1 < next.1) = true) (ho : Op.lookupswitch.offset ps.toList dflt x.toInt = off) (ht : (pc : Int) + off = (tgt : Int)) (k : G E d bc bs M tgt ls st h Q) : G E d bc bs M pc ls (vI x :: st) h Q := by
  intro p e s m args below meth c R H locs cells slots A F r z l lo hc hs
  exact lv_lookup F.2.2.1 F.2.2.2.1 hd hp ho ht (k p e s m args below meth c R H locs cells slots A F r z l lo hc hs)
theorem g_tableOut {dflt lo hi : Int} {offs : Array Int} {len : Nat} {x : Int32} (tgt : Nat) (hd : decode M.2.1 pc = .ok (.tableswitch dflt lo hi offs, len)) (h1 : x.toInt < lo ∨ hi < x.toInt) (ht : (pc : Int) + dflt = (tgt : Int)) (k : G E d bc bs M tgt ls st h Q) : G E d bc bs M pc ls (vI x :: st) h Q := by
  intro p e s m args below meth c R H locs cells slots A F r z l lo hc hs
  exact lv_tableOut F.2.2.1 F.2.2.2.1 hd h1 ht (k p e s m args below meth c R H locs cells slots A F r z l lo hc hs)
theorem g_tableIn {dflt lo hi : Int} {offs : Array Int} {len : Nat} {x : Int32} {off : Int} (tgt : Nat) (hd : decode M.2.1 pc = .ok (.tableswitch dflt lo hi offs, len)) (h1 : ¬ x.toInt < lo) (h2 : ¬ hi < x.toInt) (ho : offs[(x.toInt - lo).toNat]? = some off) (ht : (pc : Int) + off = (tgt : Int)) (k : G E d bc bs M tgt ls st h Q) : G E d bc bs M pc ls (vI x :: st) h Q := by
  intro p e s m args below meth c R H locs cells slots A F r z l lo hc hs
  exact lv_tableIn F.2.2.1 F.2.2.2.1 hd h1 h2 ho ht (k p e s m args below meth c R H locs cells slots A F r z l lo hc hs)
end

/-! stores into locals -/
def jps (ls : List (Option jV)) : List (Nat × Value) := (List.range ls.length).filterMap (fun i => match ls[i]? with
  | some (some v) => some (i, j_v v)
  | _ => none)
theorem mem_jps {ls : List (Option jV)} {i : Nat} {v : jV} (h : ls[i]? = some (some v)) : (i, j_v v) ∈ jps ls := by
  refine List.mem_filterMap.mpr ⟨i, List.mem_range.mpr (List.getElem?_eq_some_iff.mp h).1, ?_⟩
  rw [h]
theorem jps_mem {ls : List (Option jV)} {q : Nat × Value} (h : q ∈ jps ls) : ∃ v, ls[q.1]? = some (some v) ∧ q.2 = j_v v := by
  obtain ⟨i, -, h2⟩ := List.mem_filterMap.mp h
  cases e : ls[i]? with
  | none => rw [e] at h2; cases h2
  | some u =>
    cases u with
    | none => rw [e] at h2; cases h2
    | some v =>
      rw [e] at h2
      cases h2
      exact ⟨v, e, rfl⟩
theorem jL.has {A : Array Slot} {n : Nat} {ls : List (Option jV)} (h : jL A n ls) : lv_has A n (jps ls) := by
  refine ⟨h.1, h.2.1, fun q hq => ?_⟩
  obtain ⟨v, h1, h2⟩ := jps_mem hq
  rw [h2]
  exact h.2.2 _ _ h1
def j_ok (ls : List (Option jV)) (i : Nat) : Bool := match i with
  | 0 => true
  | j + 1 => match ls[j]? with
    | some (some (.inr (.inl _))) => false
    | _ => true
theorem j_okc {ls : List (Option jV)} {i j : Nat} {v : jV} (h : j_ok ls i = true) (hj : j + 1 = i) (hv : ls[j]? = some (some v)) : (j_v v).category = 1 := by
  subst hj
  have h2 : (match ls[j]? with
    | some (some (.inr (.inl _))) => false
    | _ => true) = true := h
  rw [hv] at h2
  match v, h2 with
  | .inl x, _ => rfl
  | .inr (.inr none), _ => rfl
  | .inr (.inr (some a)), _ => rfl
theorem jL.st1 {A : Array Slot} {n i : Nat} {ls : List (Option jV)} {v : jV} {w : Value} (hl : lv_has A n ((i, w) :: (jps ls).filter (fun q => !(q.1 == i) && !(q.1 + 1 == i && q.2.category == 2)))) (hw : w = j_v v) (hok : j_ok ls i = true) : jL A n (ls.set i (some v)) := by
  refine ⟨hl.1, hl.2.1, fun j u hj => ?_⟩
  by_cases e : j = i
  · subst e
    rw [List.getElem?_set_self' ] at hj
    have hu : u = v := by
      cases e2 : ls[j]? with
      | none => rw [e2] at hj; cases hj
      | some z => rw [e2] at hj; cases hj; rfl
    subst hu
    rw [← hw]
    exact hl.2.2 (j, w) List.mem_cons_self
  · rw [List.getElem?_set_ne (fun q => e q.symm)] at hj
    refine hl.2.2 (j, j_v u) (List.mem_cons_of_mem _ (List.mem_filter.mpr ⟨mem_jps hj, ?_⟩))
    have h1 : (j == i) = false := by simpa using e
    by_cases e2 : j + 1 = i
    · have h2 := j_okc hok e2 hj
      simp [h1, h2]
    · have h2 : (j + 1 == i) = false := by simpa using e2
      simp [h1, h2]
theorem jL.st2 {A : Array Slot} {n i : Nat} {ls : List (Option jV)} {v : jV} {w : Value} (hl : lv_has A n ((i, w) :: (jps ls).filter (fun q => !(q.1 == i) && (!(q.1 == i + 1) && !(q.1 + 1 == i && q.2.category == 2))))) (hw : w = j_v v) (hok : j_ok ls i = true) : jL A n ((ls.set i (some v)).set (i + 1) none) := by
  refine ⟨hl.1, hl.2.1, fun j u hj => ?_⟩
  by_cases e0 : j = i + 1
  · subst e0
    rw [List.getElem?_set_self'] at hj
    cases e2 : (ls.set i (some v))[i + 1]? with
    | none => rw [e2] at hj; cases hj
    | some z => rw [e2] at hj; cases hj
  · rw [List.getElem?_set_ne (fun q => e0 q.symm)] at hj
    by_cases e : j = i
    · subst e
      rw [List.getElem?_set_self' ] at hj
      have hu : u = v := by
        cases e2 : ls[j]? with
        | none => rw [e2] at hj; cases hj
        | some z => rw [e2] at hj; cases hj; rfl
      subst hu
      rw [← hw]
      exact hl.2.2 (j, w) List.mem_cons_self
    · rw [List.getElem?_set_ne (fun q => e q.symm)] at hj
      refine hl.2.2 (j, j_v u) (List.mem_cons_of_mem _ (List.mem_filter.mpr ⟨mem_jps hj, ?_⟩))
      have h1 : (j == i) = false := by simpa using e
      have h0 : (j == i + 1) = false := by simpa using e0
      by_cases e2 : j + 1 = i
      · have h2 := j_okc hok e2 hj
        simp [h0, h1, h2]
      · have h2 : (j + 1 == i) = false := by simpa using e2
        simp [h0, h1, h2]
section
variable {E : jE} {d bc bs : Nat} {M : jM} {pc : Nat} {ls ls' : List (Option jV)} {st : List jV} {h : jH} {Q : jR → jH → Prop}
theorem g_istore_n {i : Fin 4} {x : Int32} (hd : decode M.2.1 pc = .ok (.istore_n i, 1)) (hn : (i : Nat) < M.2.2.1) (hok : j_ok ls i = true) (he : ls.set i (some (vI x)) = ls') (k : G E d bc bs M (pc + 1) ls' st h Q) : G E d bc bs M pc ls (vI x :: st) h Q := by
  subst he
  intro p e s m args below meth c R H locs cells slots A F r z l lo hc hs
  exact lv_istore_n F.2.2.1 F.2.2.2.1 hd rfl l.has hn rfl (fun A' hl => k p e s m args below meth c R H locs cells slots A' F r z (jL.st1 hl rfl hok) lo hc hs)
theorem g_istore {i : Nat} {x : Int32} (hd : decode M.2.1 pc = .ok (.istore i, 2)) (hn : i < M.2.2.1) (hok : j_ok ls i = true) (he : ls.set i (some (vI x)) = ls') (k : G E d bc bs M (pc + 2) ls' st h Q) : G E d bc bs M pc ls (vI x :: st) h Q := by
  subst he
  intro p e s m args below meth c R H locs cells slots A F r z l lo hc hs
  exact lv_istore F.2.2.1 F.2.2.2.1 hd l.has hn rfl (fun A' hl => k p e s m args below meth c R H locs cells slots A' F r z (jL.st1 hl rfl hok) lo hc hs)
theorem g_lstore_n {i : Fin 4} {x : Int64} (hd : decode M.2.1 pc = .ok (.lstore_n i, 1)) (hn : (i : Nat) + 1 < M.2.2.1) (hok : j_ok ls i = true) (he : (ls.set i (some (vL x))).set (i + 1) none = ls') (k : G E d bc bs M (pc + 1) ls' st h Q) : G E d bc bs M pc ls (vL x :: st) h Q := by
  subst he
  intro p e s m args below meth c R H locs cells slots A F r z l lo hc hs
  exact lv_lstore_n F.2.2.1 F.2.2.2.1 hd rfl l.has hn rfl (fun A' hl => k p e s m args below meth c R H locs cells slots A' F r z (jL.st2 hl rfl hok) lo hc hs)
theorem g_lstore {i : Nat} {x : Int64} (hd : decode M.2.1 pc = .ok (.lstore i, 2)) (hn : i + 1 < M.2.2.1) (hok : j_ok ls i = true) (he : (ls.set i (some (vL x))).set (i + 1) none = ls') (k : G E d bc bs M (pc + 2) ls' st h Q) : G E d bc bs M pc ls (vL x :: st) h Q := by
  subst he
  intro p e s m args below meth c R H locs cells slots A F r z l lo hc hs
  exact lv_lstore F.2.2.1 F.2.2.2.1 hd l.has hn rfl (fun A' hl => k p e s m args below meth c R H locs cells slots A' F r z (jL.st2 hl rfl hok) lo hc hs)
theorem g_astore_n {i : Fin 4} {o : Option jN} (hd : decode M.2.1 pc = .ok (.astore_n i, 1)) (hn : (i : Nat) < M.2.2.1) (hok : j_ok ls i = true) (he : ls.set i (some (vQ o)) = ls') (k : G E d bc bs M (pc + 1) ls' st h Q) : G E d bc bs M pc ls (vQ o :: st) h Q := by
  subst he
  intro p e s m args below meth c R H locs cells slots A F r z l lo hc hs
  cases o with
  | none => exact lv_astore_nN F.2.2.1 F.2.2.2.1 hd rfl l.has hn rfl (fun A' hl => k p e s m args below meth c R H locs cells slots A' F r z (jL.st1 hl rfl hok) lo hc hs)
  | some a => exact lv_astore_n F.2.2.1 F.2.2.2.1 hd rfl l.has hn rfl (fun A' hl => k p e s m args below meth c R H locs cells slots A' F r z (jL.st1 hl rfl hok) lo hc hs)
theorem g_astore {i : Nat} {o : Option jN} (hd : decode M.2.1 pc = .ok (.astore i, 2)) (hn : i < M.2.2.1) (hok : j_ok ls i = true) (he : ls.set i (some (vQ o)) = ls') (k : G E d bc bs M (pc + 2) ls' st h Q) : G E d bc bs M pc ls (vQ o :: st) h Q := by
  subst he
  intro p e s m args below meth c R H locs cells slots A F r z l lo hc hs
  cases o with
  | none => exact lv_astoreN F.2.2.1 F.2.2.2.1 hd l.has hn rfl (fun A' hl => k p e s m args below meth c R H locs cells slots A' F r z (jL.st1 hl rfl hok) lo hc hs)
  | some a => exact lv_astore F.2.2.1 F.2.2.2.1 hd l.has hn rfl (fun A' hl => k p e s m args below meth c R H locs cells slots A' F r z (jL.st1 hl rfl hok) lo hc hs)
theorem g_iinc {i : Nat} {n : Int} {x v : Int32} (hd : decode M.2.1 pc = .ok (.iinc i n, 3)) (hl : ls[i]? = some (some (vI x))) (hv : x + Int32.ofInt n = v) (hn : i < M.2.2.1) (hok : j_ok ls i = true) (he : ls.set i (some (vI v)) = ls') (k : G E d bc bs M (pc + 3) ls' st h Q) : G E d bc bs M pc ls st h Q := by
  subst he
  intro p e s m args below meth c R H locs cells slots A F r z l lo hc hs
  obtain ⟨k0, hk0⟩ := List.getElem?_of_mem (mem_jps hl)
  exact lv_iinc (k := k0) F.2.2.1 F.2.2.2.1 hd l.has hk0 hv hn rfl (fun A' hl => k p e s m args below meth c R H locs cells slots A' F r z (jL.st1 hl rfl hok) lo hc hs)
/-! ends -/
theorem j_ret {p : Program} {e : Env} {R : Room} {s : State} {m : MethodId} {args : Array Value} {below : List Frame} {meth : Method} {c : Code} {H : Heap} {locs : List Loc} {cells slots : Nat} {g : JFrame} (hc : cells ≤ R.cells) (hs : slots ≤ R.slots)
    (k : W p (eL E) e R s m args below meth c H locs R.cells R.slots (MQ below (fun _ _ o t => ∃ (r : Option jV) (h : jH), Q (.inl r) h ∧ jRel E h t.heap ∧ o = .returned (r.map j_v)) args s R.cells R.slots (fun q => (eS E).heap.size ≤ q)) g) :
    W p (eL E) e R s m args below meth c H locs cells slots (jMQ E Q below s R.cells R.slots) g := by
  refine W.widen hc hs ?_
  intro T hT X
  obtain ⟨t, a1, o, b1, b2, ⟨r, h, q1, q2, q3⟩, L, hL, hf⟩ := k T hT X
  exact ⟨t, a1, o, b1, b2, Or.inl ⟨r, h, L, q1, q2, q3, hL, hf⟩⟩
theorem g_ireturn {x : Int32} {rt : FieldType} (hd : decode M.2.1 pc = .ok (.ireturn, 1)) (hr : M.2.2.2.1 = some rt) (hn : narrow rt (.int x) = .int x) (q : Q (.inl (some (vI x))) h) : G E d bc bs M pc ls [vI x] h Q := by
  intro p e s m args below meth c R H locs cells slots A F r z l lo hc hs
  exact j_ret (by omega) (by omega) (W.zret F.2.2.1 F.2.2.2.1 (F.2.2.2.2.2.1.trans hr) hn (fun t ht _ => ⟨some (vI x), h, q, by rw [ht]; exact r, rfl⟩) lo hd (hlocks := F.2.2.2.2.1))
theorem j_nb (b : Bool) : narrow .boolean (.int (bI b)) = .int (bI b) := by cases b <;> decide
theorem g_lreturn {x : Int64} (hd : decode M.2.1 pc = .ok (.lreturn, 1)) (hr : M.2.2.2.1 = some .long) (q : Q (.inl (some (vL x))) h) : G E d bc bs M pc ls [vL x] h Q := by
  intro p e s m args below meth c R H locs cells slots A F r z l lo hc hs
  exact j_ret (by omega) (by omega) (W.lret F.2.2.1 F.2.2.2.1 (F.2.2.2.2.2.1.trans hr) (fun t ht _ => ⟨some (vL x), h, q, by rw [ht]; exact r, rfl⟩) lo hd (hlocks := F.2.2.2.2.1))
theorem g_return (hd : decode M.2.1 pc = .ok (.return_, 1)) (hr : M.2.2.2.1 = none) (q : Q (.inl none) h) : G E d bc bs M pc ls [] h Q := by
  intro p e s m args below meth c R H locs cells slots A F r z l lo hc hs
  exact j_ret (by omega) (by omega) (W.vret F.2.2.1 F.2.2.2.1 (F.2.2.2.2.2.1.trans hr) (fun t ht _ => ⟨none, h, q, by rw [ht]; exact r, rfl⟩) lo hd (hlocks := F.2.2.2.2.1))
theorem j_isr (o : Option jN) : j_v (vQ o) = .null ∨ ∃ a, j_v (vQ o) = .ref a := by
  cases o with
  | none => exact Or.inl rfl
  | some a => exact Or.inr ⟨a.2, rfl⟩
theorem g_areturn {o : Option jN} {rt : FieldType} (hd : decode M.2.1 pc = .ok (.areturn, 1)) (hr : M.2.2.2.1 = some rt) (ht : (∃ n, rt = .object n) ∨ ∃ t, rt = .array t) (q : Q (.inl (some (vQ o))) h) : G E d bc bs M pc ls [vQ o] h Q := by
  intro p e s m args below meth c R H locs cells slots A F r z l lo hc hs
  exact j_ret (by omega) (by omega) (W.aret F.2.2.1 F.2.2.2.1 (F.2.2.2.2.2.1.trans hr) ht (j_isr o) (fun t ht _ => ⟨some (vQ o), h, q, by rw [ht]; exact r, rfl⟩) lo hd (hlocks := F.2.2.2.2.1))
/-! one may ask less -/
theorem g_mono {Q' : jR → jH → Prop} (hq : ∀ r h, Q r h → Q' r h) (k : G E d bc bs M pc ls st h Q) : G E d bc bs M pc ls st h Q' := by
  intro p e s m args below meth c R H locs cells slots A F r z l lo hc hs T hT X
  obtain ⟨t, a1, o, b1, b2, b3⟩ := k p e s m args below meth c R H locs cells slots A F r z l lo hc hs T hT X
  refine ⟨t, a1, o, b1, b2, ?_⟩
  rcases b3 with ⟨r, h, L, q1, q2⟩ | ⟨C, x, h, ce, L, q1, q2⟩
  · exact Or.inl ⟨r, h, L, hq _ _ q1, q2⟩
  · exact Or.inr ⟨C, x, h, ce, L, hq _ _ q1, q2⟩
theorem g_room {bc' bs' : Nat} (h1 : bc' ≤ bc) (h2 : bs' ≤ bs) (k : G E d bc' bs' M pc ls st h Q) : G E d bc bs M pc ls st h Q := by
  intro p e s m args below meth c R H locs cells slots A F r z l lo hc hs
  exact k p e s m args below meth c R H locs cells slots A F r z l lo (by omega) (by omega)
/-- fewer locals known -/
theorem g_locals (hl : ∀ (i : Nat) (v : jV), ls'[i]? = some (some v) → ls[i]? = some (some v)) (k : G E d bc bs M pc ls' st h Q) : G E d bc bs M pc ls st h Q := by
  intro p e s m args below meth c R H locs cells slots A F r z l lo hc hs
  exact k p e s m args below meth c R H locs cells slots A F r z ⟨l.1, l.2.1, fun i v hi => l.2.2 i v (hl i v hi)⟩ lo hc hs
/-- an int array's contents forgotten, and looked at again -/
theorem g_close {x : jN} {n : Nat} {f : Nat → Int32} (hx : h x = some (iA n f)) (k : G E d bc bs M pc ls st (hs h x (oS n)) Q) : G E d bc bs M pc ls st h Q := by
  intro p e s m args below meth c R H locs cells slots A F r z l lo hc hs
  exact k p e s m args below meth c R H locs cells slots A F (r.less hx ⟨f, r.1 _ _ hx⟩) z l lo hc hs
theorem g_open {x : jN} {n : Nat} (hx : h x = some (oS n)) (k : ∀ f : Nat → Int32, G E d bc bs M pc ls st (hs h x (iA n f)) Q) : G E d bc bs M pc ls st h Q := by
  intro p e s m args below meth c R H locs cells slots A F r z l lo hc hs
  obtain ⟨f, hf⟩ := r.1 _ _ hx
  exact k f p e s m args below meth c R H locs cells slots A F (r.less hx hf) z l lo hc hs
end
/-! fields and arrays -/
def jCls (ci : Nat) (C : String) (T : u_T) (N : Nat) (ty : Nat → FieldType) : Prop := gCl[ci]? = some (C, T, N) ∧ (∀ w ∈ u_ws C T N, w ∈ lw_all) ∧ (∀ k, k < N → parseFieldDescriptor (T k).2.2.1 = some (ty k)) ∧ (∀ a, a < N → ∀ b, b < N → a ≠ b → (T a).2.1 ≠ (T b).2.1)
/-- the pool's entry idx of the class own is the field k of class number ci -/
def jFl (own : String) (idx ci k : Nat) : Prop := ∃ (C : String) (T : u_T) (N : Nat) (ty : Nat → FieldType) (ref : String), jCls ci C T N ty ∧ k < N ∧
  (Cond.fieldLink own idx ref (T k).2.1 (T k).2.2.1 ∈ lw_all ∨ ∃ host : String, Cond.fieldLinkNest own idx ref (T k).2.1 (T k).2.2.1 host ∈ lw_tbl) ∧ (ref = (T k).1 ∨ Cond.sameField ref (T k).1 (T k).2.1 (T k).2.2.1 ∈ lw_all)
/-- .. may be written by own: not final (t0 its type) -/
def jFw (own : String) (idx ci k : Nat) (t0 : FieldType) : Prop := ∃ (C : String) (T : u_T) (N : Nat) (ty : Nat → FieldType) (ref : String), jCls ci C T N ty ∧ k < N ∧ ty k = t0 ∧ (T k).2.2.2 = false ∧
  (Cond.fieldLink own idx ref (T k).2.1 (T k).2.2.1 ∈ lw_all ∨ ∃ host : String, Cond.fieldLinkNest own idx ref (T k).2.1 (T k).2.2.1 host ∈ lw_tbl) ∧ (ref = (T k).1 ∨ Cond.sameField ref (T k).1 (T k).2.1 (T k).2.2.1 ∈ lw_all)
/-- .. final, own's, in its constructor -/
def jFf (own : String) (idx ci k : Nat) (t0 : FieldType) : Prop := ∃ (C : String) (T : u_T) (N : Nat) (ty : Nat → FieldType) (ref : String), jCls ci C T N ty ∧ k < N ∧ ty k = t0 ∧ (T k).2.2.2 = true ∧ (T k).1 = own ∧
  Cond.fieldLink own idx ref (T k).2.1 (T k).2.2.1 ∈ lw_all ∧ (ref = (T k).1 ∨ Cond.sameField ref (T k).1 (T k).2.1 (T k).2.2.1 ∈ lw_all)
theorem j_same {ref o n t : String} {args : Array Value} {s : State} (hs : ref = o ∨ Cond.sameField ref o n t ∈ lw_all) (hts : ∀ w ∈ lw_all, w.before args s = true) (x : ClassId × Class × Nat × Field) (hi : s.fieldFound? o n t = some x) : s.fieldFound? ref n t = some x := by
  rcases hs with rfl | hs
  · exact hi
  · exact u_same (hts _ hs) x hi
/-- a value may stand in a field or a row of the type t -/
def j_fit (t : FieldType) (v : jV) : Prop := narrow t (j_v v) = j_v v ∧ fits t (j_v v) = true
theorem j_fit_int (x : Int32) : j_fit .int (vI x) := ⟨rfl, rfl⟩
theorem j_fit_long (x : Int64) : j_fit .long (vL x) := ⟨rfl, rfl⟩
theorem j_fit_bool (b : Bool) : j_fit .boolean (vI (bI b)) := by cases b <;> exact ⟨rfl, by decide⟩
theorem j_fit_obj (C : String) (o : Option jN) : j_fit (.object C) (vQ o) := by cases o <;> exact ⟨rfl, rfl⟩
theorem j_fit_arr (t : FieldType) (o : Option jN) : j_fit (.array t) (vQ o) := by cases o <;> exact ⟨rfl, rfl⟩
theorem j_setD {fs : List jV} {k : Nat} (hl : k < fs.length) (v : jV) (j : Nat) : updV (fun q => j_v (fs.getD q vN)) k (j_v v) j = j_v ((fs.set k v).getD j vN) := by
  unfold updV
  by_cases e : j = k
  · subst e
    rw [if_pos rfl]
    simp [List.getD, hl]
  · rw [if_neg e]
    simp [List.getD, List.getElem?_set_ne (fun q => e q.symm)]
section
variable {E : jE} {d bc bs : Nat} {M : jM} {pc : Nat} {ls : List (Option jV)} {st : List jV} {h : jH} {Q : jR → jH → Prop}
theorem g_getfield {i ci k : Nat} {x : jN} {fs : List jV} {v : jV} (fl : jFl M.1.cls i ci k) (hd : decode M.2.1 pc = .ok (.getfield i, 3)) (hx : h x = some (oO ci fs)) (hv : fs[k]? = some v) (kk : G E d bc bs M (pc + 3) ls (v :: st) h Q) : G E d bc bs M pc ls (vR x :: st) h Q := by
  intro p e s m args below meth c R H locs cells slots A F r z l lo hc hs
  obtain ⟨C, T, N, ty, ref, ⟨hcl, hin, hty, hnm⟩, hk, hlink, hsame⟩ := fl
  obtain ⟨rr, h1, cell, q1, q2, q3, q4⟩ := r.1 _ _ hx
  cases Option.some.inj (h1.symm.trans hcl)
  have hts : ∀ w ∈ lw_all, w.before args s = true := fun w hw => j_w F.1 F.2.1 hw args
  obtain ⟨hS, hfc, kC, hkC, hkind⟩ := j_kn F.1 F.2.1 hcl
  obtain ⟨cf, kf, fi, f, hi, hsl⟩ := hS k hk
  have hi' := j_same hsame hts _ hi
  have hval : cell.slots[f.slot]? = some (j_v v) := by
    rw [hsl, q4 k hk]
    simp [List.getD, hv]
  have hst := (u_facts hfc hkC (u_lays hts hin hk) hi).1
  rcases hlink with hlink | ⟨host, hlink⟩
  · exact W.getf F.2.2.1 F.2.2.2.1 F.2.2.2.2.2.2.2.1 (hts _ hlink) hi' hst q1 (by rw [q3]; exact fun h => by cases h) (v := j_v v) hval rfl rfl hd (kk p e s m args below meth c R H locs cells slots A F r z l lo hc hs)
  · exact va_Wgetf F.2.2.1 F.2.2.2.1 F.2.2.2.2.2.2.2.1 (va_Nw.use rfl (va_Nw.warmF F.2.1 (va_Nw.of rfl (F.1.2.1 _ hlink)))) hi' hst q1 (by rw [q3]; exact fun h => by cases h) (v := j_v v) hval rfl rfl hd (kk p e s m args below meth c R H locs cells slots A F r z l lo hc hs)
theorem g_putfield {i ci k : Nat} {t0 : FieldType} {x : jN} {fs fs' : List jV} {v : jV} (fl : jFw M.1.cls i ci k t0) (hd : decode M.2.1 pc = .ok (.putfield i, 3)) (hx : h x = some (oO ci fs)) (hk' : k < fs.length) (hro : x.1 ≠ 0) (hf : j_fit t0 v) (he : fs.set k v = fs') (kk : G E d bc bs M (pc + 3) ls st (hs h x (oO ci fs')) Q) : G E d bc bs M pc ls (v :: vR x :: st) h Q := by
  subst he
  intro p e s m args below meth c R H locs cells slots A F r z l lo hc hs
  obtain ⟨C, T, N, ty, ref, ⟨hcl, hin, hty, hnm⟩, hk, ht0, hfin, hlink, hsame⟩ := fl
  obtain ⟨rr, h1, cell, q1, q2, q3, q4⟩ := r.1 _ _ hx
  cases Option.some.inj (h1.symm.trans hcl)
  have hts : ∀ w ∈ lw_all, w.before args s = true := fun w hw => j_w F.1 F.2.1 hw args
  have hKn := j_kn F.1 F.2.1 hcl
  obtain ⟨hS, hfc, kC, hkC, hkind⟩ := hKn
  have hap : ∀ a b, a < N → b < N → a ≠ b → eI E ci a ≠ eI E ci b := by
    intro a b ha hb hne
    obtain ⟨_, _, _, fa, hia, ea⟩ := hS a ha
    obtain ⟨_, _, _, fb, hib, eb⟩ := hS b hb
    rw [← ea, ← eb]
    refine u_apart (u_lays hts hin ha) (u_lays hts hin hb) hia hib ?_
    rw [(State.fieldFound?_type hia (hty a ha)).1, (State.fieldFound?_type hib (hty b hb)).1]
    exact hnm a ha b hb hne
  obtain ⟨cf, kf, fi, f, hi, hsl⟩ := hS k hk
  have hi' := j_same hsame hts _ hi
  have hlay := hts _ (hin _ (u_in_lay hk))
  unfold u_lay at hlay
  rw [if_neg (by rw [hfin]; decide)] at hlay
  have hst := (u_facts hfc hkC (u_lays hts hin hk) hi).1
  have h6 := u_store hfc hkC hkind hlay hi (hty k hk) (by rw [ht0]; exact hf.1) (by rw [ht0]; exact hf.2)
  have hlt : f.slot < cell.slots.size := by rw [hsl]; exact k2_hasslot (q4 k hk)
  have fin : ∀ H' : Heap, H'[x.2]? = some (cell.setSlot f.slot (j_v v)) → H'.size = H.size → (∀ q, q ≠ x.2 → H'[q]? = H[q]?) → W p (eL E) e R s m args below meth c H' (locs ++ [⟨x.2, f.slot⟩]) cells slots (jMQ E Q below s R.cells R.slots) (F0 m (pc + 3) A (st.map j_v)) := by
    intro H' e1 e2 e3
    rw [hsl] at e1
    refine kk p e s m args below meth c R H' _ cells slots A F (r.set hro hx ⟨_, hcl, t_OB.to (V := updV (fun q => j_v (fs.getD q vN)) k (j_v v)) ⟨_, e1, q2, q3, t_set q4 hap hk (j_v v)⟩ (fun j _ => j_setD hk' v j)⟩ e3) (by rw [e2]; exact z) l ?_ hc hs
    intro q hq
    rcases List.mem_append.mp hq with hq | hq
    · exact lo q hq
    · rw [List.mem_singleton.mp hq]
      exact r.2.2.1 _ _ hx hro
  rcases hlink with hlink | ⟨host, hlink⟩
  · exact W.putK F.2.2.1 F.2.2.2.1 (f := f) ⟨F.2.2.2.2.2.2.2.1, hts _ hlink, ⟨_, _, _, hi'⟩, hst⟩ (by rw [q2]; exact h6) q1 q3 hlt rfl rfl hd fin
  · exact va_WputK F.2.2.1 F.2.2.2.1 F.2.2.2.2.2.2.2.1 (va_Nw.use rfl (va_Nw.warmF F.2.1 (va_Nw.of rfl (F.1.2.1 _ hlink)))) hi' hst (by rw [q2]; exact h6) q1 q3 hlt rfl rfl hd fin
theorem g_putfinal {i ci k : Nat} {t0 : FieldType} {x : jN} {fs fs' : List jV} {v : jV} (fl : jFf M.1.cls i ci k t0) (hd : decode M.2.1 pc = .ok (.putfield i, 3)) (hx : h x = some (oO ci fs)) (hk' : k < fs.length) (hro : x.1 ≠ 0) (hf : j_fit t0 v) (hnm0 : M.1.name = "<init>") (he : fs.set k v = fs') (kk : G E d bc bs M (pc + 3) ls st (hs h x (oO ci fs')) Q) : G E d bc bs M pc ls (v :: vR x :: st) h Q := by
  subst he
  intro p e s m args below meth c R H locs cells slots A F r z l lo hc hs
  obtain ⟨C, T, N, ty, ref, ⟨hcl, hin, hty, hnm⟩, hk, ht0, hfin, hdecl, hlink, hsame⟩ := fl
  obtain ⟨rr, h1, cell, q1, q2, q3, q4⟩ := r.1 _ _ hx
  cases Option.some.inj (h1.symm.trans hcl)
  have hts : ∀ w ∈ lw_all, w.before args s = true := fun w hw => j_w F.1 F.2.1 hw args
  have hKn := j_kn F.1 F.2.1 hcl
  obtain ⟨hS, hfc, kC, hkC, hkind⟩ := hKn
  have hap : ∀ a b, a < N → b < N → a ≠ b → eI E ci a ≠ eI E ci b := by
    intro a b ha hb hne
    obtain ⟨_, _, _, fa, hia, ea⟩ := hS a ha
    obtain ⟨_, _, _, fb, hib, eb⟩ := hS b hb
    rw [← ea, ← eb]
    refine u_apart (u_lays hts hin ha) (u_lays hts hin hb) hia hib ?_
    rw [(State.fieldFound?_type hia (hty a ha)).1, (State.fieldFound?_type hib (hty b hb)).1]
    exact hnm a ha b hb hne
  obtain ⟨cf, kf, fi, f, hi, hsl⟩ := hS k hk
  have hi' := j_same hsame hts _ hi
  have hlay := hts _ (hin _ (u_in_lay hk))
  unfold u_lay at hlay
  rw [if_pos hfin] at hlay
  have hst := (u_facts hfc hkC (u_lays hts hin hk) hi).1
  have hcf : m.cls = cf := by
    obtain ⟨_, _, c', _, _, _, -, -, hf', -, -, -, hown2, -⟩ := Cond.laysFinal_spec hlay
    have e1 : c' = cf := by have := hi.symm.trans hf'; simp at this; exact this.1.symm
    rw [hdecl] at hown2
    rw [← e1]; exact Option.some.inj (F.2.2.2.2.2.2.2.1.symm.trans hown2)
  have h6 := u_fits hfc hkC hkind (Or.inr hlay) hi (hty k hk) (by rw [ht0]; exact hf.1) (by rw [ht0]; exact hf.2)
  refine W.putFinK F.2.2.1 F.2.2.2.1 F.2.2.2.2.2.2.2.1 (hts _ hlink) hi' hst hcf (F.2.2.2.2.2.2.2.2.1.trans hnm0) (by rw [q2]; exact h6) q1 q3 (by rw [hsl]; exact k2_hasslot (q4 k hk)) rfl rfl hd fun H' e1 e2 e3 => ?_
  rw [hsl] at e1
  refine kk p e s m args below meth c R H' _ cells slots A F (r.set hro hx ⟨_, hcl, t_OB.to (V := updV (fun q => j_v (fs.getD q vN)) k (j_v v)) ⟨_, e1, q2, q3, t_set q4 hap hk (j_v v)⟩ (fun j _ => j_setD hk' v j)⟩ e3) (by rw [e2]; exact z) l ?_ hc hs
  intro q hq
  rcases List.mem_append.mp hq with hq | hq
  · exact lo q hq
  · rw [List.mem_singleton.mp hq]
    exact r.2.2.1 _ _ hx hro
/-! arrays -/
def j_up {α : Type} (f : Nat → α) (k : Nat) (v : α) : Nat → α := fun j => if j = k then v else f j
theorem j_in {i : Int32} {j n : Nat} (hi : i = nI j) (hj : j < n) (hn : n < 2 ^ 31) (cA : ClassId) (f : Nat → Value) : ¬ (i < 0 ∨ (arrV cA n f).slots.size ≤ i.toNatClampNeg) ∧ i.toNatClampNeg = j := by
  subst hi
  have h1 : (nI j).toNatClampNeg = j := nI_clamp (by omega)
  refine ⟨?_, h1⟩
  rw [arrV_size]
  exact nI_in hj hn
theorem g_arraylength {x : jN} {t n : Nat} {f : (Nat → jV) ⊕ Unit} {ty : FieldType} (ht : gAt[t]? = some ty) (hd : decode M.2.1 pc = .ok (.arraylength, 1)) (hx : h x = some (Sum.inr (t, n, f))) (k : G E d bc bs M (pc + 1) ls (vI (nI n) :: st) h Q) : G E d bc bs M pc ls (vR x :: st) h Q := by
  intro p e s m args below meth c R H locs cells slots A F r z l lo hc hs
  have ha : ∃ g : Nat → Value, H[x.2]? = some (arrV (eA E t) n g) := by
    cases f with
    | inl f => exact ⟨_, r.1 _ _ hx⟩
    | inr u =>
      obtain ⟨g, hg⟩ := r.1 _ _ hx
      exact ⟨_, hg⟩
  obtain ⟨g, hg⟩ := ha
  exact W.alen (n := nI n) F.2.2.1 F.2.2.2.1 hg ((j_ar F.1 F.2.1 ht).1 n g) (by rw [arrV_size]; rfl) rfl rfl hd (k p e s m args below meth c R H locs cells slots A F r z l lo hc hs)
theorem g_iaload {x : jN} {i : Int32} {j n : Nat} {f : Nat → jV} {v : jV} (hd : decode M.2.1 pc = .ok (.iaload, 1)) (hx : h x = some (oA 0 n f)) (hi : i = nI j) (hj : j < n) (hn : n < 2 ^ 31) (hv : f j = v) (k : G E d bc bs M (pc + 1) ls (v :: st) h Q) : G E d bc bs M pc ls (vI i :: vR x :: st) h Q := by
  intro p e s m args below meth c R H locs cells slots A F r z l lo hc hs
  have q := j_in hi hj hn (eA E 0) (fun j => j_v (f j))
  exact W.iald (v := j_v v) F.2.2.1 F.2.2.2.1 (r.1 _ _ hx) ((j_ar F.1 F.2.1 (t := 0) rfl).1 n (fun j => j_v (f j))) (fun q => by cases q) q.1 (by rw [q.2, arrV_read _ _ hj, hv]) rfl rfl hd (k p e s m args below meth c R H locs cells slots A F r z l lo hc hs)
theorem g_baload {x : jN} {i : Int32} {j n : Nat} {f : Nat → jV} {v : jV} (hd : decode M.2.1 pc = .ok (.baload, 1)) (hx : h x = some (oA 1 n f)) (hi : i = nI j) (hj : j < n) (hn : n < 2 ^ 31) (hv : f j = v) (k : G E d bc bs M (pc + 1) ls (v :: st) h Q) : G E d bc bs M pc ls (vI i :: vR x :: st) h Q := by
  intro p e s m args below meth c R H locs cells slots A F r z l lo hc hs
  have q := j_in hi hj hn (eA E 1) (fun j => j_v (f j))
  exact W.bald (v := j_v v) F.2.2.1 F.2.2.2.1 (r.1 _ _ hx) ((j_ar F.1 F.2.1 (t := 1) rfl).1 n (fun j => j_v (f j))) (fun q => by cases q) q.1 (by rw [q.2, arrV_read _ _ hj, hv]) rfl rfl hd (k p e s m args below meth c R H locs cells slots A F r z l lo hc hs)
theorem g_laload {x : jN} {i : Int32} {j n : Nat} {f : Nat → jV} {v : jV} (hd : decode M.2.1 pc = .ok (.laload, 1)) (hx : h x = some (oA 2 n f)) (hi : i = nI j) (hj : j < n) (hn : n < 2 ^ 31) (hv : f j = v) (k : G E d bc bs M (pc + 1) ls (v :: st) h Q) : G E d bc bs M pc ls (vI i :: vR x :: st) h Q := by
  intro p e s m args below meth c R H locs cells slots A F r z l lo hc hs
  have q := j_in hi hj hn (eA E 2) (fun j => j_v (f j))
  exact W.lald (v := j_v v) F.2.2.1 F.2.2.2.1 (r.1 _ _ hx) ((j_ar F.1 F.2.1 (t := 2) rfl).1 n (fun j => j_v (f j))) (fun q => by cases q) q.1 (by rw [q.2, arrV_read _ _ hj, hv]) rfl rfl hd (k p e s m args below meth c R H locs cells slots A F r z l lo hc hs)
theorem g_aaload {x : jN} {i : Int32} {t j n : Nat} {f : Nat → jV} {v : jV} {ty : FieldType} (ht : gAt[t]? = some ty) (hrf : ty.isReference = true) (hd : decode M.2.1 pc = .ok (.aaload, 1)) (hx : h x = some (oA t n f)) (hi : i = nI j) (hj : j < n) (hn : n < 2 ^ 31) (hv : f j = v) (k : G E d bc bs M (pc + 1) ls (v :: st) h Q) : G E d bc bs M pc ls (vI i :: vR x :: st) h Q := by
  intro p e s m args below meth c R H locs cells slots A F r z l lo hc hs
  have q := j_in hi hj hn (eA E t) (fun j => j_v (f j))
  exact W.aald (v := j_v v) F.2.2.1 F.2.2.2.1 (r.1 _ _ hx) ((j_ar F.1 F.2.1 ht).1 n (fun j => j_v (f j))) hrf (fun q => by cases q) q.1 (by rw [q.2, arrV_read _ _ hj, hv]) rfl rfl hd (k p e s m args below meth c R H locs cells slots A F r z l lo hc hs)
theorem j_upv (f : Nat → jV) (k : Nat) (v : jV) : updV (fun j => j_v (f j)) k (j_v v) = fun j => j_v (j_up f k v j) := by
  funext j
  unfold updV j_up
  by_cases e : j = k
  · rw [if_pos e, if_pos e]
  · rw [if_neg e, if_neg e]
theorem j_upI (f : Nat → Int32) (k : Nat) (v : Int32) : j_up (fun j => vI (f j)) k (vI v) = fun j => vI (j_up f k v j) := by
  funext j
  unfold j_up
  by_cases e : j = k
  · rw [if_pos e, if_pos e]
  · rw [if_neg e, if_neg e]
theorem j_upL (f : Nat → Int64) (k : Nat) (v : Int64) : j_up (fun j => vL (f j)) k (vL v) = fun j => vL (j_up f k v j) := by
  funext j
  unfold j_up
  by_cases e : j = k
  · rw [if_pos e, if_pos e]
  · rw [if_neg e, if_neg e]
theorem j_upQ (f : Nat → Option jN) (k : Nat) (v : Option jN) : j_up (fun j => vQ (f j)) k (vQ v) = fun j => vQ (j_up f k v j) := by
  funext j
  unfold j_up
  by_cases e : j = k
  · rw [if_pos e, if_pos e]
  · rw [if_neg e, if_neg e]
theorem g_iastore {x : jN} {i y : Int32} {j n : Nat} {f : Nat → Int32} (hd : decode M.2.1 pc = .ok (.iastore, 1)) (hx : h x = some (iA n f)) (hro : x.1 ≠ 0) (hi : i = nI j) (hj : j < n) (hn : n < 2 ^ 31) (k : G E d bc bs M (pc + 1) ls st (hs h x (iA n (j_up f j y))) Q) : G E d bc bs M pc ls (vI y :: vI i :: vR x :: st) h Q := by
  intro p e s m args below meth c R H locs cells slots A F r z l lo hc hs
  have q := j_in hi hj hn (eA E 0) (fun j => j_v (vI (f j)))
  refine W.iast F.2.2.1 F.2.2.2.1 (r.1 _ _ hx) ((j_ar F.1 F.2.1 (t := 0) rfl).1 n (fun j => j_v (vI (f j)))) (fun q => by cases q) q.1 rfl rfl hd fun H' e1 e2 e3 => ?_
  refine k p e s m args below meth c R H' _ cells slots A F (r.set hro hx ?_ e3) (by rw [e2]; exact z) l ?_ hc hs
  · show H'[x.2]? = some (arrV _ _ _)
    rw [e1, q.2, arrV_store]
    rw [show (Value.int y) = j_v (vI y) from rfl, j_upv (fun j => vI (f j)), j_upI]
  · intro q hq
    rcases List.mem_append.mp hq with hq | hq
    · exact lo q hq
    · rw [List.mem_singleton.mp hq]
      exact r.2.2.1 _ _ hx hro
theorem g_lastore {x : jN} {i : Int32} {y : Int64} {j n : Nat} {f : Nat → Int64} (hd : decode M.2.1 pc = .ok (.lastore, 1)) (hx : h x = some (lA n f)) (hro : x.1 ≠ 0) (hi : i = nI j) (hj : j < n) (hn : n < 2 ^ 31) (k : G E d bc bs M (pc + 1) ls st (hs h x (lA n (j_up f j y))) Q) : G E d bc bs M pc ls (vL y :: vI i :: vR x :: st) h Q := by
  intro p e s m args below meth c R H locs cells slots A F r z l lo hc hs
  have q := j_in hi hj hn (eA E 2) (fun j => j_v (vL (f j)))
  refine W.last F.2.2.1 F.2.2.2.1 (r.1 _ _ hx) ((j_ar F.1 F.2.1 (t := 2) rfl).1 n (fun j => j_v (vL (f j)))) (fun q => by cases q) q.1 rfl rfl hd fun H' e1 e2 e3 => ?_
  refine k p e s m args below meth c R H' _ cells slots A F (r.set hro hx ?_ e3) (by rw [e2]; exact z) l ?_ hc hs
  · show H'[x.2]? = some (arrV _ _ _)
    rw [e1, q.2, arrV_store]
    rw [show (Value.long y) = j_v (vL y) from rfl, j_upv (fun j => vL (f j)), j_upL]
  · intro q hq
    rcases List.mem_append.mp hq with hq | hq
    · exact lo q hq
    · rw [List.mem_singleton.mp hq]
      exact r.2.2.1 _ _ hx hro
theorem g_bastore {x : jN} {i y : Int32} {j n : Nat} {f : Nat → Int32} (hd : decode M.2.1 pc = .ok (.bastore, 1)) (hx : h x = some (bA n f)) (hro : x.1 ≠ 0) (hi : i = nI j) (hj : j < n) (hn : n < 2 ^ 31) (k : G E d bc bs M (pc + 1) ls st (hs h x (bA n (j_up f j y.toInt8.toInt32))) Q) : G E d bc bs M pc ls (vI y :: vI i :: vR x :: st) h Q := by
  intro p e s m args below meth c R H locs cells slots A F r z l lo hc hs
  have q := j_in hi hj hn (eA E 1) (fun j => j_v (vI (f j)))
  refine W.bast F.2.2.1 F.2.2.2.1 (r.1 _ _ hx) ((j_ar F.1 F.2.1 (t := 1) rfl).1 n (fun j => j_v (vI (f j)))) (fun q => by cases q) q.1 rfl rfl hd fun H' e1 e2 e3 => ?_
  refine k p e s m args below meth c R H' _ cells slots A F (r.set hro hx ?_ e3) (by rw [e2]; exact z) l ?_ hc hs
  · show H'[x.2]? = some (arrV _ _ _)
    rw [e1, q.2, arrV_store]
    rw [show narrow .byte (Value.int y) = j_v (vI y.toInt8.toInt32) from rfl, j_upv (fun j => vI (f j)), j_upI]
  · intro q hq
    rcases List.mem_append.mp hq with hq | hq
    · exact lo q hq
    · rw [List.mem_singleton.mp hq]
      exact r.2.2.1 _ _ hx hro
/-- a reference to an object of class ci (number t's component: by a castable word, or the same class) -/
theorem g_aastore {x y : jN} {i : Int32} {t j n ci : Nat} {C B : String} {Tc : u_T} {Nc : Nat} {fs : List jV} {f : Nat → Option jN} (ht : gAt[t]? = some (.object B)) (hcl : gCl[ci]? = some (C, Tc, Nc)) (hcast : Cond.castable C B ∈ lw_tbl) (hB : Cond.initialized B ∈ lw_all) (hd : decode M.2.1 pc = .ok (.aastore, 1)) (hx : h x = some (rA t n f)) (hy : h y = some (oO ci fs)) (hro : x.1 ≠ 0) (hi : i = nI j) (hj : j < n) (hn : n < 2 ^ 31) (k : G E d bc bs M (pc + 1) ls st (hs h x (rA t n (j_up f j (some y)))) Q) : G E d bc bs M pc ls (vR y :: vI i :: vR x :: st) h Q := by
  intro p e s m args below meth c R H locs cells slots A F r z l lo hc hs
  have q := j_in hi hj hn (eA E t) (fun j => j_v (vQ (f j)))
  obtain ⟨r', hr', cellV, g1, g2, g3, -⟩ := r.1 _ _ hy
  have hcls := (j_kn F.1 F.2.1 hcl).2
  obtain ⟨kA, comp, k1, k2, k3, -⟩ := (j_ar F.1 F.2.1 ht).2
  obtain ⟨c3, c4, hc3, hc4, hasg⟩ := Cond.castable_spec (va_Nw.use (A := args) rfl (va_Nw.warmC F.2.1 (va_Nw.of rfl (F.1.2.1 _ hcast))))
  obtain ⟨kC, hkC, -⟩ := hcls.2
  have hcc : c3 = eC E ci := Option.some.inj (hc3.symm.trans hcls.1)
  have hcb : c4 = comp := Option.some.inj (hc4.symm.trans k3)
  subst hcc
  subst hcb
  obtain ⟨kB, hkB, -⟩ := Vm.findClass_spec k3
  refine W.aast F.2.2.1 F.2.2.2.1 (r.1 _ _ hx) (fun q h => by cases h) (fun h => by cases h) k1 k2 rfl hkB ⟨fun w => q.1 (Or.inl w), by rw [q.2, arrV_size]; exact hj⟩ g1 (fun q h => by rw [g3] at h; cases h) (by rw [g2]; exact hkC) (by rw [g2]; exact hasg) rfl rfl hd fun H' e1 e2 e3 => ?_
  refine k p e s m args below meth c R H' _ cells slots A F (r.set hro hx ?_ e3) (by rw [e2]; exact z) l ?_ hc hs
  · show H'[x.2]? = some (arrV _ _ _)
    rw [e1, q.2, arrV_store]
    rw [show (Value.ref y.2) = j_v (vQ (some y)) from rfl, j_upv (fun j => vQ (f j)), j_upQ]
  · intro q hq
    rcases List.mem_append.mp hq with hq | hq
    · exact lo q hq
    · rw [List.mem_singleton.mp hq]
      exact r.2.2.1 _ _ hx hro
/-! new things: kd, the role that the caller gives it -/
theorem g_new {i ci : Nat} {C : String} {T : u_T} {N : Nat} {ty : Nat → FieldType} {fs : List jV} (kd : Nat) (hcl : jCls ci C T N ty) (hl : Cond.classLink M.1.cls i C ∈ lw_all) (hi : Cond.instantiable C N ∈ lw_all) (hn : Cond.initialized C ∈ lw_all) (hd : decode M.2.1 pc = .ok (.new i, 3)) (hfs : ∀ j, j < N → defaultValue (ty j) = j_v (fs.getD j vN)) (h1 : 1 ≤ bc) (h2 : N ≤ bs)
    (k : ∀ a, (∀ k, h (k, a) = none) → G E d (bc - 1) (bs - N) M (pc + 3) ls (vR (kd, a) :: st) (hs h (kd, a) (oO ci fs)) Q) : G E d bc bs M pc ls st h Q := by
  intro p e s m args below meth c R H locs cells slots A F r z l lo hc hs
  have hts : ∀ w ∈ lw_all, w.before args s = true := fun w hw => j_w F.1 F.2.1 hw args
  have hKn := j_kn F.1 F.2.1 hcl.1
  refine W.newcK F.2.2.1 F.2.2.2.1 F.2.2.2.2.2.2.2.1 (hts _ hl) (hts _ hi) (hts _ hn) rfl hd (by omega) (by omega) hKn.2.1 rfl fun H1 kC hkC e1 z1 o1 => ?_
  exact k H.size (fun k => r.fresh k) p e s m args below meth c R H1 locs (cells + 1) (slots + N) A F (r.new kd z ⟨_, hcl.1, (u_born ty hts hcl.2.1 hKn hkC e1 hcl.2.2.1).to hfs⟩ o1) (by omega) l lo (by omega) (by omega)
theorem g_newarray {atype : ArrayType} {ty : FieldType} {n : Int32} {t N : Nat} {v0 : jV} (kd : Nat) (hty : newarray.typeOf atype = ty) (ht : gAt[t]? = some ty) (hpr : ∀ U cA, va_RA U cA ty = (U.vm.findClass ("[" ++ ty.toString) = some cA)) (hw : Cond.arrayClass ty ∈ lw_all) (hv0 : defaultValue ty = j_v v0) (hd : decode M.2.1 pc = .ok (.newarray atype, 2)) (hn : n = nI N) (hN : N * componentBytes ty ≤ 536870912) (hN2 : N < 2 ^ 31) (h1 : 1 ≤ bc) (h2 : N ≤ bs)
    (k : ∀ a, (∀ k, h (k, a) = none) → G E d (bc - 1) (bs - N) M (pc + 2) ls (vR (kd, a) :: st) (hs h (kd, a) (oA t N (fun _ => v0))) Q) : G E d bc bs M pc ls (vI n :: st) h Q := by
  subst hty
  subst hn
  intro p e s m args below meth c R H locs cells slots A F r z l lo hc hs
  refine va_newaK F.2.2.1 F.2.2.2.1 (j_w F.1 F.2.1 hw args) rfl hd rfl (nI_pos hN2) (nI_clamp hN2) hN (by omega) (by omega) rfl fun H1 cA e1 z1 o1 hAr hNm => ?_
  have hcA : cA = eA E t := by
    have h3 := (j_ar F.1 F.2.1 ht).2
    rw [hpr] at h3
    exact Option.some.inj (hNm.symm.trans h3)
  subst hcA
  rw [hv0] at e1
  exact k H.size (fun k => r.fresh k) p e s m args below meth c R H1 locs (cells + 1) (slots + N) A F (r.new kd z e1 o1) (by omega) l lo (by omega) (by omega)
theorem g_anewarray {i : Nat} {C : String} {n : Int32} {t N : Nat} (kd : Nat) (ht : gAt[t]? = some (.object C)) (hl : Cond.classLink M.1.cls i C ∈ lw_all) (hov : Cond.arrayOver (.object C) ∈ lw_tbl) (hd : decode M.2.1 pc = .ok (.anewarray i, 3)) (hn : n = nI N) (hN : N * 4 ≤ 536870912) (h1 : 1 ≤ bc) (h2 : N ≤ bs)
    (k : ∀ a, (∀ k, h (k, a) = none) → G E d (bc - 1) (bs - N) M (pc + 3) ls (vR (kd, a) :: st) (hs h (kd, a) (rA t N (fun _ => none))) Q) : G E d bc bs M pc ls (vI n :: st) h Q := by
  subst hn
  intro p e s m args below meth c R H locs cells slots A F r z l lo hc hs
  have hN2 : N < 2 ^ 31 := by omega
  have hcl : (nI N).toNatClampNeg = N := nI_clamp hN2
  refine W.anew F.2.2.1 F.2.2.2.1 F.2.2.2.2.2.2.2.1 (j_w F.1 F.2.1 hl args) (va_AO.use (va_AO.moved F.2.1.alike (va_AO.of (F.1.2.1 _ hov)))) rfl hd rfl (nI_pos hN2) (by rw [hcl]; exact hN) (by omega) (by rw [hcl]; omega) fun cA kA comp f1 f2 f3 f4 => ?_
  have hcA : cA = eA E t := by
    obtain ⟨_, _, _, _, _, h4⟩ := (j_ar F.1 F.2.1 ht).2
    exact Option.some.inj (f1.symm.trans h4)
  subst hcA
  rw [hcl]
  refine k H.size (fun k => r.fresh k) p e s m args below meth c R _ locs (cells + 1) (slots + N) A F (r.new kd z ?_ ?_) (by rw [Array.size_push]; omega) l lo (by omega) (by omega)
  · show (H.push _)[H.size]? = some (arrV _ _ _)
    rw [Array.getElem?_push_size, arrV_new]
    rfl
  · intro q hq
    rw [Array.getElem?_push, if_neg (Nat.ne_of_lt hq)]
end
/-! CONTRACTS AND CALLS -/
def jws (M : jM) : List Cond := (match M.2.2.2.2 with
  | [] => Cond.code M.1 M.2.1 M.2.2.1 M.2.2.2.1
  | hh => Cond.codeWith M.1 M.2.1 M.2.2.1 M.2.2.2.1 hh) :: lw_all
def jPre (E : jE) (as : List jV) (h : jH) : Array Value → State → Prop := fun a U => a = (as.map j_v).toArray ∧ (eS E).WarmedH U.vm ∧ (eS E).heap.size ≤ U.heap.size ∧ jRel E h U.heap
/-- a method's contract: from a heap that holds h, with these arguments, in this room, it comes to an end with Q -/
def Ct (E : jE) (d bc bs : Nat) (M : jM) (as : List jV) (h : jH) (Q : jR → jH → Prop) : Prop :=
  jOK E → MetFree (eL E) M.1 (headSpec (jws M) { frames := d, cells := bc, slots := bs, locals := 40 * d }) (jPre E as h) (fun _ _ _ _ _ => True) (fun _ st o t => jOut E Q bc bs st o t)
/-- the locals at the entry -/
def jEn : List jV → List (Option jV)
  | [] => []
  | .inl x :: r => some (.inl x) :: jEn r
  | .inr (.inl x) :: r => some (.inr (.inl x)) :: none :: jEn r
  | .inr (.inr o) :: r => some (.inr (.inr o)) :: jEn r
theorem jEn_at : ∀ (as : List jV) (k i : Nat) (v : jV), (jEn as)[i]? = some (some v) → (k + i, j_v v) ∈ lv_args k (as.map j_v)
  | [], k, i, v, h => by simp [jEn] at h
  | .inl x :: r, k, i, v, h => by
    cases i with
    | zero =>
      simp [jEn] at h
      subst h
      show _ ∈ lv_args k (Value.int x :: r.map j_v)
      exact List.mem_cons_self
    | succ i =>
      have h1 : (jEn r)[i]? = some (some v) := by simpa [jEn] using h
      have h2 := jEn_at r (k + 1) i v h1
      show _ ∈ lv_args k (Value.int x :: r.map j_v)
      refine List.mem_cons_of_mem _ ?_
      rw [show k + (i + 1) = k + 1 + i by omega]
      exact h2
  | .inr (.inl x) :: r, k, i, v, h => by
    match i, h with
    | 0, h =>
      simp [jEn] at h
      subst h
      show _ ∈ lv_args k (Value.long x :: r.map j_v)
      exact List.mem_cons_self
    | 1, h => simp [jEn] at h
    | i + 2, h =>
      have h1 : (jEn r)[i]? = some (some v) := by simpa [jEn] using h
      have h2 := jEn_at r (k + 2) i v h1
      show _ ∈ lv_args k (Value.long x :: r.map j_v)
      refine List.mem_cons_of_mem _ ?_
      rw [show k + (i + 2) = k + 2 + i by omega]
      exact h2
  | .inr (.inr none) :: r, k, i, v, h => by
    cases i with
    | zero =>
      simp [jEn] at h
      subst h
      show _ ∈ lv_args k (Value.null :: r.map j_v)
      exact List.mem_cons_self
    | succ i =>
      have h1 : (jEn r)[i]? = some (some v) := by simpa [jEn] using h
      have h2 := jEn_at r (k + 1) i v h1
      show _ ∈ lv_args k (Value.null :: r.map j_v)
      refine List.mem_cons_of_mem _ ?_
      rw [show k + (i + 1) = k + 1 + i by omega]
      exact h2
  | .inr (.inr (some a)) :: r, k, i, v, h => by
    cases i with
    | zero =>
      simp [jEn] at h
      subst h
      show _ ∈ lv_args k (Value.ref a.2 :: r.map j_v)
      exact List.mem_cons_self
    | succ i =>
      have h1 : (jEn r)[i]? = some (some v) := by simpa [jEn] using h
      have h2 := jEn_at r (k + 1) i v h1
      show _ ∈ lv_args k (Value.ref a.2 :: r.map j_v)
      refine List.mem_cons_of_mem _ ?_
      rw [show k + (i + 1) = k + 1 + i by omega]
      exact h2
theorem jEn_len : ∀ (as : List jV), (lg_sl (as.map j_v)).length = (jEn as).length
  | [] => rfl
  | .inl x :: r => by
    show (lg_sl (Value.int x :: r.map j_v)).length = (jEn r).length + 1
    rw [← jEn_len r]
    rfl
  | .inr (.inl x) :: r => by
    show (lg_sl (Value.long x :: r.map j_v)).length = (jEn r).length + 1 + 1
    rw [← jEn_len r]
    rfl
  | .inr (.inr none) :: r => by
    show (lg_sl (Value.null :: r.map j_v)).length = (jEn r).length + 1
    rw [← jEn_len r]
    rfl
  | .inr (.inr (some a)) :: r => by
    show (lg_sl (Value.ref a.2 :: r.map j_v)).length = (jEn r).length + 1
    rw [← jEn_len r]
    rfl
/-- a contract out of the walk of its body -/
theorem ct_of {E : jE} {d bc bs : Nat} {M : jM} {as : List jV} {h : jH} {Q : jR → jH → Prop} {ls : List (Option jV)} (hy : plainName M.1.cls = true) (hl : (jEn as).length ≤ M.2.2.1) (he : jEn as ++ List.replicate (M.2.2.1 - (jEn as).length) none = ls) (k : G E d bc bs M 0 ls [] h Q) : Ct E d bc bs M as h Q := by
  subst he
  intro K
  obtain ⟨y, cc, maxL, ret, hh⟩ := M
  dsimp only at hy hl k
  refine MetFree.of_bodyS (code := cc) (maxLocals := maxL) (ret := ret) hy ?_ ?_
  · intro args s m hp hn
    have hw := atoms_spec (ws := jws (y, cc, maxL, ret, hh)) hp _ List.mem_cons_self
    cases hh with
    | nil =>
      obtain ⟨meth, c, h1, h2, h3, h4, h5, h6, -, -⟩ := Cond.code_spec hn hw
      exact ⟨meth, c, h1, h2, h3, h4, h5, h6⟩
    | cons a b =>
      obtain ⟨m9, meth, c, hn9, h1, h2, h3, h4, -, h5, h6, -⟩ := Cond.codeWith_spec hw
      cases hn.symm.trans hn9
      exact ⟨meth, c, h1, h2, h3, h4, h5, h6⟩
  · intro p e s m args below meth c s₁ B hml hP _
    obtain ⟨rfl, hW, hz, hR⟩ := hP
    have hh0 : s₁.heap = s.heap := by rw [B.state]; rfl
    have X := Stand.of_body B
    have hw := atoms_spec (ws := jws (y, cc, maxL, ret, hh)) B.pre _ List.mem_cons_self
    have htab : c.exceptionTable.toList = tableOf hh := by
      cases hh with
      | nil =>
        obtain ⟨meth', c', h1, h2, -, -, -, -, h7, -⟩ := Cond.code_spec B.named hw
        cases Option.some.inj (h1.symm.trans B.method)
        cases Option.some.inj (h2.symm.trans X.code)
        have : c.exceptionTable = #[] := by simpa using h7
        rw [this]
        rfl
      | cons a b => exact vx_table (x := y) B hw
    have F : jF E d (y, cc, maxL, ret, hh) p s m meth c (headSpec (jws (y, cc, maxL, ret, hh)) { frames := d, cells := bc, slots := bs, locals := 40 * d }).room :=
      ⟨K, hW, B.exec, B.bytes, B.notSynchronized, B.returns, hml, findClass_of_methodNamed B.named, (name_of_methodNamed B.named B.method).1, htab, hz, rfl, rfl, hR.2.2.2⟩
    have hen := lv_entry (as.map j_v) (n := maxL) (by rw [jEn_len]; exact hl)
    have kk := k p e s m (as.map j_v).toArray below meth c _ s.heap [] 0 0 _ F hR hz ⟨hen.1, hen.2.1, fun i v hi => ?_⟩ (fun q hq => by cases hq) (Nat.le_of_eq (Nat.zero_add _)) (Nat.le_of_eq (Nat.zero_add _))
    · have kk2 := kk s₁ hh0 X
      obtain ⟨t, a1, o, b1, b2, b3⟩ := kk2
      refine ⟨t, o, ?_, b1, b2, b3⟩
      rw [lg_entry_eq]
      exact a1
    · have h1 : (jEn as)[i]? = some (some v) := by
        rcases Nat.lt_or_ge i (jEn as).length with q | q
        · rw [List.getElem?_append_left q] at hi; exact hi
        · rw [List.getElem?_append_right q] at hi
          have := List.mem_of_getElem? hi
          rw [List.mem_replicate] at this
          cases this.2
      have h2 := jEn_at as 0 i v h1
      rw [Nat.zero_add] at h2
      exact hen.2.2 _ h2

/-- what a call comes back with -/
def jPost (E : jE) (Q : jR → jH → Prop) (mc ms : Nat) : Pt → Array Value → Option Value → Pt → Prop := fun A _ v B =>
  ∃ (r : Option jV) (h : jH) (L : List Loc), v = r.map j_v ∧ Q (.inl r) h ∧ jRel E h B.U.heap ∧ B.locs = A.locs ++ L ∧ (∀ q ∈ L, (eS E).heap.size ≤ q.base) ∧ B.cells = A.cells + mc ∧ B.slots = A.slots + ms
def jPostX (E : jE) (Q : jR → jH → Prop) (mc ms : Nat) : Pt → Array Value → Addr → Pt → Prop := fun A _ q B =>
  ∃ (C : String) (x : jN) (h : jH) (ce : Cell) (L : List Loc), x.2 = q ∧ Q (.inr (C, x)) h ∧ jRel E h B.U.heap ∧ B.U.heap[q]? = some ce ∧ ce.vm = .none ∧ A.U.vm.findClass C = some ce.cls ∧ B.locs = A.locs ++ L ∧ (∀ q ∈ L, (eS E).heap.size ≤ q.base) ∧ B.cells = A.cells + mc ∧ B.slots = A.slots + ms
theorem jws_at {E : jE} {s : State} {M : jM} (K : jOK E) (hW : (eS E).WarmedH s.vm) (hc : ∀ w ∈ jws M, w ∈ lw_all) : ∀ w ∈ jws M, ∀ (a' : Array Value) (U : State), s.WarmedH U.vm → w.before a' U = true :=
  fun w hw a' U hU => j_w K (State.WarmedH.trans hW hU) (hc w hw) a'
/-- the payer of a contract (follows vx_back and vx_backW of the kit's text EXCEPTIONS.to-paste) -/
theorem j_back {E : jE} {R : Room} {p : Program} {e : Env} {below : List Frame} {s : State} {sargs : Array Value} {len W9 d bc bs : Nat} {M : jM} {as : List jV} {h0 : jH} {Q : jR → jH → Prop} (K : jOK E) (hWs : (eS E).WarmedH s.vm) (hC : Ct E d bc bs M as h0 Q) (hcw : ∀ w ∈ jws M, w ∈ lw_all) (hini : Cond.initialized M.1.cls ∈ lw_all)
    (hframes : d + 1 ≤ R.frames) (hlocals : W9 + (M.2.2.1 + 11) + 40 * d ≤ R.locals) :
    vx_Back (eL E) R p e below s sargs M.1 len W9 (PreOf R bc bs (jPre E as h0)) (jPost E Q bc bs) (jPostX E Q bc bs) := by
  have hM := hC K
  obtain ⟨y, bytes, maxL, ret, hh⟩ := M
  dsimp only at hM hlocals hini ⊢
  intro m meth c A g ig mk a X hg hsize hdg hW hn hp
  have hWA : (eS E).WarmedH A.U.vm := State.WarmedH.trans hWs X.warmed
  have h1 : (headSpec (jws (y, bytes, maxL, ret, hh)) { frames := d, cells := bc, slots := bs, locals := 40 * d }).pre.before a A.U = true := atoms_intro fun w hw => j_w K hWA (hcw w hw) a
  have h2 := j_w K hWA (hcw _ List.mem_cons_self) a
  have h3 : (Cond.initialized y.cls).before a A.U = true := j_w K hWA hini a
  have h4 : A.cells + bc ≤ R.cells := hp.1
  have h5 : A.slots + bs ≤ R.slots := hp.2.1
  have hPc : jPre E as h0 a (A.U.calling g mk a) := hp.2.2
  obtain ⟨U, Ls, c0, s0⟩ := A
  dsimp only [Pt.U, Pt.locs, Pt.cells, Pt.slots] at h1 h2 h3 h4 h5 X hn hPc hWA ⊢
  have hmc : ∃ (methY : Method) (cY : Code), U.vm.method? mk = some methY ∧ methY.code = some cY ∧ cY.maxLocals = maxL := by
    cases hh with
    | nil =>
      obtain ⟨methY, cY, hmY, hcY, -, hlY, -, -, -, -⟩ := Cond.code_spec hn h2
      exact ⟨methY, cY, hmY, hcY, hlY⟩
    | cons a9 b9 =>
      obtain ⟨m9, methY, cY, hn9, hmY, hcY, -, hlY, -⟩ := Cond.codeWith_spec h2
      cases Option.some.inj (hn9.symm.trans hn)
      exact ⟨methY, cY, hmY, hcY, hlY⟩
  obtain ⟨methY, cY, hmY, hcY, hlY⟩ := hmc
  obtain ⟨kY, hkY, -⟩ := className_of_methodNamed hn
  have hinitY : kY.init = .initialized := Cond.initialized_spec (findClass_of_methodNamed hn) hkY h3
  have hA : At U g.method c below := by rw [hg]; exact X.here
  have happ : (headSpec (jws (y, bytes, maxL, ret, hh)) { frames := d, cells := bc, slots := bs, locals := 40 * d }).appliesLoose y e.platform (U.calling g mk a) = true :=
    Spec.appliesLoose_calling (g := g) hA hdg hn hkY hinitY
      (X.room_calling (g := g) (R' := ({ frames := d, cells := bc, slots := bs, locals := 40 * d } : Room)) hsize hmY hcY hframes (by rw [hlY]; show _ + (maxL + 11) + 40 * d ≤ R.locals; omega) h4 h5) h1
  obtain ⟨mid, hmid⟩ := hA.above
  have hfr : (U.setTop g).frames = (.java g :: mid) ++ below := by rw [State.frames_setTop' g hA.top, hmid]; rfl
  obtain ⟨o, s₂, hsteps, -, hend, hq⟩ := Steps.callFree hM p X.admits X.cas X.clock (acts := []) hfr happ hPc trivial
  have hq' : jOut E Q bc bs (U.calling g mk a) o s₂ := hq
  rw [State.frames_setTop' g hA.top] at hend
  obtain ⟨g₀, hg0⟩ := Option.isSome_iff_exists.mp hA.top
  obtain ⟨r, hr⟩ := State.topJava?_eq_some.mp hg0
  have hr' : (({ U with heap := s₂.heap, slotsUsed := s₂.slotsUsed } : State).setVm s₂.vm).frames = .java g₀ :: r := hr
  rcases hq' with ⟨rv, h', L, hQ, hrel, ho, hfe, hL⟩ | ⟨C, x, h', ce, L, hQ, hrel, rfl, hce, hcv, hcl, hW₂, hsm, hL⟩
  · obtain ⟨⟨v, rfl⟩, hW₂, e2, q2, q3, q4, q5, q6⟩ := id hfe
    have hv : v = rv.map j_v := by injection ho
    have e3 : s₂ = ({ (U.calling g mk a).setFrames s₂.frames with heap := s₂.heap, slotsUsed := s₂.slotsUsed } : State).setVm s₂.vm := by
      have : s₂ = ({ s₂ with vm := (U.calling g mk a).vm } : State).setVm s₂.vm := rfl
      rw [e2] at this
      exact this
    obtain ⟨c₂, i₂, len₂, hc₂, hd₂, hf₂⟩ := hend
    have hW' : U.WarmedH s₂.vm := hW₂
    have hcc : c₂ = c := by
      have h1 : s₂.code? g.method = U.code? g.method := by
        rw [State.code?_eq, State.code?_eq, hW'.alike.method?]
      exact Option.some.inj (hc₂.symm.trans (h1.trans hA.code))
    subst hcc
    have hlen : len₂ = len := by rw [hdg] at hd₂; cases hd₂; rfl
    subst hlen
    have hs₂ : s₂ = (({ U with heap := s₂.heap, slotsUsed := s₂.slotsUsed } : State).setVm s₂.vm).setTop { g with pc := g.pc + len₂, stack := v.toList ++ g.stack } := by
      refine e3.trans ?_
      rw [hf₂, State.calling_eq hA.top, State.setFrames_setFrames, State.setTop_of_frames _ hr', hr]
      rfl
    have hsame : U.sameButNew ({ U with heap := s₂.heap, slotsUsed := s₂.slotsUsed } : State) L bc bs := by
      refine ⟨?_, q2, q3, q4, q5, q6⟩
      obtain ⟨t, ht, -⟩ := State.frames_cons hr
      show ({ U with heap := s₂.heap, slotsUsed := s₂.slotsUsed } : State) = { U.setFrames U.frames with heap := s₂.heap, slotsUsed := s₂.slotsUsed }
      rw [State.setFrames_self ht]
    subst hg
    refine Or.inl ⟨v, ⟨(({ U with heap := s₂.heap, slotsUsed := s₂.slotsUsed } : State).setVm s₂.vm), Ls ++ L, c0 + bc, s0 + bs⟩,
      ⟨X.admits, X.cas, X.clock, X.frames, X.room, X.hears, X.method, X.code, (X.here.setHeapUsed s₂.heap s₂.slotsUsed).setVm hW'.alike, X.tail, State.WarmedH.trans X.warmed hW', X.limits, X.bytes, X.same.trans (hsame.setVm s.vm)⟩,
      ⟨rv, h', L, hv, hQ, hrel, rfl, hL, rfl, rfl⟩, ?_⟩
    show Steps p.tables e below _ ((({ U with heap := s₂.heap, slotsUsed := s₂.slotsUsed } : State).setVm s₂.vm).setTop { g with pc := g.pc + len₂, stack := v.toList ++ g.stack })
    rw [← hs₂]
    exact hsteps
  · obtain ⟨e2, q2, q3, q4, q5, q6⟩ := id hsm
    have e3 : s₂ = ({ (U.calling g mk a).setFrames s₂.frames with heap := s₂.heap, slotsUsed := s₂.slotsUsed } : State).setVm s₂.vm := by
      have : s₂ = ({ s₂ with vm := (U.calling g mk a).vm } : State).setVm s₂.vm := rfl
      rw [e2] at this
      exact this
    have hf₂ : s₂.frames = .throwing x.2 :: .java g :: U.frames.tail := hend
    have hW' : U.WarmedH s₂.vm := hW₂
    have hs₂ : s₂ = ((({ U with heap := s₂.heap, slotsUsed := s₂.slotsUsed } : State).setVm s₂.vm).setTop g).pushFrame (.throwing x.2) := by
      refine e3.trans ?_
      rw [hf₂, State.calling_eq hA.top, State.setFrames_setFrames, State.pushFrame, State.frames_setTop _ hr', State.setTop_of_frames _ hr', State.setFrames_setFrames, hr]
      rfl
    have hsame : U.sameButNew ({ U with heap := s₂.heap, slotsUsed := s₂.slotsUsed } : State) L bc bs := by
      refine ⟨?_, q2, q3, q4, q5, q6⟩
      obtain ⟨t, ht, -⟩ := State.frames_cons hr
      show ({ U with heap := s₂.heap, slotsUsed := s₂.slotsUsed } : State) = { U.setFrames U.frames with heap := s₂.heap, slotsUsed := s₂.slotsUsed }
      rw [State.setFrames_self ht]
    subst hg
    refine Or.inr ⟨x.2, ⟨(({ U with heap := s₂.heap, slotsUsed := s₂.slotsUsed } : State).setVm s₂.vm), Ls ++ L, c0 + bc, s0 + bs⟩,
      ⟨X.admits, X.cas, X.clock, X.frames, X.room, X.hears, X.method, X.code, (X.here.setHeapUsed s₂.heap s₂.slotsUsed).setVm hW'.alike, X.tail, State.WarmedH.trans X.warmed hW', X.limits, X.bytes, X.same.trans (hsame.setVm s.vm)⟩,
      ⟨C, x, h', ce, L, rfl, hQ, hrel, hce, hcv, hcl, rfl, hL, rfl, rfl⟩, ?_⟩
    show Steps p.tables e below _ (((({ U with heap := s₂.heap, slotsUsed := s₂.slotsUsed } : State).setVm s₂.vm).setTop g).pushFrame (.throwing x.2))
    rw [← hs₂]
    exact hsteps
/-- an invocation's two ways on -/
def jTwo (p : Program) (l : Launch) (e : Env) (R : Room) (s : State) (m : MethodId) (args : Array Value) (below : List Frame) (meth : Method) (c : Code) (T : State) (locs : List Loc) (cells slots : Nat) (g : JFrame) (rest : List Value) (av : Array Value) (Post : Pt → Array Value → Option Value → Pt → Prop) (PostX : Pt → Array Value → Addr → Pt → Prop) : Prop :=
  (∃ (v : Option Value) (vm₁ : Vm) (B : Pt), s.WarmedH vm₁ ∧ Stand p l e R s m args below meth c B.U B.locs B.cells B.slots ∧ Post ⟨T.setVm vm₁, locs, cells, slots⟩ av v B ∧
    ∀ target, Steps p.tables e below (B.U.setTop { g with pc := g.pc + 3, stack := v.toList ++ rest }) target → Steps p.tables e below (T.setTop g) target) ∨
  (∃ (q : Addr) (vm₁ : Vm) (B : Pt), s.WarmedH vm₁ ∧ Stand p l e R s m args below meth c B.U B.locs B.cells B.slots ∧ PostX ⟨T.setVm vm₁, locs, cells, slots⟩ av q B ∧
    Steps p.tables e below (T.setTop g) ((B.U.setTop { g with stack := rest }).pushFrame (.throwing q)))
/-- invokevirtual idx in the class own, on an object of class C, runs y (n arguments) -/
def jIV (own : String) (idx : Nat) (C : String) (y : MethodName) (n : Nat) : Prop :=
  ∀ (E : jE) (p : Program) (e : Env) (R : Room) (s : State) (m : MethodId) (args : Array Value) (below : List Frame) (meth : Method) (c : Code) (T : State) (locs : List Loc) (cells slots W9 : Nat) (Pre : Pt → Array Value → Prop) (Post : Pt → Array Value → Option Value → Pt → Prop) (PostX : Pt → Array Value → Addr → Pt → Prop) (b : Addr) (cellB : Cell) (g : JFrame) (argsL rest : List Value),
    jOK E → (eS E).WarmedH s.vm → Stand p (eL E) e R s m args below meth c T locs cells slots → p.tables.exec = Jvm.exec → s.vm.findClass own = some m.cls → vx_Back (eL E) R p e below s args y 3 W9 Pre Post PostX →
    T.heap[b]? = some cellB → cellB.vm.isStatics = false → s.vm.findClass C = some cellB.cls → g.method = m → g.locals.size = c.maxLocals → argsL.length = n → g.stack = argsL.reverse ++ .ref b :: rest → 2 * g.monitorRoom + (rest.map fun v => v.category).sum ≤ W9 → decode c.code g.pc = .ok (.invokevirtual idx, 3) →
    (∀ vm₁, s.WarmedH vm₁ → Pre ⟨T.setVm vm₁, locs, cells, slots⟩ (Value.ref b :: argsL).toArray) → jTwo p (eL E) e R s m args below meth c T locs cells slots g rest (Value.ref b :: argsL).toArray Post PostX
def jIS (own : String) (idx : Nat) (y : MethodName) (n : Nat) : Prop :=
  ∀ (E : jE) (p : Program) (e : Env) (R : Room) (s : State) (m : MethodId) (args : Array Value) (below : List Frame) (meth : Method) (c : Code) (T : State) (locs : List Loc) (cells slots W9 : Nat) (Pre : Pt → Array Value → Prop) (Post : Pt → Array Value → Option Value → Pt → Prop) (PostX : Pt → Array Value → Addr → Pt → Prop) (g : JFrame) (argsL rest : List Value),
    jOK E → (eS E).WarmedH s.vm → Stand p (eL E) e R s m args below meth c T locs cells slots → p.tables.exec = Jvm.exec → s.vm.findClass own = some m.cls → vx_Back (eL E) R p e below s args y 3 W9 Pre Post PostX →
    g.method = m → g.locals.size = c.maxLocals → argsL.length = n → g.stack = argsL.reverse ++ rest → 2 * g.monitorRoom + (rest.map fun v => v.category).sum ≤ W9 → decode c.code g.pc = .ok (.invokestatic idx, 3) →
    (∀ vm₁, s.WarmedH vm₁ → Pre ⟨T.setVm vm₁, locs, cells, slots⟩ argsL.toArray) → jTwo p (eL E) e R s m args below meth c T locs cells slots g rest argsL.toArray Post PostX
def jII (own : String) (idx : Nat) (y : MethodName) (n : Nat) : Prop :=
  ∀ (E : jE) (p : Program) (e : Env) (R : Room) (s : State) (m : MethodId) (args : Array Value) (below : List Frame) (meth : Method) (c : Code) (T : State) (locs : List Loc) (cells slots W9 : Nat) (Pre : Pt → Array Value → Prop) (Post : Pt → Array Value → Option Value → Pt → Prop) (PostX : Pt → Array Value → Addr → Pt → Prop) (b : Addr) (g : JFrame) (argsL rest : List Value),
    jOK E → (eS E).WarmedH s.vm → Stand p (eL E) e R s m args below meth c T locs cells slots → p.tables.exec = Jvm.exec → s.vm.findClass own = some m.cls → vx_Back (eL E) R p e below s args y 3 W9 Pre Post PostX →
    g.method = m → g.locals.size = c.maxLocals → argsL.length = n → g.stack = argsL.reverse ++ .ref b :: rest → 2 * g.monitorRoom + (rest.map fun v => v.category).sum ≤ W9 → decode c.code g.pc = .ok (.invokespecial idx, 3) →
    (∀ vm₁, s.WarmedH vm₁ → Pre ⟨T.setVm vm₁, locs, cells, slots⟩ (Value.ref b :: argsL).toArray) → jTwo p (eL E) e R s m args below meth c T locs cells slots g rest (Value.ref b :: argsL).toArray Post PostX
abbrev j_np (ds : String) (n : Nat) : Prop := (parseMethodDescriptor ds).map (fun q => q.parameters.length) = some n
theorem j_npl {ds : String} {n k : Nat} (h : j_np ds n) (hk : k = n) : ∀ sig, parseMethodDescriptor ds = some sig → k = sig.parameters.length := by
  intro sig hs
  have h : (parseMethodDescriptor ds).map (fun q => q.parameters.length) = some n := h
  rw [hs] at h
  rw [hk]
  exact (Option.some.inj h).symm
abbrev j_nmh (y : String) : Prop := y ≠ "java/lang/invoke/MethodHandle" ∧ y ≠ "java/lang/invoke/VarHandle"
theorem jiv_V {own C : String} {idx n L : Nat} {y : MethodName} {b : ByteArray} {r : Option FieldType} (h1 : Cond.methodLink own idx y ∈ lw_all) (h2 : Cond.instanceMethod y ∈ lw_all) (h3 : Cond.selects C y y ∈ lw_all) (h5 : Cond.code y b L r ∈ lw_all) (hy : j_nmh y.cls) (hn : j_np y.desc n) : jIV own idx C y n := by
  intro E p e R s m args below meth c T locs cells slots W9 Pre Post PostX b0 cellB g argsL rest K hW X hx ho hB hc1 hc2 hc3 hg hsz hl hst hW9 hd hp
  exact vx_callV X hx ho (j_w K hW h1 args) (j_w K hW h2 args) (j_w K hW h3 args) (j_w K hW h5 args) hy hB hc1 hc2 hc3 hg hsz (j_npl hn hl) hst hW9 hd hp
theorem jiv_VX {own C : String} {idx n L : Nat} {y : MethodName} {b : ByteArray} {r : Option FieldType} {hh : List (Nat × Nat × Nat × Nat)} (h1 : Cond.methodLink own idx y ∈ lw_all) (h2 : Cond.instanceMethod y ∈ lw_all) (h3 : Cond.selects C y y ∈ lw_all) (h5 : Cond.codeWith y b L r hh ∈ lw_all) (hy : j_nmh y.cls) (hn : j_np y.desc n) : jIV own idx C y n := by
  intro E p e R s m args below meth c T locs cells slots W9 Pre Post PostX b0 cellB g argsL rest K hW X hx ho hB hc1 hc2 hc3 hg hsz hl hst hW9 hd hp
  exact vx_callVX X hx ho (j_w K hW h1 args) (j_w K hW h2 args) (j_w K hW h3 args) (j_w K hW h5 args) hy hB hc1 hc2 hc3 hg hsz (j_npl hn hl) hst hW9 hd hp
theorem jiv_N {own C host : String} {idx n L : Nat} {y : MethodName} {b : ByteArray} {r : Option FieldType} (h1 : Cond.methodLinkNest own idx y host ∈ lw_tbl) (h2 : Cond.instanceMethod y ∈ lw_all) (h3 : Cond.selects C y y ∈ lw_all) (h5 : Cond.code y b L r ∈ lw_all) (hy : j_nmh y.cls) (hn : j_np y.desc n) : jIV own idx C y n := by
  intro E p e R s m args below meth c T locs cells slots W9 Pre Post PostX b0 cellB g argsL rest K hW X hx ho hB hc1 hc2 hc3 hg hsz hl hst hW9 hd hp
  exact vx_callVN X hx ho (va_Nw.use rfl (va_Nw.warmM hW (va_Nw.of rfl (K.2.1 _ h1)))) (j_w K hW h2 args) (j_w K hW h3 args) (j_w K hW h5 args) hy hB hc1 hc2 hc3 hg hsz (j_npl hn hl) hst hW9 hd hp
/-- named x, found in owner (code of its own there, or declared abstract), selected y -/
theorem jiv_U {own C owner : String} {idx n L L0 : Nat} {x y : MethodName} {b b0 : ByteArray} {r r0 : Option FieldType} (h1 : Cond.methodLink own idx x ∈ lw_all) (hs : Cond.sameMethod x.cls owner x.name x.desc ∈ lw_all) (h3 : Cond.selects C x y ∈ lw_all) (h2 : Cond.instanceMethod y ∈ lw_all) (h5 : Cond.code y b L r ∈ lw_all) (hd1 : Cond.instanceMethod ⟨owner, x.name, x.desc⟩ ∈ lw_all) (hd2 : Cond.code ⟨owner, x.name, x.desc⟩ b0 L0 r0 ∈ lw_all) (hy : j_nmh owner) (hn : j_np x.desc n) : jIV own idx C y n := by
  intro E p e R s m args below meth c T locs cells slots W9 Pre Post PostX b0 cellB g argsL rest K hW X hx ho hB hc1 hc2 hc3 hg hsz hl hst hW9 hd hp
  exact vx_callVU X hx ho (j_w K hW h1 args) (j_w K hW hs args) (va_Decl.of (j_w K hW hd1 args) (j_w K hW hd2 args)) hy (j_w K hW h3 args) (j_w K hW h2 args) (j_w K hW h5 args) hB hc1 hc2 hc3 hg hsz (j_npl hn hl) hst hW9 hd hp
theorem jiv_A {own C owner : String} {idx n L : Nat} {x y : MethodName} {b : ByteArray} {r : Option FieldType} (h1 : Cond.methodLink own idx x ∈ lw_all) (hs : Cond.sameMethod x.cls owner x.name x.desc ∈ lw_all) (h3 : Cond.selects C x y ∈ lw_all) (h2 : Cond.instanceMethod y ∈ lw_all) (h5 : Cond.code y b L r ∈ lw_all) (hd1 : Cond.declares ⟨owner, x.name, x.desc⟩ ∈ lw_tbl) (hy : j_nmh owner) (hn : j_np x.desc n) : jIV own idx C y n := by
  intro E p e R s m args below meth c T locs cells slots W9 Pre Post PostX b0 cellB g argsL rest K hW X hx ho hB hc1 hc2 hc3 hg hsz hl hst hW9 hd hp
  exact vx_callVU X hx ho (j_w K hW h1 args) (j_w K hW hs args) (va_Decl.abs (va_Nw.warmD hW (va_Nw.of rfl (K.2.1 _ hd1)))) hy (j_w K hW h3 args) (j_w K hW h2 args) (j_w K hW h5 args) hB hc1 hc2 hc3 hg hsz (j_npl hn hl) hst hW9 hd hp
theorem jis_S {own : String} {idx n L : Nat} {y : MethodName} {b : ByteArray} {r : Option FieldType} (h1 : Cond.methodLink own idx y ∈ lw_all) (h2 : Cond.static y ∈ lw_all) (h3 : Cond.initialized y.cls ∈ lw_all) (h5 : Cond.code y b L r ∈ lw_all) (hy : j_nmh y.cls) (hn : j_np y.desc n) : jIS own idx y n := by
  intro E p e R s m args below meth c T locs cells slots W9 Pre Post PostX g argsL rest K hW X hx ho hB hg hsz hl hst hW9 hd hp
  exact vx_callS X hx ho (j_w K hW h1 args) (j_w K hW h2 args) (j_w K hW h3 args) (j_w K hW h5 args) hy hB hg hsz (j_npl hn hl) hst hW9 hd hp
theorem jis_SX {own : String} {idx n L : Nat} {y : MethodName} {b : ByteArray} {r : Option FieldType} {hh : List (Nat × Nat × Nat × Nat)} (h1 : Cond.methodLink own idx y ∈ lw_all) (h2 : Cond.static y ∈ lw_all) (h3 : Cond.initialized y.cls ∈ lw_all) (h5 : Cond.codeWith y b L r hh ∈ lw_all) (hy : j_nmh y.cls) (hn : j_np y.desc n) : jIS own idx y n := by
  intro E p e R s m args below meth c T locs cells slots W9 Pre Post PostX g argsL rest K hW X hx ho hB hg hsz hl hst hW9 hd hp
  exact vx_callSX X hx ho (j_w K hW h1 args) (j_w K hW h2 args) (j_w K hW h3 args) (j_w K hW h5 args) hy hB hg hsz (j_npl hn hl) hst hW9 hd hp
theorem jis_N {own host : String} {idx n L : Nat} {y : MethodName} {b : ByteArray} {r : Option FieldType} (h1 : Cond.methodLinkNest own idx y host ∈ lw_tbl) (h2 : Cond.static y ∈ lw_all) (h3 : Cond.initialized y.cls ∈ lw_all) (h5 : Cond.code y b L r ∈ lw_all) (hy : j_nmh y.cls) (hn : j_np y.desc n) : jIS own idx y n := by
  intro E p e R s m args below meth c T locs cells slots W9 Pre Post PostX g argsL rest K hW X hx ho hB hg hsz hl hst hW9 hd hp
  exact vx_callSN X hx ho (va_Nw.use rfl (va_Nw.warmM hW (va_Nw.of rfl (K.2.1 _ h1)))) (j_w K hW h2 args) (j_w K hW h3 args) (j_w K hW h5 args) hy hB hg hsz (j_npl hn hl) hst hW9 hd hp
theorem jii_I {own : String} {idx n L : Nat} {y : MethodName} {b : ByteArray} (h1 : Cond.methodLink own idx y ∈ lw_all) (h2 : Cond.instanceMethod y ∈ lw_all) (h5 : Cond.code y b L none ∈ lw_all) (hi : y.name = "<init>") (hy : j_nmh y.cls) (hn : j_np y.desc n) : jII own idx y n := by
  intro E p e R s m args below meth c T locs cells slots W9 Pre Post PostX b0 g argsL rest K hW X hx ho hB hg hsz hl hst hW9 hd hp
  exact vx_callI X hx ho hi (j_w K hW h1 args) (j_w K hW h2 args) (j_w K hW h5 args) hy hB hg hsz (j_npl hn hl) hst hW9 hd hp
theorem jii_N {own host : String} {idx n L : Nat} {y : MethodName} {b : ByteArray} (h1 : Cond.methodLinkNest own idx y host ∈ lw_tbl) (h2 : Cond.instanceMethod y ∈ lw_all) (h5 : Cond.code y b L none ∈ lw_all) (hi : y.name = "<init>") (hy : j_nmh y.cls) (hn : j_np y.desc n) : jII own idx y n := by
  intro E p e R s m args below meth c T locs cells slots W9 Pre Post PostX b0 g argsL rest K hW X hx ho hB hg hsz hl hst hW9 hd hp
  exact vx_callIN X hx ho hi (va_Nw.use rfl (va_Nw.warmM hW (va_Nw.of rfl (K.2.1 _ h1)))) (j_w K hW h2 args) (j_w K hW h5 args) hy hB hg hsz (j_npl hn hl) hst hW9 hd hp
/-- the words of a stack's rest -/
def jW : List jV → Nat
  | [] => 0
  | .inr (.inl _) :: r => 2 + jW r
  | .inl _ :: r => 1 + jW r
  | .inr (.inr _) :: r => 1 + jW r
theorem jW_eq : ∀ st : List jV, ((st.map j_v).map fun v => v.category).sum = jW st
  | [] => rfl
  | .inl x :: r => by
    show 1 + ((r.map j_v).map fun v => v.category).sum = 1 + jW r
    rw [jW_eq r]
  | .inr (.inl x) :: r => by
    show 2 + ((r.map j_v).map fun v => v.category).sum = 2 + jW r
    rw [jW_eq r]
  | .inr (.inr none) :: r => by
    show 1 + ((r.map j_v).map fun v => v.category).sum = 1 + jW r
    rw [jW_eq r]
  | .inr (.inr (some a)) :: r => by
    show 1 + ((r.map j_v).map fun v => v.category).sum = 1 + jW r
    rw [jW_eq r]
/-- a contract's method, callable: its code word, its class -/
def jMe (M : jM) : Prop := (∀ w ∈ jws M, w ∈ lw_all) ∧ Cond.initialized M.1.cls ∈ lw_all ∧ M.2.2.1 ≤ 21
theorem jMe_of {M : jM} (h : (match M.2.2.2.2 with | [] => Cond.code M.1 M.2.1 M.2.2.1 M.2.2.2.1 | hh => Cond.codeWith M.1 M.2.1 M.2.2.1 M.2.2.2.1 hh) ∈ lw_all) (hi : Cond.initialized M.1.cls ∈ lw_all) (hl : M.2.2.1 ≤ 21) : jMe M :=
  ⟨fun w hw => (List.mem_cons.mp hw).elim (fun e => by rw [e]; exact h) (fun e => e), hi, hl⟩
section
variable {E : jE} {d bc bs mc ms : Nat} {M M' : jM} {pc i n : Nat} {ls : List (Option jV)} {st st0 as : List jV} {h : jH} {Q Q' : jR → jH → Prop}
theorem j_goes {p : Program} {e : Env} {R : Room} {s : State} {m : MethodId} {args : Array Value} {below : List Frame} {meth : Method} {c : Code} {H : Heap} {locs : List Loc} {cells slots : Nat} {A : Array Slot} {T : State} {av : Array Value} {stv : List Value} (F : jF E d M p s m meth c R) (z : (eS E).heap.size ≤ H.size) (l : jL A M.2.2.1 ls) (lo : ∀ q ∈ locs, (eS E).heap.size ≤ q.base) (hc : cells + bc ≤ R.cells) (hs : slots + bs ≤ R.slots) (h1 : mc ≤ bc) (h2 : ms ≤ bs)
    (kr : ∀ r h', Q' (.inl r) h' → G E d (bc - mc) (bs - ms) M (pc + 3) ls (r.toList ++ st) h' Q) (kx : ∀ C x h', Q' (.inr (C, x)) h' → GX E d (bc - mc) (bs - ms) M pc ls h' C x Q) (hT : T.heap = H)
    (t2 : jTwo p (eL E) e R s m args below meth c T locs cells slots (F0 m pc A stv) (st.map j_v) av (jPost E Q' mc ms) (jPostX E Q' mc ms)) : ∃ t, Steps p.tables e below (T.setTop (F0 m pc A stv)) t ∧ jMQ E Q below s R.cells R.slots t := by
  rcases t2 with ⟨v, vm₁, ⟨U, l2, c2, s2⟩, hW₁, X', ⟨r, h', L, hv, hQ, hrel, e1, hL, e2, e3⟩, stp⟩ | ⟨q, vm₁, ⟨U, l2, c2, s2⟩, hW₁, X', ⟨C, x, h', ce, L, hx, hQ, hrel, hce, hcv, hcl, e1, hL, e2, e3⟩, stp⟩
  · dsimp only [Pt.U, Pt.locs, Pt.cells, Pt.slots] at X' e1 e2 e3 stp hrel
    subst e1; subst e2; subst e3; subst hv
    have zz : (eS E).heap.size ≤ U.heap.size := Nat.le_trans F.2.2.2.2.2.2.2.2.2.2.1 X'.heapGrown
    have hl2 : ∀ q ∈ locs ++ L, (eS E).heap.size ≤ q.base := fun q hq => (List.mem_append.mp hq).elim (lo q) (hL q)
    obtain ⟨t, a1, b1⟩ := kr r h' hQ p e s m args below meth c R U.heap (locs ++ L) (cells + mc) (slots + ms) A F hrel zz l hl2 (by omega) (by omega) U rfl X'
    refine ⟨t, stp t ?_, b1⟩
    have : (r.toList ++ st).map j_v = (r.map j_v).toList ++ st.map j_v := by cases r <;> rfl
    rw [this] at a1
    exact a1
  · dsimp only [Pt.U, Pt.locs, Pt.cells, Pt.slots] at X' e1 e2 e3 stp hrel hce hcl
    subst e1; subst e2; subst e3; subst hx
    have zz : (eS E).heap.size ≤ U.heap.size := Nat.le_trans F.2.2.2.2.2.2.2.2.2.2.1 X'.heapGrown
    have hl2 : ∀ q ∈ locs ++ L, (eS E).heap.size ≤ q.base := fun q hq => (List.mem_append.mp hq).elim (lo q) (hL q)
    obtain ⟨t, a1, b1⟩ := kx C x h' hQ p e s m args below meth c R U.heap (locs ++ L) (cells + mc) (slots + ms) A (st.map j_v) ce F hrel zz l hl2 (by omega) (by omega) hce hcv (vx_cls hW₁ hcl) U rfl X'
    exact ⟨t, stp.trans a1, b1⟩
theorem g_callS (iv : jIS M.1.cls i M'.1 n) (me : jMe M') (hd : decode M.2.1 pc = .ok (.invokestatic i, 3)) (hC : Ct E (d - 1) mc ms M' as h Q') (hdp : 1 ≤ d) (hn : as.length = n) (hst : as.reverse ++ st = st0) (hw : jW st ≤ 8) (h1 : mc ≤ bc) (h2 : ms ≤ bs)
    (kx : ∀ C x h', Q' (.inr (C, x)) h' → GX E d (bc - mc) (bs - ms) M pc ls h' C x Q) (kr : ∀ r h', Q' (.inl r) h' → G E d (bc - mc) (bs - ms) M (pc + 3) ls (r.toList ++ st) h' Q) : G E d bc bs M pc ls st0 h Q := by
  subst hst
  intro p e s m args below meth c R H locs cells slots A F r z l lo hc hs T hT X
  have hR1 := F.2.2.2.2.2.2.2.2.2.2.2.1
  have hR2 := F.2.2.2.2.2.2.2.2.2.2.2.2.1
  have hml := me.2.2
  have hB := j_back (R := R) (p := p) (e := e) (below := below) (s := s) (sargs := args) (len := 3) (W9 := 8) F.1 F.2.1 hC me.1 me.2.1 (by omega) (by omega)
  refine j_goes F z l lo hc hs h1 h2 kr kx hT (iv E p e R s m args below meth c T locs cells slots 8 _ _ _ (F0 m pc A _) (as.map j_v) (st.map j_v) F.1 F.2.1 X F.2.2.1 F.2.2.2.2.2.2.2.1 hB rfl (l.1.trans F.2.2.2.2.2.2.1.symm) (by rw [List.length_map]; exact hn) (by rw [List.map_append, List.map_reverse]) (lv_room (by rw [jW_eq]; exact hw)) (by rw [F.2.2.2.1]; exact hd) (fun vm₁ hW₁ => ⟨by show cells + mc ≤ R.cells; omega, by show slots + ms ≤ R.slots; omega, rfl, State.WarmedH.trans F.2.1 hW₁, ?_, ?_⟩))
  · show _ ≤ T.heap.size
    rw [hT]; exact z
  · show jRel E h T.heap
    rw [hT]; exact r
theorem g_callI {b : jN} (iv : jII M.1.cls i M'.1 n) (me : jMe M') (hd : decode M.2.1 pc = .ok (.invokespecial i, 3)) (hC : Ct E (d - 1) mc ms M' (vR b :: as) h Q') (hdp : 1 ≤ d) (hn : as.length = n) (hst : as.reverse ++ vR b :: st = st0) (hw : jW st ≤ 8) (h1 : mc ≤ bc) (h2 : ms ≤ bs)
    (kx : ∀ C x h', Q' (.inr (C, x)) h' → GX E d (bc - mc) (bs - ms) M pc ls h' C x Q) (kr : ∀ r h', Q' (.inl r) h' → G E d (bc - mc) (bs - ms) M (pc + 3) ls (r.toList ++ st) h' Q) : G E d bc bs M pc ls st0 h Q := by
  subst hst
  intro p e s m args below meth c R H locs cells slots A F r z l lo hc hs T hT X
  have hR1 := F.2.2.2.2.2.2.2.2.2.2.2.1
  have hR2 := F.2.2.2.2.2.2.2.2.2.2.2.2.1
  have hml := me.2.2
  have hB := j_back (R := R) (p := p) (e := e) (below := below) (s := s) (sargs := args) (len := 3) (W9 := 8) F.1 F.2.1 hC me.1 me.2.1 (by omega) (by omega)
  refine j_goes F z l lo hc hs h1 h2 kr kx hT (iv E p e R s m args below meth c T locs cells slots 8 _ _ _ b.2 (F0 m pc A _) (as.map j_v) (st.map j_v) F.1 F.2.1 X F.2.2.1 F.2.2.2.2.2.2.2.1 hB rfl (l.1.trans F.2.2.2.2.2.2.1.symm) (by rw [List.length_map]; exact hn) (by rw [List.map_append, List.map_reverse]; rfl) (lv_room (by rw [jW_eq]; exact hw)) (by rw [F.2.2.2.1]; exact hd) (fun vm₁ hW₁ => ⟨by show cells + mc ≤ R.cells; omega, by show slots + ms ≤ R.slots; omega, rfl, State.WarmedH.trans F.2.1 hW₁, ?_, ?_⟩))
  · show _ ≤ T.heap.size
    rw [hT]; exact z
  · show jRel E h T.heap
    rw [hT]; exact r
theorem g_callV {b : jN} {ci : Nat} {C0 : String} {T0 : u_T} {N0 : Nat} {fs : List jV} (hcl : gCl[ci]? = some (C0, T0, N0)) (iv : jIV M.1.cls i C0 M'.1 n) (me : jMe M') (hd : decode M.2.1 pc = .ok (.invokevirtual i, 3)) (hb : h b = some (oO ci fs)) (hC : Ct E (d - 1) mc ms M' (vR b :: as) h Q') (hdp : 1 ≤ d) (hn : as.length = n) (hst : as.reverse ++ vR b :: st = st0) (hw : jW st ≤ 8) (h1 : mc ≤ bc) (h2 : ms ≤ bs)
    (kx : ∀ C x h', Q' (.inr (C, x)) h' → GX E d (bc - mc) (bs - ms) M pc ls h' C x Q) (kr : ∀ r h', Q' (.inl r) h' → G E d (bc - mc) (bs - ms) M (pc + 3) ls (r.toList ++ st) h' Q) : G E d bc bs M pc ls st0 h Q := by
  subst hst
  intro p e s m args below meth c R H locs cells slots A F r z l lo hc hs T hT X
  have hR1 := F.2.2.2.2.2.2.2.2.2.2.2.1
  have hR2 := F.2.2.2.2.2.2.2.2.2.2.2.2.1
  have hml := me.2.2
  have hB := j_back (R := R) (p := p) (e := e) (below := below) (s := s) (sargs := args) (len := 3) (W9 := 8) F.1 F.2.1 hC me.1 me.2.1 (by omega) (by omega)
  obtain ⟨q', g0, cell, g1, g2, g3, -⟩ := r.1 _ _ hb
  refine j_goes F z l lo hc hs h1 h2 kr kx hT (iv E p e R s m args below meth c T locs cells slots 8 _ _ _ b.2 cell (F0 m pc A _) (as.map j_v) (st.map j_v) F.1 F.2.1 X F.2.2.1 F.2.2.2.2.2.2.2.1 hB (by rw [hT]; exact g1) (by rw [g3]; rfl) (by rw [g2]; exact (j_kn F.1 F.2.1 hcl).2.1) rfl (l.1.trans F.2.2.2.2.2.2.1.symm) (by rw [List.length_map]; exact hn) (by rw [List.map_append, List.map_reverse]; rfl) (lv_room (by rw [jW_eq]; exact hw)) (by rw [F.2.2.2.1]; exact hd) (fun vm₁ hW₁ => ⟨by show cells + mc ≤ R.cells; omega, by show slots + ms ≤ R.slots; omega, rfl, State.WarmedH.trans F.2.1 hW₁, ?_, ?_⟩))
  · show _ ≤ T.heap.size
    rw [hT]; exact z
  · show jRel E h T.heap
    rw [hT]; exact r
/-- nothing here takes what is thrown: it goes on to the caller -/
theorem gx_out {C : String} {x : jN} (hh : ∀ z ∈ tableOf M.2.2.2.2, covers z pc = false) (q : Q (.inr (C, x)) h) : GX E d bc bs M pc ls h C x Q := by
  intro p e s m args below meth c R H locs cells slots A rest ce F r z l lo hc hs hce hcv hcl T hT X
  have hout : ∀ y ∈ c.exceptionTable.toList, covers y pc = false := by rw [F.2.2.2.2.2.2.2.2.2.1]; exact hh
  obtain ⟨st1, hrun, hend, hW, hsm⟩ := X.leaveThrown x.2 (g := F0 m pc A rest) rfl rfl rfl hout F.2.2.2.2.1
  exact ⟨_, st1, .threw x.2, hrun, hend, Or.inr ⟨C, x, h, ce, locs, q, by show jRel E h T.heap; rw [hT]; exact r, rfl, by show T.heap[x.2]? = some ce; rw [hT]; exact hce, hcv, hcl, hW, hsm.mono (by omega) (by omega), lo⟩⟩
theorem g_athrow {C : String} {x : jN} {ci : Nat} {T0 : u_T} {N0 : Nat} {fs : List jV} (hcl : gCl[ci]? = some (C, T0, N0)) (hd : decode M.2.1 pc = .ok (.athrow, 1)) (hx : h x = some (oO ci fs)) (k : GX E d bc bs M pc ls h C x Q) : G E d bc bs M pc ls (vR x :: st) h Q := by
  intro p e s m args below meth c R H locs cells slots A F r z l lo hc hs
  obtain ⟨q', g0, cell, g1, g2, g3, -⟩ := r.1 _ _ hx
  exact vx_athrow F.2.2.1 F.2.2.2.1 hd (k p e s m args below meth c R H locs cells slots A (st.map j_v) cell F r z l lo hc hs g1 g3 (by rw [g2]; exact (j_kn F.1 F.2.1 hcl).2.1))
end
