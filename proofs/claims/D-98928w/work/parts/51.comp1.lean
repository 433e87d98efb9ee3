/-! THE COMPONENT: rows -/
set_option maxRecDepth 100000
/-- a contract out of the walk of its body, whatever its class's name -/
theorem ct_ofF {E : jE} {d bc bs : Nat} {M : jM} {as : List jV} {h : jH} {Q : jR → jH → Prop} {ls : List (Option jV)} (hy : plainFor M.1 = true) (hl : (jEn as).length ≤ M.2.2.1) (he : jEn as ++ List.replicate (M.2.2.1 - (jEn as).length) none = ls) (k : G E d bc bs M 0 ls [] h Q) : Ct E d bc bs M as h Q := by
  subst he
  intro K
  obtain ⟨y, cc, maxL, ret, hh⟩ := M
  dsimp only at hy hl k
  refine MetFree.of_bodySF (code := cc) (maxLocals := maxL) (ret := ret) hy ?_ ?_
  · intro args s m hp hn
    have hw := atoms_spec (ws := jws (y, cc, maxL, ret, hh)) hp _ List.mem_cons_self
    cases hh with
    | nil =>
      obtain ⟨meth, c, h1, h2, h3, h4, h5, h6, -, -⟩ := Cond.code_spec hn hw
      exact ⟨meth, c, h1, h2, h3, h4, h5, h6⟩
    | cons a b =>
      obtain ⟨m9, meth, c, hn9, h1, h2, h3, h4, -, h5, h6, -⟩ := Cond.codeWith_spec hw
      cases hn.symm.trans hn9
      exact ⟨meth, c, h1, h2, h3, h4, h5, h6⟩
  · intro p e s m args below meth c s₁ B hml hP _
    obtain ⟨rfl, hW, hz, hR⟩ := hP
    have hh0 : s₁.heap = s.heap := by rw [B.state]; rfl
    have X := Stand.of_body B
    have hw := atoms_spec (ws := jws (y, cc, maxL, ret, hh)) B.pre _ List.mem_cons_self
    have htab : c.exceptionTable.toList = tableOf hh := by
      cases hh with
      | nil =>
        obtain ⟨meth', c', h1, h2, -, -, -, -, h7, -⟩ := Cond.code_spec B.named hw
        cases Option.some.inj (h1.symm.trans B.method)
        cases Option.some.inj (h2.symm.trans X.code)
        have : c.exceptionTable = #[] := by simpa using h7
        rw [this]
        rfl
      | cons a b => exact vx_table (x := y) B hw
    have F : jF E d (y, cc, maxL, ret, hh) p s m meth c (headSpec (jws (y, cc, maxL, ret, hh)) { frames := d, cells := bc, slots := bs, locals := 40 * d }).room :=
      ⟨K, hW, B.exec, B.bytes, B.notSynchronized, B.returns, hml, findClass_of_methodNamed B.named, (name_of_methodNamed B.named B.method).1, htab, hz, rfl, rfl, hR.2.2.2⟩
    have hen := lv_entry (as.map j_v) (n := maxL) (by rw [jEn_len]; exact hl)
    have kk := k p e s m (as.map j_v).toArray below meth c _ s.heap [] 0 0 _ F hR hz ⟨hen.1, hen.2.1, fun i v hi => ?_⟩ (fun q hq => by cases hq) (Nat.le_of_eq (Nat.zero_add _)) (Nat.le_of_eq (Nat.zero_add _))
    · have kk2 := kk s₁ hh0 X
      obtain ⟨t, a1, o, b1, b2, b3⟩ := kk2
      refine ⟨t, o, ?_, b1, b2, b3⟩
      rw [lg_entry_eq]
      exact a1
    · have h1 : (jEn as)[i]? = some (some v) := by
        rcases Nat.lt_or_ge i (jEn as).length with q | q
        · rw [List.getElem?_append_left q] at hi; exact hi
        · rw [List.getElem?_append_right q] at hi
          have := List.mem_of_getElem? hi
          rw [List.mem_replicate] at this
          cases this.2
      have h2 := jEn_at as 0 i v h1
      rw [Nat.zero_add] at h2
      exact hen.2.2 _ h2
theorem InvC.fct {ac : Nat → Nat} {W : mV} {g : HD} {F : (Nat → Int32) → Int32} {h : jH} (hI : InvC ac W g F h) : h (nC ac 12) = some (iA 8 (hI.2.2.1 12 (by decide)).choose) := (hI.2.2.1 12 (by decide)).choose_spec
theorem InvC.s29 {ac : Nat → Nat} {W : mV} {g : HD} {F : (Nat → Int32) → Int32} {h : jH} (hI : InvC ac W g F h) : h (nC ac 29) = some (iA 9216 (W 19)) := hI.2.1.2.2.2.2.2.2.2.1
theorem InvC.s30 {ac : Nat → Nat} {W : mV} {g : HD} {F : (Nat → Int32) → Int32} {h : jH} (hI : InvC ac W g F h) : h (nC ac 30) = some (iA 8 (W 20)) := hI.2.1.2.2.2.2.2.2.2.2.1
theorem InvC.s31 {ac : Nat → Nat} {W : mV} {g : HD} {F : (Nat → Int32) → Int32} {h : jH} (hI : InvC ac W g F h) : h (nC ac 31) = some (iA 8 (W 21)) := hI.2.1.2.2.2.2.2.2.2.2.2.1
theorem InvC.s32 {ac : Nat → Nat} {W : mV} {g : HD} {F : (Nat → Int32) → Int32} {h : jH} (hI : InvC ac W g F h) : h (nC ac 32) = some (iA 100 (W 22)) := hI.2.1.2.2.2.2.2.2.2.2.2.2
def cQ (ac : Nat → Nat) (W' : mV) (g : HD) (F : (Nat → Int32) → Int32) (h : jH) (v : Option jV) : jR → jH → Prop := fun r h' => r = .inl v ∧ InvC ac W' g F h' ∧ cFr h h'
theorem sv_up {W : mV} {k j : Nat} {y : Int32} : sv W k j y k = j_up (W k) j y := sv_row
section
variable {E : jE} {d bc bs : Nat} {M M' : jM} {pc : Nat} {ls : List (Option jV)} {st st0 as : List jV} {h : jH} {Q : jR → jH → Prop} {ac : Nat → Nat} {W W' : mV} {g : HD} {F : (Nat → Int32) → Int32} {w : jV} {n0 : Nat}
theorem c_put {i k : Nat} {y : Int32} (hI : InvC ac W g F h) (fl : jFw M.1.cls i 1 k .int) (hk : cint k = true) (hl : k < 25) (hd : decode M.2.1 pc = .ok (.putfield i, 3)) (kk : ∀ h', InvC ac (sv W 0 k y) g F h' → cFr h h' → G E d bc bs M (pc + 3) ls st h' Q) : G E d bc bs M pc ls (vI y :: vR (nC ac 1) :: st) h Q :=
  g_putfield fl hd hI.1 hl (Nat.succ_ne_zero _) (j_fit_int y) rfl (kk _ (hI.fld hk) (cFr.set (Nat.le_of_ble_eq_true rfl)))
theorem c_rast {i y : Int32} {k j n : Nat} (hI : InvC ac W g F h) (hn : crl k = n) (h0 : n ≠ 0) (hd : decode M.2.1 pc = .ok (.iastore, 1)) (hi : i = nI j) (hj : j < n) (h31 : n < 2 ^ 31) (kk : ∀ h', InvC ac (sv W k j y) g F h' → cFr h h' → G E d bc bs M (pc + 1) ls st h' Q) : G E d bc bs M pc ls (vI y :: vI i :: vR (nC ac (10 + k)) :: st) h Q := by
  subst hn
  have hk := crl_k h0
  refine g_iastore (f := W k) hd ?_ (by show 10 + k ≠ 0; omega) hi hj h31 (kk _ (hI.row h0) (cFr.set (by show 10 + k < 900; omega)))
  rcases hk with rfl | rfl | rfl | rfl | rfl | rfl | rfl
  · exact hI.2.1.1
  · exact hI.2.1.2.1
  · exact hI.2.1.2.2.1
  · exact hI.s29
  · exact hI.s30
  · exact hI.s31
  · exact hI.s32
theorem c_tast {i y y' : Int32} {j : Nat} (hI : InvC ac W g F h) (hd : decode M.2.1 pc = .ok (.bastore, 1)) (hi : i = nI j) (hj : j < 600) (hb : G E d bc bs M (pc + 1) ls st (hs h (nC ac 28) (bA 600 (j_up (W 18) j y'))) Q → G E d bc bs M pc ls (vI y :: vI i :: vR (nC ac 28) :: st) h Q) (kk : ∀ h', InvC ac (sv W 18 j y') g F h' → cFr h h' → G E d bc bs M (pc + 1) ls st h' Q) : G E d bc bs M pc ls (vI y :: vI i :: vR (nC ac 28) :: st) h Q :=
  hb (kk _ hI.tap (cFr.set (Nat.le_of_ble_eq_true rfl)))
/-- into what is forgotten: what it held is told by hx -/
theorem c_sast {i y : Int32} {k j n : Nat} {f : Nat → Int32} (hI : InvC ac W g F h) (hn : scl k = n) (h0 : n ≠ 0) (hd : decode M.2.1 pc = .ok (.iastore, 1)) (hx : h (nC ac k) = some (iA n f)) (hi : i = nI j) (hj : j < n) (h31 : n < 2 ^ 31) (kk : ∀ h', InvC ac W g F h' → cFr h h' → G E d bc bs M (pc + 1) ls st h' Q) : G E d bc bs M pc ls (vI y :: vI i :: vR (nC ac k) :: st) h Q := by
  have hk := scl_k (k := k) (by omega)
  exact g_iastore hd hx (by show k ≠ 0; omega) hi hj h31 (kk _ (hI.scr hn h0) (cFr.set (by show k < 900; omega)))
/-- houses -/
theorem hF_put {Z : Nat → Int32} {i k : Nat} {y : Int32} (h : decide (3 ≤ k ∧ k ≤ 8) = true) : (hF ac Z i).set k (vI y) = hF ac (j_up Z k y) i := by
  have : k = 3 ∨ k = 4 ∨ k = 5 ∨ k = 6 ∨ k = 7 ∨ k = 8 := by
    have := of_decide_eq_true h
    omega
  rcases this with rfl | rfl | rfl | rfl | rfl | rfl <;> rfl
theorem InvC.hf {i k : Nat} {y : Int32} (hI : InvC ac W g F h) (hl : liv W i) (hk : decide (3 ≤ k ∧ k ≤ 8) = true) : InvC ac (sv W (100 + i) k y) g F (hs h (nC ac (100 + i)) (oO 10 ((hF ac (W (100 + i)) i).set k (vI y)))) := by
  obtain ⟨q1, q2, q3, q4⟩ := hI.2.2.2.1 i hl
  refine hI.hou hl (fun r w1 w2 w3 w4 => sv_ne w1) (fun x hx => hs_ne (fun e => hx (Or.inl e))) ⟨?_, ?_, ?_, ?_⟩
  · rw [hs_same, sv_row, hF_put hk]
  · rw [hs_nr (by rw [nC_1, nC_1]; omega), sv_ne (by omega)]; exact q2
  · rw [hs_nr (by rw [nC_1, nC_1]; omega), sv_ne (by omega)]; exact q3
  · rw [hs_nr (by rw [nC_1, nC_1]; omega), sv_ne (by omega)]; exact q4
theorem c_hput {i' i k : Nat} {y : Int32} (hI : InvC ac W g F h) (hl : liv W i) (fl : jFw M.1.cls i' 10 k .int) (hk : decide (3 ≤ k ∧ k ≤ 8) = true) (hd : decode M.2.1 pc = .ok (.putfield i', 3)) (kk : ∀ h', InvC ac (sv W (100 + i) k y) g F h' → cFr h h' → G E d bc bs M (pc + 3) ls st h' Q) : G E d bc bs M pc ls (vI y :: vR (nC ac (100 + i)) :: st) h Q := by
  have hi := hl.lt
  have hk' := of_decide_eq_true hk
  exact g_putfield fl hd (hI.2.2.2.1 i hl).1 (by show k < 10; omega) (by show 100 + i ≠ 0; omega) (j_fit_int y) rfl (kk _ (hI.hf hl hk) (cFr.set (by show 100 + i < 900; omega)))
theorem InvC.ha200 {i j : Nat} {y : Int32} (hI : InvC ac W g F h) (hl : liv W i) : InvC ac (sv W (200 + i) j y) g F (hs h (nC ac (200 + i)) (iA 10 (j_up (W (200 + i)) j y))) := by
  obtain ⟨q1, q2, q3, q4⟩ := hI.2.2.2.1 i hl
  have hi := hl.lt
  refine hI.hou hl (fun r w1 w2 w3 w4 => sv_ne (by omega)) (fun x hx => hs_ne (fun e => hx (Or.inr (Or.inl e)))) ⟨?_, ?_, ?_, ?_⟩
  · rw [hs_nr (by rw [nC_1, nC_1]; omega), sv_ne (by omega)]; exact q1
  · rw [hs_same, sv_row]
  · rw [hs_nr (by rw [nC_1, nC_1]; omega), sv_ne (by omega)]; exact q3
  · rw [hs_nr (by rw [nC_1, nC_1]; omega), sv_ne (by omega)]; exact q4
theorem c_hast200 {x y : Int32} {i j : Nat} (hI : InvC ac W g F h) (hl : liv W i) (hd : decode M.2.1 pc = .ok (.iastore, 1)) (hi : x = nI j) (hj : j < 10) (kk : ∀ h', InvC ac (sv W (200 + i) j y) g F h' → cFr h h' → G E d bc bs M (pc + 1) ls st h' Q) : G E d bc bs M pc ls (vI y :: vI x :: vR (nC ac (200 + i)) :: st) h Q := by
  have hi9 := hl.lt
  exact g_iastore hd (hI.2.2.2.1 i hl).2.1 (by show 200 + i ≠ 0; omega) hi hj (by decide) (kk _ (hI.ha200 hl) (cFr.set (by show 200 + i < 900; omega)))
theorem InvC.ha300 {i j : Nat} {y : Int32} (hI : InvC ac W g F h) (hl : liv W i) : InvC ac (sv W (300 + i) j y) g F (hs h (nC ac (300 + i)) (iA 8 (j_up (W (300 + i)) j y))) := by
  obtain ⟨q1, q2, q3, q4⟩ := hI.2.2.2.1 i hl
  have hi := hl.lt
  refine hI.hou hl (fun r w1 w2 w3 w4 => sv_ne (by omega)) (fun x hx => hs_ne (fun e => hx (Or.inr (Or.inr (Or.inl e))))) ⟨?_, ?_, ?_, ?_⟩
  · rw [hs_nr (by rw [nC_1, nC_1]; omega), sv_ne (by omega)]; exact q1
  · rw [hs_nr (by rw [nC_1, nC_1]; omega), sv_ne (by omega)]; exact q2
  · rw [hs_same, sv_row]
  · rw [hs_nr (by rw [nC_1, nC_1]; omega), sv_ne (by omega)]; exact q4
theorem c_hast300 {x y : Int32} {i j : Nat} (hI : InvC ac W g F h) (hl : liv W i) (hd : decode M.2.1 pc = .ok (.iastore, 1)) (hi : x = nI j) (hj : j < 8) (kk : ∀ h', InvC ac (sv W (300 + i) j y) g F h' → cFr h h' → G E d bc bs M (pc + 1) ls st h' Q) : G E d bc bs M pc ls (vI y :: vI x :: vR (nC ac (300 + i)) :: st) h Q := by
  have hi9 := hl.lt
  exact g_iastore hd (hI.2.2.2.1 i hl).2.2.1 (by show 300 + i ≠ 0; omega) hi hj (by decide) (kk _ (hI.ha300 hl) (cFr.set (by show 300 + i < 900; omega)))
theorem InvC.ha400 {i j : Nat} {y : Int32} (hI : InvC ac W g F h) (hl : liv W i) : InvC ac (sv W (400 + i) j y) g F (hs h (nC ac (400 + i)) (iA 8 (j_up (W (400 + i)) j y))) := by
  obtain ⟨q1, q2, q3, q4⟩ := hI.2.2.2.1 i hl
  have hi := hl.lt
  refine hI.hou hl (fun r w1 w2 w3 w4 => sv_ne (by omega)) (fun x hx => hs_ne (fun e => hx (Or.inr (Or.inr (Or.inr e))))) ⟨?_, ?_, ?_, ?_⟩
  · rw [hs_nr (by rw [nC_1, nC_1]; omega), sv_ne (by omega)]; exact q1
  · rw [hs_nr (by rw [nC_1, nC_1]; omega), sv_ne (by omega)]; exact q2
  · rw [hs_nr (by rw [nC_1, nC_1]; omega), sv_ne (by omega)]; exact q3
  · rw [hs_same, sv_row]
theorem c_hast400 {x y : Int32} {i j : Nat} (hI : InvC ac W g F h) (hl : liv W i) (hd : decode M.2.1 pc = .ok (.iastore, 1)) (hi : x = nI j) (hj : j < 8) (kk : ∀ h', InvC ac (sv W (400 + i) j y) g F h' → cFr h h' → G E d bc bs M (pc + 1) ls st h' Q) : G E d bc bs M pc ls (vI y :: vI x :: vR (nC ac (400 + i)) :: st) h Q := by
  have hi9 := hl.lt
  exact g_iastore hd (hI.2.2.2.1 i hl).2.2.2 (by show 400 + i ≠ 0; omega) hi hj (by decide) (kk _ (hI.ha400 hl) (cFr.set (by show 400 + i < 900; omega)))
theorem c_cV {b : jN} {ci i : Nat} {C0 : String} {T0 : u_T} {N0 : Nat} {fs : List jV} (hcl : gCl[ci]? = some (C0, T0, N0)) (iv : jIV M.1.cls i C0 M'.1 n0) (me : jMe M') (hd : decode M.2.1 pc = .ok (.invokevirtual i, 3)) (hb : h b = some (oO ci fs)) (hC : Ct E (d - 1) 0 0 M' (vR b :: as) h (cQ ac W' g F h (some w))) (hdp : 1 ≤ d) (hn : as.length = n0) (hst : as.reverse ++ vR b :: st = st0) (hw : jW st ≤ 8) (kr : ∀ h', InvC ac W' g F h' → cFr h h' → G E d bc bs M (pc + 3) ls (w :: st) h' Q) : G E d bc bs M pc ls st0 h Q :=
  g_callV hcl iv me hd hb hC hdp hn hst hw (Nat.zero_le _) (Nat.zero_le _) (fun C x h' q => by cases q.1) (fun r h' q => by
    obtain ⟨e1, e2, e3⟩ := q
    cases e1
    exact kr h' e2 e3)
theorem c_cVv {b : jN} {ci i : Nat} {C0 : String} {T0 : u_T} {N0 : Nat} {fs : List jV} (hcl : gCl[ci]? = some (C0, T0, N0)) (iv : jIV M.1.cls i C0 M'.1 n0) (me : jMe M') (hd : decode M.2.1 pc = .ok (.invokevirtual i, 3)) (hb : h b = some (oO ci fs)) (hC : Ct E (d - 1) 0 0 M' (vR b :: as) h (cQ ac W' g F h none)) (hdp : 1 ≤ d) (hn : as.length = n0) (hst : as.reverse ++ vR b :: st = st0) (hw : jW st ≤ 8) (kr : ∀ h', InvC ac W' g F h' → cFr h h' → G E d bc bs M (pc + 3) ls st h' Q) : G E d bc bs M pc ls st0 h Q :=
  g_callV hcl iv me hd hb hC hdp hn hst hw (Nat.zero_le _) (Nat.zero_le _) (fun C x h' q => by cases q.1) (fun r h' q => by
    obtain ⟨e1, e2, e3⟩ := q
    cases e1
    exact kr h' e2 e3)
theorem c_cS {i : Nat} (iv : jIS M.1.cls i M'.1 n0) (me : jMe M') (hd : decode M.2.1 pc = .ok (.invokestatic i, 3)) (hC : Ct E (d - 1) 0 0 M' as h (cQ ac W' g F h (some w))) (hdp : 1 ≤ d) (hn : as.length = n0) (hst : as.reverse ++ st = st0) (hw : jW st ≤ 8) (kr : ∀ h', InvC ac W' g F h' → cFr h h' → G E d bc bs M (pc + 3) ls (w :: st) h' Q) : G E d bc bs M pc ls st0 h Q :=
  g_callS iv me hd hC hdp hn hst hw (Nat.zero_le _) (Nat.zero_le _) (fun C x h' q => by cases q.1) (fun r h' q => by
    obtain ⟨e1, e2, e3⟩ := q
    cases e1
    exact kr h' e2 e3)
end
