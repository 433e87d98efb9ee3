/-! THE REFERENCE's WORLD: one object (role 1000), its rows of ints (role 1000 + the field's number), its tables (rows: 1000000 + 1000 * field + place). V 0 k: the int field k; V k: the row in field k; V (1000 * k + i): row i of the table in field k. am: addresses. -/
set_option maxRecDepth 100000
abbrev mV : Type := Nat → Nat → Int32
def sv (V : mV) (r j : Nat) (y : Int32) : mV := fun q => if q = r then j_up (V r) j y else V q
theorem j_up_same {α : Type} {f : Nat → α} {k : Nat} {v : α} : j_up f k v k = v := by unfold j_up; rw [if_pos rfl]
theorem j_up_ne {α : Type} {f : Nat → α} {k j : Nat} {v : α} (n : j ≠ k) : j_up f k v j = f j := by unfold j_up; rw [if_neg n]
theorem sv_row {V : mV} {r j : Nat} {y : Int32} : sv V r j y r = j_up (V r) j y := by unfold sv; rw [if_pos rfl]
theorem sv_ne {V : mV} {r j q : Nat} {y : Int32} (n : q ≠ r) : sv V r j y q = V q := by unfold sv; rw [if_neg n]
theorem sv_same {V : mV} {r j : Nat} {y : Int32} : sv V r j y r j = y := by rw [sv_row, j_up_same]
theorem sv_nj {V : mV} {r j i : Nat} {y : Int32} (n : i ≠ j) : sv V r j y r i = V r i := by rw [sv_row, j_up_ne n]
def mlen : Nat → Nat
  | 9 => 600 | 10 => 2 | 11 => 3 | 12 => 3 | 13 => 8 | 14 => 8 | 15 => 8 | 16 => 8 | 31 => 45 | 32 => 45 | 42 => 8 | 43 => 8 | 44 => 8 | 45 => 9 | _ => 0
def mgo : Nat → Nat
  | 17 => 10 | 18 => 10 | 19 => 8 | 20 => 8 | 23 => 160 | 24 => 160 | 25 => 10 | 26 => 10 | 29 => 80 | 33 => 16 | 34 => 3 | _ => 0
def mgi : Nat → Nat
  | 17 => 3 | 18 => 3 | 19 => 2 | 20 => 2 | 23 => 2 | 24 => 2 | 25 => 2 | 26 => 2 | 29 => 4 | 33 => 45 | 34 => 766 | _ => 0
abbrev nMo (am : Nat → Nat) : jN := (1000, am 0)
abbrev nMa (am : Nat → Nat) (k : Nat) : jN := (1000 + k, am k)
abbrev nMr (am : Nat → Nat) (k i : Nat) : jN := (1000000 + 1000 * k + i, am (1000 * k + i))
def mF (am : Nat → Nat) (V : mV) : List jV :=
  [vI (V 0 0), vI (V 0 1), vI (V 0 2), vI (V 0 3), vI (V 0 4), vI (V 0 5), vI (V 0 6), vI (V 0 7), vI (V 0 8), vR (nMa am 9), vR (nMa am 10), vR (nMa am 11), vR (nMa am 12), vR (nMa am 13), vR (nMa am 14), vR (nMa am 15), vR (nMa am 16), vR (nMa am 17), vR (nMa am 18), vR (nMa am 19), vR (nMa am 20), vI (V 0 21), vI (V 0 22), vR (nMa am 23), vR (nMa am 24), vR (nMa am 25), vR (nMa am 26), vR (nMa am 27), vR (nMa am 28), vR (nMa am 29), vI (V 0 30), vR (nMa am 31), vR (nMa am 32), vR (nMa am 33), vR (nMa am 34), vI (V 0 35), vI (V 0 36), vI (V 0 37), vI (V 0 38), vI (V 0 39), vI (V 0 40), vI (V 0 41), vR (nMa am 42), vR (nMa am 43), vR (nMa am 44), vR (nMa am 45), vI (V 0 46), vI (V 0 47), vI (V 0 48)]
theorem mf_0 {am : Nat → Nat} {V : mV} : (mF am V)[0]? = some (vI (V 0 0)) := rfl
theorem mf_1 {am : Nat → Nat} {V : mV} : (mF am V)[1]? = some (vI (V 0 1)) := rfl
theorem mf_2 {am : Nat → Nat} {V : mV} : (mF am V)[2]? = some (vI (V 0 2)) := rfl
theorem mf_3 {am : Nat → Nat} {V : mV} : (mF am V)[3]? = some (vI (V 0 3)) := rfl
theorem mf_4 {am : Nat → Nat} {V : mV} : (mF am V)[4]? = some (vI (V 0 4)) := rfl
theorem mf_5 {am : Nat → Nat} {V : mV} : (mF am V)[5]? = some (vI (V 0 5)) := rfl
theorem mf_6 {am : Nat → Nat} {V : mV} : (mF am V)[6]? = some (vI (V 0 6)) := rfl
theorem mf_7 {am : Nat → Nat} {V : mV} : (mF am V)[7]? = some (vI (V 0 7)) := rfl
theorem mf_8 {am : Nat → Nat} {V : mV} : (mF am V)[8]? = some (vI (V 0 8)) := rfl
theorem mf_9 {am : Nat → Nat} {V : mV} : (mF am V)[9]? = some (vR (nMa am 9)) := rfl
theorem mf_10 {am : Nat → Nat} {V : mV} : (mF am V)[10]? = some (vR (nMa am 10)) := rfl
theorem mf_11 {am : Nat → Nat} {V : mV} : (mF am V)[11]? = some (vR (nMa am 11)) := rfl
theorem mf_12 {am : Nat → Nat} {V : mV} : (mF am V)[12]? = some (vR (nMa am 12)) := rfl
theorem mf_13 {am : Nat → Nat} {V : mV} : (mF am V)[13]? = some (vR (nMa am 13)) := rfl
theorem mf_14 {am : Nat → Nat} {V : mV} : (mF am V)[14]? = some (vR (nMa am 14)) := rfl
theorem mf_15 {am : Nat → Nat} {V : mV} : (mF am V)[15]? = some (vR (nMa am 15)) := rfl
theorem mf_16 {am : Nat → Nat} {V : mV} : (mF am V)[16]? = some (vR (nMa am 16)) := rfl
theorem mf_17 {am : Nat → Nat} {V : mV} : (mF am V)[17]? = some (vR (nMa am 17)) := rfl
theorem mf_18 {am : Nat → Nat} {V : mV} : (mF am V)[18]? = some (vR (nMa am 18)) := rfl
theorem mf_19 {am : Nat → Nat} {V : mV} : (mF am V)[19]? = some (vR (nMa am 19)) := rfl
theorem mf_20 {am : Nat → Nat} {V : mV} : (mF am V)[20]? = some (vR (nMa am 20)) := rfl
theorem mf_21 {am : Nat → Nat} {V : mV} : (mF am V)[21]? = some (vI (V 0 21)) := rfl
theorem mf_22 {am : Nat → Nat} {V : mV} : (mF am V)[22]? = some (vI (V 0 22)) := rfl
theorem mf_23 {am : Nat → Nat} {V : mV} : (mF am V)[23]? = some (vR (nMa am 23)) := rfl
theorem mf_24 {am : Nat → Nat} {V : mV} : (mF am V)[24]? = some (vR (nMa am 24)) := rfl
theorem mf_25 {am : Nat → Nat} {V : mV} : (mF am V)[25]? = some (vR (nMa am 25)) := rfl
theorem mf_26 {am : Nat → Nat} {V : mV} : (mF am V)[26]? = some (vR (nMa am 26)) := rfl
theorem mf_27 {am : Nat → Nat} {V : mV} : (mF am V)[27]? = some (vR (nMa am 27)) := rfl
theorem mf_28 {am : Nat → Nat} {V : mV} : (mF am V)[28]? = some (vR (nMa am 28)) := rfl
theorem mf_29 {am : Nat → Nat} {V : mV} : (mF am V)[29]? = some (vR (nMa am 29)) := rfl
theorem mf_30 {am : Nat → Nat} {V : mV} : (mF am V)[30]? = some (vI (V 0 30)) := rfl
theorem mf_31 {am : Nat → Nat} {V : mV} : (mF am V)[31]? = some (vR (nMa am 31)) := rfl
theorem mf_32 {am : Nat → Nat} {V : mV} : (mF am V)[32]? = some (vR (nMa am 32)) := rfl
theorem mf_33 {am : Nat → Nat} {V : mV} : (mF am V)[33]? = some (vR (nMa am 33)) := rfl
theorem mf_34 {am : Nat → Nat} {V : mV} : (mF am V)[34]? = some (vR (nMa am 34)) := rfl
theorem mf_35 {am : Nat → Nat} {V : mV} : (mF am V)[35]? = some (vI (V 0 35)) := rfl
theorem mf_36 {am : Nat → Nat} {V : mV} : (mF am V)[36]? = some (vI (V 0 36)) := rfl
theorem mf_37 {am : Nat → Nat} {V : mV} : (mF am V)[37]? = some (vI (V 0 37)) := rfl
theorem mf_38 {am : Nat → Nat} {V : mV} : (mF am V)[38]? = some (vI (V 0 38)) := rfl
theorem mf_39 {am : Nat → Nat} {V : mV} : (mF am V)[39]? = some (vI (V 0 39)) := rfl
theorem mf_40 {am : Nat → Nat} {V : mV} : (mF am V)[40]? = some (vI (V 0 40)) := rfl
theorem mf_41 {am : Nat → Nat} {V : mV} : (mF am V)[41]? = some (vI (V 0 41)) := rfl
theorem mf_42 {am : Nat → Nat} {V : mV} : (mF am V)[42]? = some (vR (nMa am 42)) := rfl
theorem mf_43 {am : Nat → Nat} {V : mV} : (mF am V)[43]? = some (vR (nMa am 43)) := rfl
theorem mf_44 {am : Nat → Nat} {V : mV} : (mF am V)[44]? = some (vR (nMa am 44)) := rfl
theorem mf_45 {am : Nat → Nat} {V : mV} : (mF am V)[45]? = some (vR (nMa am 45)) := rfl
theorem mf_46 {am : Nat → Nat} {V : mV} : (mF am V)[46]? = some (vI (V 0 46)) := rfl
theorem mf_47 {am : Nat → Nat} {V : mV} : (mF am V)[47]? = some (vI (V 0 47)) := rfl
theorem mf_48 {am : Nat → Nat} {V : mV} : (mF am V)[48]? = some (vI (V 0 48)) := rfl
/-- the int fields -/
def mint : Nat → Bool
  | 0 | 1 | 2 | 3 | 4 | 5 | 6 | 7 | 8 | 21 | 22 | 30 | 35 | 36 | 37 | 38 | 39 | 40 | 41 | 46 | 47 | 48 => true
  | _ => false
def InvM (am : Nat → Nat) (V : mV) (h : jH) : Prop :=
  h (nMo am) = some (oO 11 (mF am V)) ∧ (∀ k, mlen k ≠ 0 → h (nMa am k) = some (iA (mlen k) (V k))) ∧ (∀ k, mgo k ≠ 0 → h (nMa am k) = some (rA 5 (mgo k) (fun i => some (nMr am k i)))) ∧
  (∀ k i, i < mgo k → h (nMr am k i) = some (iA (mgi k) (V (1000 * k + i)))) ∧ h (nMa am 27) = some (oS 160) ∧ h (nMa am 28) = some (oS 8)
/-- nothing outside the reference's world has changed -/
def mFr (h h' : jH) : Prop := ∀ x : jN, x.1 < 1000 → h' x = h x
theorem mFr.rf {h : jH} : mFr h h := fun _ _ => rfl
theorem mFr.tr {h1 h2 h3 : jH} (a : mFr h1 h2) (b : mFr h2 h3) : mFr h1 h3 := fun x hx => (b x hx).trans (a x hx)
theorem mFr.set {h : jH} {x : jN} {o : jO} (hx : 1000 ≤ x.1) : mFr h (hs h x o) := fun y hy => hs_ne (fun e => by rw [e] at hy; omega)
theorem hs_nr {h : jH} {a b : jN} {o : jO} (n : b.1 ≠ a.1) : hs h a o b = h b := hs_ne (fun e => n (by rw [e]))
theorem mA {am : Nat → Nat} {V : mV} {h : jH} (hI : InvM am V h) (k n : Nat) (hn : mlen k = n) (h0 : n ≠ 0) : h (nMa am k) = some (iA n (V k)) := by
  subst hn
  exact hI.2.1 k h0
theorem mG {am : Nat → Nat} {V : mV} {h : jH} (hI : InvM am V h) (k n : Nat) (hn : mgo k = n) (h0 : n ≠ 0) : h (nMa am k) = some (rA 5 n (fun i => some (nMr am k i))) := by
  subst hn
  exact hI.2.2.1 k h0
theorem mR {am : Nat → Nat} {V : mV} {h : jH} (hI : InvM am V h) (k n i : Nat) (hn : mgi k = n) (hi : i < mgo k) : h (nMr am k i) = some (iA n (V (1000 * k + i))) := by
  subst hn
  exact hI.2.2.2.1 k i hi
theorem mlen_lt {k : Nat} (h : mlen k ≠ 0) : 9 ≤ k ∧ k ≤ 45 ∧ mgo k = 0 ∧ k ≠ 27 ∧ k ≠ 28 := by
  unfold mlen at h
  split at h <;> first | exact absurd rfl h | decide
theorem mgo_lt {k : Nat} (h : mgo k ≠ 0) : 17 ≤ k ∧ k ≤ 34 ∧ mlen k = 0 ∧ mgo k ≤ 160 ∧ k ≠ 27 ∧ k ≠ 28 := by
  unfold mgo at h
  split at h <;> first | exact absurd rfl h | decide
theorem mF_sv {am : Nat → Nat} {V : mV} {r j : Nat} {y : Int32} (h : r ≠ 0) : mF am (sv V r j y) = mF am V := by
  have e : sv V r j y 0 = V 0 := sv_ne (fun q => h q.symm)
  unfold mF
  rw [e]
theorem InvM.arr {am : Nat → Nat} {V : mV} {h : jH} {k j n : Nat} {y : Int32} (hI : InvM am V h) (hn : mlen k = n) (h0 : n ≠ 0) : InvM am (sv V k j y) (hs h (nMa am k) (iA n (j_up (V k) j y))) := by
  subst hn
  have hk := mlen_lt h0
  refine ⟨?_, fun q hq => ?_, fun q hq => ?_, fun q i hi => ?_, ?_, ?_⟩
  · rw [hs_nr (by simp <;> omega), mF_sv (by omega)]
    exact hI.1
  · by_cases e : q = k
    · subst e
      rw [hs_same, sv_row]
    · rw [hs_nr (by simp <;> omega), sv_ne e]
      exact hI.2.1 q hq
  · have := mgo_lt hq
    rw [hs_nr (by simp <;> (intro e; subst e; omega))]
    exact hI.2.2.1 q hq
  · have := mgo_lt (k := q) (by omega)
    rw [hs_nr (by simp <;> omega), sv_ne (by omega)]
    exact hI.2.2.2.1 q i hi
  · rw [hs_nr (by simp <;> omega)]
    exact hI.2.2.2.2.1
  · rw [hs_nr (by simp <;> omega)]
    exact hI.2.2.2.2.2
theorem InvM.row {am : Nat → Nat} {V : mV} {h : jH} {k i j n : Nat} {y : Int32} (hI : InvM am V h) (hn : mgi k = n) (hi : i < mgo k) : InvM am (sv V (1000 * k + i) j y) (hs h (nMr am k i) (iA n (j_up (V (1000 * k + i)) j y))) := by
  subst hn
  have hk := mgo_lt (k := k) (by omega)
  refine ⟨?_, fun q hq => ?_, fun q hq => ?_, fun q i' hi' => ?_, ?_, ?_⟩
  · rw [hs_nr (by simp <;> omega), mF_sv (by omega)]
    exact hI.1
  · have := mlen_lt hq
    rw [hs_nr (by simp <;> omega), sv_ne (by omega)]
    exact hI.2.1 q hq
  · have := mgo_lt hq
    rw [hs_nr (by simp <;> omega)]
    exact hI.2.2.1 q hq
  · have := mgo_lt (k := q) (by omega)
    by_cases e : q = k ∧ i' = i
    · obtain ⟨e1, e2⟩ := e
      subst e1; subst e2
      rw [hs_same, sv_row]
    · rw [hs_nr (by simp <;> omega), sv_ne (by omega)]
      exact hI.2.2.2.1 q i' hi'
  · rw [hs_nr (by simp <;> omega)]
    exact hI.2.2.2.2.1
  · rw [hs_nr (by simp <;> omega)]
    exact hI.2.2.2.2.2
theorem mF_put {am : Nat → Nat} {V : mV} {k : Nat} {y : Int32} (h : mint k = true) : (mF am V).set k (vI y) = mF am (sv V 0 k y) := by
  have e : ∀ q, sv V 0 k y 0 q = if q = k then y else V 0 q := fun q => by rw [sv_row]; rfl
  unfold mF
  simp only [e]
  unfold mint at h
  split at h <;> first | rfl | cases h
theorem InvM.fld {am : Nat → Nat} {V : mV} {h : jH} {k : Nat} {y : Int32} (hI : InvM am V h) (hk : mint k = true) : InvM am (sv V 0 k y) (hs h (nMo am) (oO 11 ((mF am V).set k (vI y)))) := by
  refine ⟨?_, fun q hq => ?_, fun q hq => ?_, fun q i' hi' => ?_, ?_, ?_⟩
  · rw [hs_same, mF_put hk]
  · have := mlen_lt hq
    rw [hs_nr (by simp <;> omega), sv_ne (by omega)]
    exact hI.2.1 q hq
  · have := mgo_lt hq
    rw [hs_nr (by simp <;> omega)]
    exact hI.2.2.1 q hq
  · have := mgo_lt (k := q) (by omega)
    rw [hs_nr (by simp <;> omega), sv_ne (by omega)]
    exact hI.2.2.2.1 q i' hi'
  · rw [hs_nr (by simp)]
    exact hI.2.2.2.2.1
  · rw [hs_nr (by simp)]
    exact hI.2.2.2.2.2
section
variable {E : jE} {d bc bs : Nat} {M : jM} {pc : Nat} {ls : List (Option jV)} {st : List jV} {h : jH} {Q : jR → jH → Prop} {am : Nat → Nat} {V : mV}
theorem m_put {i k : Nat} {y : Int32} (hI : InvM am V h) (fl : jFw M.1.cls i 11 k .int) (hk : mint k = true) (hl : k < 49) (hd : decode M.2.1 pc = .ok (.putfield i, 3)) (kk : ∀ h', InvM am (sv V 0 k y) h' → mFr h h' → G E d bc bs M (pc + 3) ls st h' Q) : G E d bc bs M pc ls (vI y :: vR (nMo am) :: st) h Q :=
  g_putfield fl hd hI.1 hl (by simp) (j_fit_int y) rfl (kk _ (hI.fld hk) (mFr.set (Nat.le_refl _)))
theorem m_iast {i y : Int32} {k j n : Nat} (hI : InvM am V h) (hn : mlen k = n) (h0 : n ≠ 0) (hd : decode M.2.1 pc = .ok (.iastore, 1)) (hi : i = nI j) (hj : j < n) (h31 : n < 2 ^ 31) (kk : ∀ h', InvM am (sv V k j y) h' → mFr h h' → G E d bc bs M (pc + 1) ls st h' Q) : G E d bc bs M pc ls (vI y :: vI i :: vR (nMa am k) :: st) h Q :=
  g_iastore hd (mA hI k n hn h0) (by simp <;> omega) hi hj h31 (kk _ (hI.arr hn h0) (mFr.set (by simp)))
theorem m_rast {i y : Int32} {k a j n : Nat} (hI : InvM am V h) (hn : mgi k = n) (ha : a < mgo k) (hd : decode M.2.1 pc = .ok (.iastore, 1)) (hi : i = nI j) (hj : j < n) (h31 : n < 2 ^ 31) (kk : ∀ h', InvM am (sv V (1000 * k + a) j y) h' → mFr h h' → G E d bc bs M (pc + 1) ls st h' Q) : G E d bc bs M pc ls (vI y :: vI i :: vR (nMr am k a) :: st) h Q :=
  g_iastore hd (mR hI k n a hn ha) (by simp <;> omega) hi hj h31 (kk _ (hI.row hn ha) (mFr.set (by simp <;> omega)))
end
/-- a method's end: it answers v, the world is V' -/
def mQ (am : Nat → Nat) (V' : mV) (h : jH) (v : Option jV) : jR → jH → Prop := fun r h' => r = .inl v ∧ InvM am V' h' ∧ mFr h h'
/-- .. it answers v, nothing has changed -/
def qR (v : Option jV) (h : jH) : jR → jH → Prop := fun r h' => r = .inl v ∧ h' = h
/-! calls, the common kinds -/
section
variable {E : jE} {d bc bs mc ms : Nat} {M M' : jM} {pc i n : Nat} {ls : List (Option jV)} {st st0 as : List jV} {h : jH} {Q : jR → jH → Prop} {w : jV} {am : Nat → Nat} {V V' : mV}
/-- a static call that changes nothing -/
theorem g_cS (iv : jIS M.1.cls i M'.1 n) (me : jMe M') (hd : decode M.2.1 pc = .ok (.invokestatic i, 3)) (hC : Ct E (d - 1) 0 0 M' as h (qR (some w) h)) (hdp : 1 ≤ d) (hn : as.length = n) (hst : as.reverse ++ st = st0) (hw : jW st ≤ 8) (kr : G E d bc bs M (pc + 3) ls (w :: st) h Q) : G E d bc bs M pc ls st0 h Q :=
  g_callS iv me hd hC hdp hn hst hw (Nat.zero_le _) (Nat.zero_le _) (fun C x h' q => by cases q.1) (fun r h' q => by
    obtain ⟨e1, e2⟩ := q
    cases e1
    subst e2
    exact kr)
/-- a call on an object that changes nothing -/
theorem g_cV {b : jN} {ci : Nat} {C0 : String} {T0 : u_T} {N0 : Nat} {fs : List jV} (hcl : gCl[ci]? = some (C0, T0, N0)) (iv : jIV M.1.cls i C0 M'.1 n) (me : jMe M') (hd : decode M.2.1 pc = .ok (.invokevirtual i, 3)) (hb : h b = some (oO ci fs)) (hC : Ct E (d - 1) 0 0 M' (vR b :: as) h (qR (some w) h)) (hdp : 1 ≤ d) (hn : as.length = n) (hst : as.reverse ++ vR b :: st = st0) (hw : jW st ≤ 8) (kr : G E d bc bs M (pc + 3) ls (w :: st) h Q) : G E d bc bs M pc ls st0 h Q :=
  g_callV hcl iv me hd hb hC hdp hn hst hw (Nat.zero_le _) (Nat.zero_le _) (fun C x h' q => by cases q.1) (fun r h' q => by
    obtain ⟨e1, e2⟩ := q
    cases e1
    subst e2
    exact kr)
/-- the reference's calls of its own methods: an answer, and a new world -/
theorem m_cV (iv : jIV M.1.cls i RX11 M'.1 n) (me : jMe M') (hI : InvM am V h) (hd : decode M.2.1 pc = .ok (.invokevirtual i, 3)) (hC : Ct E (d - 1) 0 0 M' (vR (nMo am) :: as) h (mQ am V' h (some w))) (hdp : 1 ≤ d) (hn : as.length = n) (hst : as.reverse ++ vR (nMo am) :: st = st0) (hw : jW st ≤ 8) (kr : ∀ h', InvM am V' h' → mFr h h' → G E d bc bs M (pc + 3) ls (w :: st) h' Q) : G E d bc bs M pc ls st0 h Q :=
  g_callV (ci := 11) rfl iv me hd hI.1 hC hdp hn hst hw (Nat.zero_le _) (Nat.zero_le _) (fun C x h' q => by cases q.1) (fun r h' q => by
    obtain ⟨e1, e2, e3⟩ := q
    cases e1
    exact kr h' e2 e3)
theorem m_cVv (iv : jIV M.1.cls i RX11 M'.1 n) (me : jMe M') (hI : InvM am V h) (hd : decode M.2.1 pc = .ok (.invokevirtual i, 3)) (hC : Ct E (d - 1) 0 0 M' (vR (nMo am) :: as) h (mQ am V' h none)) (hdp : 1 ≤ d) (hn : as.length = n) (hst : as.reverse ++ vR (nMo am) :: st = st0) (hw : jW st ≤ 8) (kr : ∀ h', InvM am V' h' → mFr h h' → G E d bc bs M (pc + 3) ls st h' Q) : G E d bc bs M pc ls st0 h Q :=
  g_callV (ci := 11) rfl iv me hd hI.1 hC hdp hn hst hw (Nat.zero_le _) (Nat.zero_le _) (fun C x h' q => by cases q.1) (fun r h' q => by
    obtain ⟨e1, e2, e3⟩ := q
    cases e1
    exact kr h' e2 e3)
theorem m_cP (iv : jIV M.1.cls i RX11 M'.1 n) (me : jMe M') (hI : InvM am V h) (hd : decode M.2.1 pc = .ok (.invokevirtual i, 3)) (hC : Ct E (d - 1) 0 0 M' (vR (nMo am) :: as) h (qR (some w) h)) (hdp : 1 ≤ d) (hn : as.length = n) (hst : as.reverse ++ vR (nMo am) :: st = st0) (hw : jW st ≤ 8) (kr : G E d bc bs M (pc + 3) ls (w :: st) h Q) : G E d bc bs M pc ls st0 h Q :=
  g_cV (ci := 11) rfl iv me hd hI.1 hC hdp hn hst hw kr
theorem m_cSv (iv : jIS M.1.cls i M'.1 n) (me : jMe M') (hd : decode M.2.1 pc = .ok (.invokestatic i, 3)) (hC : Ct E (d - 1) 0 0 M' as h (mQ am V' h none)) (hdp : 1 ≤ d) (hn : as.length = n) (hst : as.reverse ++ st = st0) (hw : jW st ≤ 8) (kr : ∀ h', InvM am V' h' → mFr h h' → G E d bc bs M (pc + 3) ls st h' Q) : G E d bc bs M pc ls st0 h Q :=
  g_callS iv me hd hC hdp hn hst hw (Nat.zero_le _) (Nat.zero_le _) (fun C x h' q => by cases q.1) (fun r h' q => by
    obtain ⟨e1, e2, e3⟩ := q
    cases e1
    exact kr h' e2 e3)
end
