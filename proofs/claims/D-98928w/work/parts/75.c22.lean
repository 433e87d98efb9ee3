/-! THE JDK: Strings' lengths and hashes, equals, the constants. Printed by m_c22.py -/
set_option maxRecDepth 100000
/-- the same text -/
def eqN (t : Nat → Nat) (n m : Nat) (bs : List Int32) : Bool := decide (n = m ∧ ∀ j, j < n → nI (t j) = bs.getD j 0)
/-- a String constant: where it lies, its bytes -/
def stC (E : jE) (own : String) (k : Nat) (tx : String) (n : Nat) (bs : List Int32) (q v : Nat) : Prop := vk_R own k tx q (eS E) ∧ va_O "java/lang/String" q (eN E) (eS E) (eS E).heap ∧ va_OF "java/lang/String" "coder" "B" (.int 0) q (eN E) (eS E) (eS E).heap ∧ va_OF "java/lang/String" "value" "[B" (.ref v) q (eN E) (eS E) (eS E).heap ∧ va_T .byte v n (fun j => .int (bs.getD j 0)) (eN E) (eS E) (eS E).heap
theorem st_mk {E : jE} {args : Array Value} {own tx : String} {k n : Nat} {bs : List Int32} (hn : n < 2 ^ 31) (h0 : (Cond.stringRef own k tx).before args (eS E) = true) (hex : (Cond.exactly (.string own k) "java/lang/String").before args (eS E) = true) (hco : (Cond.eq (.field (.string own k) "java/lang/String" "coder" "B") (.int 0)).before args (eS E) = true)
    (har : (Cond.arrayOf (.field (.string own k) "java/lang/String" "value" "[B") .byte).before args (eS E) = true) (hle : (Cond.eq (.length (.field (.string own k) "java/lang/String" "value" "[B")) (.int (Int32.ofNat n))).before args (eS E) = true)
    (hel : ∀ j : Nat, j < n → (Cond.eq (.elem (.field (.string own k) "java/lang/String" "value" "[B") (.int (Int32.ofNat j))) (.int (bs.getD j 0))).before args (eS E) = true) : ∃ q v, stC E own k tx n bs q v := by
  have z : ∀ i : Nat, i < 1 → i = 0 := fun i hi => by omega
  obtain ⟨adK, adV, h, ht⟩ := vk_Sof (N := 1) (tm := fun _ => .string own k) (len := [n]) (byt := [bs]) (A := eN E) (fun i hi => by rw [z i hi]; exact hn) (fun _ _ => hex) (fun _ _ => hco) (fun _ _ => har) (fun i hi => by rw [z i hi]; exact hle) (fun i hi j hj => by rw [z i hi] at hj ⊢; exact hel j hj) (fun i j hi hj w => absurd ((z i hi).trans (z j hj).symm) w) eN_old
  obtain ⟨h1, h2, h3, h4⟩ := h.1 0 (by decide)
  exact ⟨adK 0, adV 0, vk_R.of h0 (ht 0 (by decide)), h1, h2, h3, h4⟩
theorem st_X13_51 {E : jE} (K : jOK E) : ∃ q v, stC E RX13 51 "sister" 6 [115, 105, 115, 116, 101, 114] q v :=
  st_mk (by decide) (K.2.1 _ q1108) (nw_of K [false, true, true, true, true, true, true, false, false, false] rfl) (nw_of K [false, true, true, true, true, true, true, false, false, true] rfl) (nw_of K [false, true, true, true, true, true, true, false, true, false] rfl) (nw_of K [false, true, true, true, true, true, true, false, true, true] rfl) (fun j hj => by match j, hj with | 0, _ => exact nw_of K [false, true, true, true, true, true, true, true, false, false] rfl | 1, _ => exact nw_of K [false, true, true, true, true, true, true, true, false, true] rfl | 2, _ => exact nw_of K [false, true, true, true, true, true, true, true, true, false] rfl | 3, _ => exact nw_of K [false, true, true, true, true, true, true, true, true, true, false] rfl | 4, _ => exact nw_of K [false, true, true, true, true, true, true, true, true, true, true] rfl | 5, _ => exact nw_of K [true, false, false, false, false, false, false, false, false, false] rfl | j + 6, hj => exact absurd hj (by omega))
theorem st_X13_57 {E : jE} (K : jOK E) : ∃ q v, stC E RX13 57 "relic" 5 [114, 101, 108, 105, 99] q v :=
  st_mk (by decide) (K.2.1 _ q1117) (nw_of K [true, false, false, false, false, false, false, true, true, false] rfl) (nw_of K [true, false, false, false, false, false, false, true, true, true] rfl) (nw_of K [true, false, false, false, false, false, true, false, false, false] rfl) (nw_of K [true, false, false, false, false, false, true, false, false, true] rfl) (fun j hj => by match j, hj with | 0, _ => exact nw_of K [true, false, false, false, false, false, true, false, true, false] rfl | 1, _ => exact nw_of K [true, false, false, false, false, false, true, false, true, true] rfl | 2, _ => exact nw_of K [true, false, false, false, false, false, true, true, false, false] rfl | 3, _ => exact nw_of K [true, false, false, false, false, false, true, true, false, true] rfl | 4, _ => exact nw_of K [true, false, false, false, false, false, true, true, true, false] rfl | j + 5, hj => exact absurd hj (by omega))
theorem st_X13_59 {E : jE} (K : jOK E) : ∃ q v, stC E RX13 59 "pilgrim" 7 [112, 105, 108, 103, 114, 105, 109] q v :=
  st_mk (by decide) (K.2.1 _ q1118) (nw_of K [true, false, false, false, false, true, false, true, false, true] rfl) (nw_of K [true, false, false, false, false, true, false, true, true, false] rfl) (nw_of K [true, false, false, false, false, true, false, true, true, true] rfl) (nw_of K [true, false, false, false, false, true, true, false, false, false] rfl) (fun j hj => by match j, hj with | 0, _ => exact nw_of K [true, false, false, false, false, true, true, false, false, true] rfl | 1, _ => exact nw_of K [true, false, false, false, false, true, true, false, true, false] rfl | 2, _ => exact nw_of K [true, false, false, false, false, true, true, false, true, true] rfl | 3, _ => exact nw_of K [true, false, false, false, false, true, true, true, false, false] rfl | 4, _ => exact nw_of K [true, false, false, false, false, true, true, true, false, true] rfl | 5, _ => exact nw_of K [true, false, false, false, false, true, true, true, true, false] rfl | 6, _ => exact nw_of K [true, false, false, false, false, true, true, true, true, true] rfl | j + 7, hj => exact absurd hj (by omega))
theorem st_X13_79 {E : jE} (K : jOK E) : ∃ q v, stC E RX13 79 "vow" 3 [118, 111, 119] q v :=
  st_mk (by decide) (K.2.1 _ q1119) (nw_of K [true, false, false, false, true, false, false, true, true, true] rfl) (nw_of K [true, false, false, false, true, false, true, false, false, false] rfl) (nw_of K [true, false, false, false, true, false, true, false, false, true] rfl) (nw_of K [true, false, false, false, true, false, true, false, true, false] rfl) (fun j hj => by match j, hj with | 0, _ => exact nw_of K [true, false, false, false, true, false, true, false, true, true] rfl | 1, _ => exact nw_of K [true, false, false, false, true, false, true, true, false, false] rfl | 2, _ => exact nw_of K [true, false, false, false, true, false, true, true, false, true] rfl | j + 3, hj => exact absurd hj (by omega))
theorem st_X17_100 {E : jE} (K : jOK E) : ∃ q v, stC E RX17 100 "least" 5 [108, 101, 97, 115, 116] q v :=
  st_mk (by decide) (K.2.1 _ q1355) (nw_of K [true, false, true, true, true, false, false, false, true, false] rfl) (nw_of K [true, false, true, true, true, false, false, false, true, true] rfl) (nw_of K [true, false, true, true, true, false, false, true, false, false] rfl) (nw_of K [true, false, true, true, true, false, false, true, false, true] rfl) (fun j hj => by match j, hj with | 0, _ => exact nw_of K [true, false, true, true, true, false, false, true, true, false] rfl | 1, _ => exact nw_of K [true, false, true, true, true, false, false, true, true, true] rfl | 2, _ => exact nw_of K [true, false, true, true, true, false, true, false, false, false] rfl | 3, _ => exact nw_of K [true, false, true, true, true, false, true, false, false, true] rfl | 4, _ => exact nw_of K [true, false, true, true, true, false, true, false, true, false] rfl | j + 5, hj => exact absurd hj (by omega))
theorem st_X17_102 {E : jE} (K : jOK E) : ∃ q v, stC E RX17 102 "most" 4 [109, 111, 115, 116] q v :=
  st_mk (by decide) (K.2.1 _ q1356) (nw_of K [true, false, true, true, true, true, true, true, false, false] rfl) (nw_of K [true, false, true, true, true, true, true, true, false, true] rfl) (nw_of K [true, false, true, true, true, true, true, true, true, false] rfl) (nw_of K [true, false, true, true, true, true, true, true, true, true, false] rfl) (fun j hj => by match j, hj with | 0, _ => exact nw_of K [true, false, true, true, true, true, true, true, true, true, true] rfl | 1, _ => exact nw_of K [true, true, false, false, false, false, false, false, false, false] rfl | 2, _ => exact nw_of K [true, true, false, false, false, false, false, false, false, true] rfl | 3, _ => exact nw_of K [true, true, false, false, false, false, false, false, true, false] rfl | j + 4, hj => exact absurd hj (by omega))
theorem st_X17_80 {E : jE} (K : jOK E) : ∃ q v, stC E RX17 80 "worth" 5 [119, 111, 114, 116, 104] q v :=
  st_mk (by decide) (K.2.1 _ q1346) (nw_of K [true, false, false, false, true, true, false, true, true, false] rfl) (nw_of K [true, false, false, false, true, true, false, true, true, true] rfl) (nw_of K [true, false, false, false, true, true, true, false, false, false] rfl) (nw_of K [true, false, false, false, true, true, true, false, false, true] rfl) (fun j hj => by match j, hj with | 0, _ => exact nw_of K [true, false, false, false, true, true, true, false, true, false] rfl | 1, _ => exact nw_of K [true, false, false, false, true, true, true, false, true, true] rfl | 2, _ => exact nw_of K [true, false, false, false, true, true, true, true, false, false] rfl | 3, _ => exact nw_of K [true, false, false, false, true, true, true, true, false, true] rfl | 4, _ => exact nw_of K [true, false, false, false, true, true, true, true, true, false] rfl | j + 5, hj => exact absurd hj (by omega))
theorem st_X17_86 {E : jE} (K : jOK E) : ∃ q v, stC E RX17 86 "days" 4 [100, 97, 121, 115] q v :=
  st_mk (by decide) (K.2.1 _ q1348) (nw_of K [true, false, false, true, false, false, true, false, false, false] rfl) (nw_of K [true, false, false, true, false, false, true, false, false, true] rfl) (nw_of K [true, false, false, true, false, false, true, false, true, false] rfl) (nw_of K [true, false, false, true, false, false, true, false, true, true] rfl) (fun j hj => by match j, hj with | 0, _ => exact nw_of K [true, false, false, true, false, false, true, true, false, false] rfl | 1, _ => exact nw_of K [true, false, false, true, false, false, true, true, false, true] rfl | 2, _ => exact nw_of K [true, false, false, true, false, false, true, true, true, false] rfl | 3, _ => exact nw_of K [true, false, false, true, false, false, true, true, true, true] rfl | j + 4, hj => exact absurd hj (by omega))
theorem st_X17_88 {E : jE} (K : jOK E) : ∃ q v, stC E RX17 88 "lapses" 6 [108, 97, 112, 115, 101, 115] q v :=
  st_mk (by decide) (K.2.1 _ q1349) (nw_of K [true, false, false, true, false, true, true, false, true, false] rfl) (nw_of K [true, false, false, true, false, true, true, false, true, true] rfl) (nw_of K [true, false, false, true, false, true, true, true, false, false] rfl) (nw_of K [true, false, false, true, false, true, true, true, false, true] rfl) (fun j hj => by match j, hj with | 0, _ => exact nw_of K [true, false, false, true, false, true, true, true, true, false] rfl | 1, _ => exact nw_of K [true, false, false, true, false, true, true, true, true, true] rfl | 2, _ => exact nw_of K [true, false, false, true, true, false, false, false, false, false] rfl | 3, _ => exact nw_of K [true, false, false, true, true, false, false, false, false, true] rfl | 4, _ => exact nw_of K [true, false, false, true, true, false, false, false, true, false] rfl | 5, _ => exact nw_of K [true, false, false, true, true, false, false, false, true, true] rfl | j + 6, hj => exact absurd hj (by omega))
theorem st_X17_90 {E : jE} (K : jOK E) : ∃ q v, stC E RX17 90 "tempted" 7 [116, 101, 109, 112, 116, 101, 100] q v :=
  st_mk (by decide) (K.2.1 _ q1350) (nw_of K [true, false, false, true, true, false, true, true, true, true] rfl) (nw_of K [true, false, false, true, true, true, false, false, false, false] rfl) (nw_of K [true, false, false, true, true, true, false, false, false, true] rfl) (nw_of K [true, false, false, true, true, true, false, false, true, false] rfl) (fun j hj => by match j, hj with | 0, _ => exact nw_of K [true, false, false, true, true, true, false, false, true, true] rfl | 1, _ => exact nw_of K [true, false, false, true, true, true, false, true, false, false] rfl | 2, _ => exact nw_of K [true, false, false, true, true, true, false, true, false, true] rfl | 3, _ => exact nw_of K [true, false, false, true, true, true, false, true, true, false] rfl | 4, _ => exact nw_of K [true, false, false, true, true, true, false, true, true, true] rfl | 5, _ => exact nw_of K [true, false, false, true, true, true, true, false, false, false] rfl | 6, _ => exact nw_of K [true, false, false, true, true, true, true, false, false, true] rfl | j + 7, hj => exact absurd hj (by omega))
theorem st_X17_92 {E : jE} (K : jOK E) : ∃ q v, stC E RX17 92 "ill" 3 [105, 108, 108] q v :=
  st_mk (by decide) (K.2.1 _ q1351) (nw_of K [true, false, true, false, false, false, false, true, true, false] rfl) (nw_of K [true, false, true, false, false, false, false, true, true, true] rfl) (nw_of K [true, false, true, false, false, false, true, false, false, false] rfl) (nw_of K [true, false, true, false, false, false, true, false, false, true] rfl) (fun j hj => by match j, hj with | 0, _ => exact nw_of K [true, false, true, false, false, false, true, false, true, false] rfl | 1, _ => exact nw_of K [true, false, true, false, false, false, true, false, true, true] rfl | 2, _ => exact nw_of K [true, false, true, false, false, false, true, true, false, false] rfl | j + 3, hj => exact absurd hj (by omega))
theorem st_X17_94 {E : jE} (K : jOK E) : ∃ q v, stC E RX17 94 "others" 6 [111, 116, 104, 101, 114, 115] q v :=
  st_mk (by decide) (K.2.1 _ q1352) (nw_of K [true, false, true, false, false, true, true, false, true, false] rfl) (nw_of K [true, false, true, false, false, true, true, false, true, true] rfl) (nw_of K [true, false, true, false, false, true, true, true, false, false] rfl) (nw_of K [true, false, true, false, false, true, true, true, false, true] rfl) (fun j hj => by match j, hj with | 0, _ => exact nw_of K [true, false, true, false, false, true, true, true, true, false] rfl | 1, _ => exact nw_of K [true, false, true, false, false, true, true, true, true, true] rfl | 2, _ => exact nw_of K [true, false, true, false, true, false, false, false, false, false] rfl | 3, _ => exact nw_of K [true, false, true, false, true, false, false, false, false, true] rfl | 4, _ => exact nw_of K [true, false, true, false, true, false, false, false, true, false] rfl | 5, _ => exact nw_of K [true, false, true, false, true, false, false, false, true, true] rfl | j + 6, hj => exact absurd hj (by omega))
theorem st_X17_96 {E : jE} (K : jOK E) : ∃ q v, stC E RX17 96 "sister" 6 [115, 105, 115, 116, 101, 114] q v :=
  st_mk (by decide) (K.2.1 _ q1353) (nw_of K [true, false, true, false, true, true, false, false, true, false] rfl) (nw_of K [true, false, true, false, true, true, false, false, true, true] rfl) (nw_of K [true, false, true, false, true, true, false, true, false, false] rfl) (nw_of K [true, false, true, false, true, true, false, true, false, true] rfl) (fun j hj => by match j, hj with | 0, _ => exact nw_of K [true, false, true, false, true, true, false, true, true, false] rfl | 1, _ => exact nw_of K [true, false, true, false, true, true, false, true, true, true] rfl | 2, _ => exact nw_of K [true, false, true, false, true, true, true, false, false, false] rfl | 3, _ => exact nw_of K [true, false, true, false, true, true, true, false, false, true] rfl | 4, _ => exact nw_of K [true, false, true, false, true, true, true, false, true, false] rfl | 5, _ => exact nw_of K [true, false, true, false, true, true, true, false, true, true] rfl | j + 6, hj => exact absurd hj (by omega))
theorem st_X17_98 {E : jE} (K : jOK E) : ∃ q v, stC E RX17 98 "day" 3 [100, 97, 121] q v :=
  st_mk (by decide) (K.2.1 _ q1354) (nw_of K [true, false, true, true, false, false, true, false, true, true] rfl) (nw_of K [true, false, true, true, false, false, true, true, false, false] rfl) (nw_of K [true, false, true, true, false, false, true, true, false, true] rfl) (nw_of K [true, false, true, true, false, false, true, true, true, false] rfl) (fun j hj => by match j, hj with | 0, _ => exact nw_of K [true, false, true, true, false, false, true, true, true, true] rfl | 1, _ => exact nw_of K [true, false, true, true, false, true, false, false, false, false] rfl | 2, _ => exact nw_of K [true, false, true, true, false, true, false, false, false, true] rfl | j + 3, hj => exact absurd hj (by omega))
theorem st_X22_63 {E : jE} (K : jOK E) : ∃ q v, stC E RX22 63 "give" 4 [103, 105, 118, 101] q v :=
  st_mk (by decide) (K.2.1 _ q1452) (nw_of K [true, true, false, false, false, true, false, true, false, true] rfl) (nw_of K [true, true, false, false, false, true, false, true, true, false] rfl) (nw_of K [true, true, false, false, false, true, false, true, true, true] rfl) (nw_of K [true, true, false, false, false, true, true, false, false, false] rfl) (fun j hj => by match j, hj with | 0, _ => exact nw_of K [true, true, false, false, false, true, true, false, false, true] rfl | 1, _ => exact nw_of K [true, true, false, false, false, true, true, false, true, false] rfl | 2, _ => exact nw_of K [true, true, false, false, false, true, true, false, true, true] rfl | 3, _ => exact nw_of K [true, true, false, false, false, true, true, true, false, false] rfl | j + 4, hj => exact absurd hj (by omega))
theorem st_X22_68 {E : jE} (K : jOK E) : ∃ q v, stC E RX22 68 "back" 4 [98, 97, 99, 107] q v :=
  st_mk (by decide) (K.2.1 _ q1454) (nw_of K [true, true, false, false, true, true, false, false, false, false] rfl) (nw_of K [true, true, false, false, true, true, false, false, false, true] rfl) (nw_of K [true, true, false, false, true, true, false, false, true, false] rfl) (nw_of K [true, true, false, false, true, true, false, false, true, true] rfl) (fun j hj => by match j, hj with | 0, _ => exact nw_of K [true, true, false, false, true, true, false, true, false, false] rfl | 1, _ => exact nw_of K [true, true, false, false, true, true, false, true, false, true] rfl | 2, _ => exact nw_of K [true, true, false, false, true, true, false, true, true, false] rfl | 3, _ => exact nw_of K [true, true, false, false, true, true, false, true, true, true] rfl | j + 4, hj => exact absurd hj (by omega))
theorem st_X22_70 {E : jE} (K : jOK E) : ∃ q v, stC E RX22 70 "lapse" 5 [108, 97, 112, 115, 101] q v :=
  st_mk (by decide) (K.2.1 _ q1455) (nw_of K [true, true, false, true, false, false, true, true, false, false] rfl) (nw_of K [true, true, false, true, false, false, true, true, false, true] rfl) (nw_of K [true, true, false, true, false, false, true, true, true, false] rfl) (nw_of K [true, true, false, true, false, false, true, true, true, true] rfl) (fun j hj => by match j, hj with | 0, _ => exact nw_of K [true, true, false, true, false, true, false, false, false, false] rfl | 1, _ => exact nw_of K [true, true, false, true, false, true, false, false, false, true] rfl | 2, _ => exact nw_of K [true, true, false, true, false, true, false, false, true, false] rfl | 3, _ => exact nw_of K [true, true, false, true, false, true, false, false, true, true] rfl | 4, _ => exact nw_of K [true, true, false, true, false, true, false, true, false, false] rfl | j + 5, hj => exact absurd hj (by omega))
theorem st_X22_72 {E : jE} (K : jOK E) : ∃ q v, stC E RX22 72 "cure" 4 [99, 117, 114, 101] q v :=
  st_mk (by decide) (K.2.1 _ q1456) (nw_of K [true, true, false, true, true, false, true, false, true, false] rfl) (nw_of K [true, true, false, true, true, false, true, false, true, true] rfl) (nw_of K [true, true, false, true, true, false, true, true, false, false] rfl) (nw_of K [true, true, false, true, true, false, true, true, false, true] rfl) (fun j hj => by match j, hj with | 0, _ => exact nw_of K [true, true, false, true, true, false, true, true, true, false] rfl | 1, _ => exact nw_of K [true, true, false, true, true, false, true, true, true, true] rfl | 2, _ => exact nw_of K [true, true, false, true, true, true, false, false, false, false] rfl | 3, _ => exact nw_of K [true, true, false, true, true, true, false, false, false, true] rfl | j + 4, hj => exact absurd hj (by omega))
theorem st_X22_74 {E : jE} (K : jOK E) : ∃ q v, stC E RX22 74 "die" 3 [100, 105, 101] q v :=
  st_mk (by decide) (K.2.1 _ q1457) (nw_of K [true, true, true, false, false, false, true, false, false, false] rfl) (nw_of K [true, true, true, false, false, false, true, false, false, true] rfl) (nw_of K [true, true, true, false, false, false, true, false, true, false] rfl) (nw_of K [true, true, true, false, false, false, true, false, true, true] rfl) (fun j hj => by match j, hj with | 0, _ => exact nw_of K [true, true, true, false, false, false, true, true, false, false] rfl | 1, _ => exact nw_of K [true, true, true, false, false, false, true, true, false, true] rfl | 2, _ => exact nw_of K [true, true, true, false, false, false, true, true, true, false] rfl | j + 3, hj => exact absurd hj (by omega))
theorem st_X22_76 {E : jE} (K : jOK E) : ∃ q v, stC E RX22 76 "day" 3 [100, 97, 121] q v :=
  st_mk (by decide) (K.2.1 _ q1458) (nw_of K [true, true, true, false, true, false, false, true, true, false] rfl) (nw_of K [true, true, true, false, true, false, false, true, true, true] rfl) (nw_of K [true, true, true, false, true, false, true, false, false, false] rfl) (nw_of K [true, true, true, false, true, false, true, false, false, true] rfl) (fun j hj => by match j, hj with | 0, _ => exact nw_of K [true, true, true, false, true, false, true, false, true, false] rfl | 1, _ => exact nw_of K [true, true, true, false, true, false, true, false, true, true] rfl | 2, _ => exact nw_of K [true, true, true, false, true, false, true, true, false, false] rfl | j + 3, hj => exact absurd hj (by omega))
theorem st_X22_78 {E : jE} (K : jOK E) : ∃ q v, stC E RX22 78 "again" 5 [97, 103, 97, 105, 110] q v :=
  st_mk (by decide) (K.2.1 _ q1459) (nw_of K [true, true, true, true, false, false, false, true, false, true] rfl) (nw_of K [true, true, true, true, false, false, false, true, true, false] rfl) (nw_of K [true, true, true, true, false, false, false, true, true, true] rfl) (nw_of K [true, true, true, true, false, false, true, false, false, false] rfl) (fun j hj => by match j, hj with | 0, _ => exact nw_of K [true, true, true, true, false, false, true, false, false, true] rfl | 1, _ => exact nw_of K [true, true, true, true, false, false, true, false, true, false] rfl | 2, _ => exact nw_of K [true, true, true, true, false, false, true, false, true, true] rfl | 3, _ => exact nw_of K [true, true, true, true, false, false, true, true, false, false] rfl | 4, _ => exact nw_of K [true, true, true, true, false, false, true, true, false, true] rfl | j + 5, hj => exact absurd hj (by omega))
section
variable {E : jE} {d : Nat} {h : jH}
theorem k_scod {s v : jN} {hh z : Int32} (fx : h s = some (oO 37 [vR v, vI 0, vI hh, vI z])) : Ct E d 0 0 mJ9_coder [vR s] h (qR (some (vI 0)) h) := by
  refine ct_of (by decide) (Nat.le_of_ble_eq_true rfl) rfl ?_
  refine g_getstatic (pc := 0) (v := vI 1) q343 (Or.inl rfl) z_cs dJ9_coder_0 ?_
  refine g_if_eq (pc := 3) 13 dJ9_coder_3 (by decide) (fun c_3 => absurd c_3 (by decide)) (fun c_3 => ?_)
  refine g_aload_n (pc := 6) dJ9_coder_6 rfl ?_
  refine g_getfield (pc := 7) f_J9_15_37 dJ9_coder_7 fx rfl ?_
  refine g_goto (pc := 10) 14 dJ9_coder_10 (by decide) ?_
  refine g_ireturn (pc := 14) dJ9_coder_14 rfl (by first | exact rfl | exact j_nb _) ?_
  exact ⟨rfl, rfl⟩
theorem k_slat {s v : jN} {hh z : Int32} (fx : h s = some (oO 37 [vR v, vI 0, vI hh, vI z])) : Ct E d 0 0 mJ9_isLatin1 [vR s] h (qR (some (vI 1)) h) := by
  refine ct_of (by decide) (Nat.le_of_ble_eq_true rfl) rfl ?_
  refine g_getstatic (pc := 0) (v := vI 1) q343 (Or.inl rfl) z_cs dJ9_isLatin1_0 ?_
  refine g_if_eq (pc := 3) 17 dJ9_isLatin1_3 (by decide) (fun c_3 => absurd c_3 (by decide)) (fun c_3 => ?_)
  refine g_aload_n (pc := 6) dJ9_isLatin1_6 rfl ?_
  refine g_getfield (pc := 7) f_J9_15_37 dJ9_isLatin1_7 fx rfl ?_
  refine g_if_ne (pc := 10) 17 dJ9_isLatin1_10 (by decide) (fun c_10 => absurd rfl c_10) (fun c_10 => ?_)
  refine g_iconst (pc := 13) (v := 1) dJ9_isLatin1_13 (by decide) ?_
  refine g_goto (pc := 14) 18 dJ9_isLatin1_14 (by decide) ?_
  refine g_ireturn (pc := 18) dJ9_isLatin1_18 rfl (by first | exact rfl | exact j_nb _) ?_
  exact ⟨rfl, rfl⟩
theorem k_length {s v : jN} {n : Nat} {t : Nat → Nat} (hd : 2 ≤ d) (hn : n < 16) (hS : sS h s v n t) : Ct E d 0 0 mJ9_length [vR s] h (qR (some (vI (nI n))) h) := by
  refine ct_of (by decide) (Nat.le_of_ble_eq_true rfl) rfl ?_
  obtain ⟨⟨f, fv, hf⟩, hh, z, fx, -, -⟩ := hS
  refine g_aload_n (pc := 0) dJ9_length_0 rfl ?_
  refine g_getfield (pc := 1) f_J9_9_37 dJ9_length_1 fx rfl ?_
  refine g_arraylength (pc := 4) (t := 1) rfl dJ9_length_4 fv ?_
  refine g_aload_n (pc := 5) dJ9_length_5 rfl ?_
  refine g_cV (pc := 6) (M' := mJ9_coder) (as := []) (ci := 37) rfl i_J9_335_37 eJ9_coder dJ9_length_6 fx (k_scod fx) (by omega) rfl rfl (Nat.le_of_ble_eq_true rfl) ?_
  refine g_ishr (pc := 9) dJ9_length_9 ?_
  rw [show nI n >>> ((0 : Int32) &&& 31) = nI n from (pk_shrN (by omega) _ 0 (by decide)).trans (by rw [Nat.pow_zero, Nat.div_one])]
  refine g_ireturn (pc := 10) dJ9_length_10 rfl (by first | exact rfl | exact j_nb _) ?_
  exact ⟨rfl, rfl⟩
set_option maxHeartbeats 2000000 in
theorem l_hash {bc bs : Nat} {v : jN} {n : Nat} {t : Nat → Nat} {f : Nat → Int32} (fv : h v = some (bA n f)) (hf : ∀ j, j < n → f j = nI (t j)) (ht : ∀ j, j < n → t j < 128) (hn : n < 16) : ∀ (m r : Nat), n - r = m → r ≤ n → G E d bc bs mJ11_signedHashCode 8 [some (vI (hsN t r)), some (vR v), some (vI 0), some (vI (nI n)), some (vI (nI n)), some (vI (nI r))] [] h (qR (some (vI (hsN t n))) h) := by
  intro m
  induction m with
  | zero =>
    intro r hm hr
    have e : r = n := by omega
    subst e
    refine g_iload (pc := 8) dJ11_signedHashCode_8 rfl ?_
    refine g_iload (pc := 10) dJ11_signedHashCode_10 rfl ?_
    refine g_icmp_ge (pc := 12) 35 dJ11_signedHashCode_12 (by decide) (fun c_12 => ?_) (fun c_12 => absurd (nI_le (Nat.le_refl _) (by omega)) c_12)
    refine g_iload_n (pc := 35) dJ11_signedHashCode_35 rfl ?_
    refine g_ireturn (pc := 36) dJ11_signedHashCode_36 rfl (by first | exact rfl | exact j_nb _) ?_
    exact ⟨rfl, rfl⟩
  | succ m ih =>
    intro r hm hr
    refine g_iload (pc := 8) dJ11_signedHashCode_8 rfl ?_
    refine g_iload (pc := 10) dJ11_signedHashCode_10 rfl ?_
    refine g_icmp_ge (pc := 12) 35 dJ11_signedHashCode_12 (by decide) (fun c_12 => absurd c_12 (by intro w; have := (nI_leI (by omega) (by omega)).mp w; omega)) (fun c_12 => ?_)
    refine g_bipush (pc := 15) (v := 31) dJ11_signedHashCode_15 (by decide) ?_
    refine g_iload_n (pc := 17) dJ11_signedHashCode_17 rfl ?_
    refine g_imul (pc := 18) dJ11_signedHashCode_18 ?_
    refine g_aload_n (pc := 19) dJ11_signedHashCode_19 rfl ?_
    refine g_iload (pc := 20) dJ11_signedHashCode_20 rfl ?_
    refine g_baload (pc := 22) dJ11_signedHashCode_22 fv (j := r) rfl (by omega) (by first | decide | omega) rfl ?_
    rw [hf r (by omega)]
    refine g_sipush (pc := 23) (v := 255) dJ11_signedHashCode_23 (by decide) ?_
    refine g_iand (pc := 26) dJ11_signedHashCode_26 ?_
    rw [b8_and ⟨_, ht r (by omega)⟩]
    refine g_iadd (pc := 27) dJ11_signedHashCode_27 ?_
    refine g_istore_n (pc := 28) (ls' := [_, _, _, _, _, _]) dJ11_signedHashCode_28 (by decide) rfl rfl ?_
    refine g_iinc (pc := 29) (ls' := [_, _, _, _, _, _]) dJ11_signedHashCode_29 rfl (by first | exact nI_1 _ | exact rfl) (by decide) rfl rfl ?_
    refine g_goto (pc := 32) 8 dJ11_signedHashCode_32 (by decide) ?_
    exact ih (r + 1) (by omega) (by omega)
theorem k_sgn {v : jN} {n : Nat} {t : Nat → Nat} {f : Nat → Int32} (fv : h v = some (bA n f)) (hf : ∀ j, j < n → f j = nI (t j)) (ht : ∀ j, j < n → t j < 128) (hn : n < 16) : Ct E d 0 0 mJ11_signedHashCode [vI 0, vR v, vI 0, vI (nI n)] h (qR (some (vI (hsN t n))) h) := by
  refine ct_of (by decide) (Nat.le_of_ble_eq_true rfl) rfl ?_
  refine g_iload_n (pc := 0) dJ11_signedHashCode_0 rfl ?_
  refine g_iload_n (pc := 1) dJ11_signedHashCode_1 rfl ?_
  refine g_iadd (pc := 2) dJ11_signedHashCode_2 ?_
  rw [show (0 : Int32) + nI n = nI n from Int32.zero_add _]
  refine g_istore (pc := 3) (ls' := [_, _, _, _, _, _]) dJ11_signedHashCode_3 (by decide) rfl rfl ?_
  refine g_iload_n (pc := 5) dJ11_signedHashCode_5 rfl ?_
  refine g_istore (pc := 6) (ls' := [_, _, _, _, _, _]) dJ11_signedHashCode_6 (by decide) rfl rfl ?_
  exact l_hash fv hf ht hn n 0 rfl (Nat.zero_le _)
theorem k_vec {v : jN} {n : Nat} {t : Nat → Nat} {f : Nat → Int32} (fv : h v = some (bA n f)) (hf : ∀ j, j < n → f j = nI (t j)) (ht : ∀ j, j < n → t j < 128) (hn : n < 16) (hd : 1 ≤ d) : Ct E d 0 0 mJ11_vectorizedHashCode [vR v, vI 0, vI (nI n), vI 0, vI 4] h (qR (some (vI (hsN t n))) h) := by
  refine ct_of (by decide) (Nat.le_of_ble_eq_true rfl) rfl ?_
  refine g_iload (pc := 0) dJ11_vectorizedHashCode_0 rfl ?_
  refine g_tableIn (pc := 2) (off := 42) 44 dJ11_vectorizedHashCode_2 (by decide) (by decide) (by decide) (by decide) ?_
  refine g_iload_n (pc := 44) dJ11_vectorizedHashCode_44 rfl ?_
  refine g_aload_n (pc := 45) dJ11_vectorizedHashCode_45 rfl ?_
  refine g_castB (pc := 46) q1061 dJ11_vectorizedHashCode_46 fv ?_
  refine g_iload_n (pc := 49) dJ11_vectorizedHashCode_49 rfl ?_
  refine g_iload_n (pc := 50) dJ11_vectorizedHashCode_50 rfl ?_
  refine g_cS (pc := 51) (M' := mJ11_signedHashCode) (as := [_, _, _, _]) i_J11_62 eJ11_signedHashCode dJ11_vectorizedHashCode_51 (k_sgn fv hf ht hn) (by omega) rfl rfl (Nat.le_of_ble_eq_true rfl) ?_
  refine g_goto (pc := 54) 157 dJ11_vectorizedHashCode_54 (by decide) ?_
  refine g_ireturn (pc := 157) dJ11_vectorizedHashCode_157 rfl (by first | exact rfl | exact j_nb _) ?_
  exact ⟨rfl, rfl⟩
theorem k_h15 {v : jN} {n : Nat} {t : Nat → Nat} {f : Nat → Int32} (fv : h v = some (bA n f)) (hf : ∀ j, j < n → f j = nI (t j)) (ht : ∀ j, j < n → t j < 128) (hn : n < 16) (hd : 2 ≤ d) : Ct E d 0 0 mJ15_hashCode [vR v] h (qR (some (vI (hsN t n))) h) := by
  refine ct_of (by decide) (Nat.le_of_ble_eq_true rfl) rfl ?_
  refine g_aload_n (pc := 0) dJ15_hashCode_0 rfl ?_
  refine g_arraylength (pc := 1) (t := 1) rfl dJ15_hashCode_1 fv ?_
  rcases Nat.lt_or_ge n 2 with w | w
  · have : n = 0 ∨ n = 1 := by omega
    rcases this with rfl | rfl
    · refine g_lookup (pc := 2) (off := 26) 28 dJ15_hashCode_2 (by decide) (by decide) (by decide) ?_
      refine g_iconst (pc := 28) (v := 0) dJ15_hashCode_28 (by decide) ?_
      refine g_goto (pc := 29) 51 dJ15_hashCode_29 (by decide) ?_
      refine g_ireturn (pc := 51) dJ15_hashCode_51 rfl (by first | exact rfl | exact j_nb _) ?_
      exact ⟨rfl, rfl⟩
    · refine g_lookup (pc := 2) (off := 30) 32 dJ15_hashCode_2 (by decide) (by decide) (by decide) ?_
      refine g_aload_n (pc := 32) dJ15_hashCode_32 rfl ?_
      refine g_iconst (pc := 33) (v := 0) dJ15_hashCode_33 (by decide) ?_
      refine g_baload (pc := 34) dJ15_hashCode_34 fv (j := 0) rfl (by omega) (by first | decide | omega) rfl ?_
      rw [hf 0 (by decide)]
      refine g_sipush (pc := 35) (v := 255) dJ15_hashCode_35 (by decide) ?_
      refine g_iand (pc := 38) dJ15_hashCode_38 ?_
      rw [b8_and ⟨_, ht 0 (by decide)⟩]
      refine g_goto (pc := 39) 51 dJ15_hashCode_39 (by decide) ?_
      refine g_ireturn (pc := 51) dJ15_hashCode_51 rfl (by first | exact rfl | exact j_nb _) ?_
      exact ⟨by show Sum.inl (some (vI (nI (t 0)))) = Sum.inl (some (vI (31 * 0 + nI (t 0)))); rw [Int32.mul_zero, Int32.zero_add], rfl⟩
  · refine g_lookup (pc := 2) (off := 40) 42 dJ15_hashCode_2 (by decide) (by rw [nI_toInt (by omega)]; show (if (0 : Int) = (n : Int) then (26 : Int) else if (1 : Int) = (n : Int) then 30 else 40) = 40; rw [if_neg (by omega), if_neg (by omega)]) (by decide) ?_
    refine g_aload_n (pc := 42) dJ15_hashCode_42 rfl ?_
    refine g_iconst (pc := 43) (v := 0) dJ15_hashCode_43 (by decide) ?_
    refine g_aload_n (pc := 44) dJ15_hashCode_44 rfl ?_
    refine g_arraylength (pc := 45) (t := 1) rfl dJ15_hashCode_45 fv ?_
    refine g_iconst (pc := 46) (v := 0) dJ15_hashCode_46 (by decide) ?_
    refine g_iconst (pc := 47) (v := 4) dJ15_hashCode_47 (by decide) ?_
    refine g_cS (pc := 48) (M' := mJ11_vectorizedHashCode) (as := [_, _, _, _, _]) i_J15_84 eJ11_vectorizedHashCode dJ15_hashCode_48 (k_vec fv hf ht hn (by omega)) (by omega) rfl rfl (Nat.le_of_ble_eq_true rfl) ?_
    refine g_ireturn (pc := 51) dJ15_hashCode_51 rfl (by first | exact rfl | exact j_nb _) ?_
    exact ⟨rfl, rfl⟩
def hsQ (h : jH) (s v : jN) (n : Nat) (t : Nat → Nat) : jR → jH → Prop := fun r h' => r = .inl (some (vI (hsN t n))) ∧ sS h' s v n t ∧ ∀ y, y ≠ s → h' y = h y
theorem k_hash {s v : jN} {n : Nat} {t : Nat → Nat} (hd : 4 ≤ d) (hs : s.1 ≠ 0) (hn : n < 16) (ht : ∀ j, j < n → t j < 128) (hS : sS h s v n t) : Ct E d 0 0 mJ9_hashCode [vR s] h (hsQ h s v n t) := by
  refine ct_of (by decide) (Nat.le_of_ble_eq_true rfl) rfl ?_
  obtain ⟨⟨f, fv, hf⟩, hh, z, fx, hh1, hz1⟩ := id hS
  have hsv : s ≠ v := fun e => by rw [e] at fx; rw [fx] at fv; cases fv
  refine g_aload_n (pc := 0) dJ9_hashCode_0 rfl ?_
  refine g_getfield (pc := 1) f_J9_19_37 dJ9_hashCode_1 fx rfl ?_
  refine g_istore_n (pc := 4) (ls' := [_, _]) dJ9_hashCode_4 (by decide) rfl rfl ?_
  refine g_iload_n (pc := 5) dJ9_hashCode_5 rfl ?_
  refine g_if_ne (pc := 6) 58 dJ9_hashCode_6 (by decide) (fun c_6 => ?_) (fun c_6 => ?_)
  · refine g_iload_n (pc := 58) dJ9_hashCode_58 rfl ?_
    refine g_ireturn (pc := 59) dJ9_hashCode_59 rfl (by first | exact rfl | exact j_nb _) ?_
    exact ⟨by rw [hh1.resolve_left c_6], hS, fun _ _ => rfl⟩
  · refine g_aload_n (pc := 9) dJ9_hashCode_9 rfl ?_
    refine g_getfield (pc := 10) f_J9_23_37 dJ9_hashCode_10 fx rfl ?_
    refine g_if_ne (pc := 13) 58 dJ9_hashCode_13 (by decide) (fun c_13 => ?_) (fun c_13 => ?_)
    · refine g_iload_n (pc := 58) dJ9_hashCode_58 rfl ?_
      refine g_ireturn (pc := 59) dJ9_hashCode_59 rfl (by first | exact rfl | exact j_nb _) ?_
      exact ⟨by rw [c_6, hz1.resolve_left c_13], hS, fun _ _ => rfl⟩
    · refine g_aload_n (pc := 16) dJ9_hashCode_16 rfl ?_
      refine g_cV (pc := 17) (M' := mJ9_isLatin1) (as := []) (ci := 37) rfl i_J9_492_37 eJ9_isLatin1 dJ9_hashCode_17 fx (k_slat fx) (by omega) rfl rfl (Nat.le_of_ble_eq_true rfl) ?_
      refine g_if_eq (pc := 20) 33 dJ9_hashCode_20 (by decide) (fun c_20 => absurd c_20 (by decide)) (fun c_20 => ?_)
      refine g_aload_n (pc := 23) dJ9_hashCode_23 rfl ?_
      refine g_getfield (pc := 24) f_J9_9_37 dJ9_hashCode_24 fx rfl ?_
      refine g_cS (pc := 27) (M' := mJ15_hashCode) (as := [_]) i_J9_628 eJ15_hashCode dJ9_hashCode_27 (k_h15 fv hf ht hn (by omega)) (by omega) rfl rfl (Nat.le_of_ble_eq_true rfl) ?_
      refine g_goto (pc := 30) 40 dJ9_hashCode_30 (by decide) ?_
      refine g_istore_n (pc := 40) (ls' := [_, _]) dJ9_hashCode_40 (by decide) rfl rfl ?_
      refine g_iload_n (pc := 41) dJ9_hashCode_41 rfl ?_
      refine g_if_ne (pc := 42) 53 dJ9_hashCode_42 (by decide) (fun c_42 => ?_) (fun c_42 => ?_)
      · refine g_aload_n (pc := 53) dJ9_hashCode_53 rfl ?_
        refine g_iload_n (pc := 54) dJ9_hashCode_54 rfl ?_
        refine n_put (pc := 55) w_J9_19_37 dJ9_hashCode_55 fx (Nat.le_of_ble_eq_true rfl) hs (j_fit_int _) rfl (fun h q9 o9 => ?_)
        replace fv := (o9 _ (hsv).symm).trans fv
        replace fx := q9
        refine g_iload_n (pc := 58) dJ9_hashCode_58 rfl ?_
        refine g_ireturn (pc := 59) dJ9_hashCode_59 rfl (by first | exact rfl | exact j_nb _) ?_
        exact ⟨rfl, ⟨⟨f, fv, hf⟩, hsN t n, z, fx, Or.inr rfl, hz1⟩, o9⟩
      · refine g_aload_n (pc := 45) dJ9_hashCode_45 rfl ?_
        refine g_iconst (pc := 46) (v := 1) dJ9_hashCode_46 (by decide) ?_
        refine n_put (pc := 47) w_J9_23_37 dJ9_hashCode_47 fx (Nat.le_of_ble_eq_true rfl) hs ⟨rfl, by decide⟩ rfl (fun h q9 o9 => ?_)
        replace fv := (o9 _ (hsv).symm).trans fv
        replace fx := q9
        refine g_goto (pc := 50) 58 dJ9_hashCode_50 (by decide) ?_
        refine g_iload_n (pc := 58) dJ9_hashCode_58 rfl ?_
        refine g_ireturn (pc := 59) dJ9_hashCode_59 rfl (by first | exact rfl | exact j_nb _) ?_
        exact ⟨rfl, ⟨⟨f, fv, hf⟩, hh, 1, fx, hh1, Or.inr c_42⟩, o9⟩
set_option maxHeartbeats 2000000 in
theorem l_eq {bc bt : Nat} {v : jN} {n m w : Nat} {t : Nat → Nat} {f : Nat → Int32} {bs : List Int32} (fv : h v = some (bA n f)) (hf : ∀ j, j < n → f j = nI (t j)) (hn : n < 16) (hT : jOK E → va_T .byte w m (fun j => .int (bs.getD j 0)) (eN E) (eS E) (eS E).heap) (hm2 : n = m) : ∀ (k r : Nat), n - r = k → r ≤ n → (∀ j, j < r → nI (t j) = bs.getD j 0) → G E d bc bt mJ15_equals 9 [some (vR v), some (vR (0, w)), some (vI (nI r))] [] h (qR (some (vI (bI (eqN t n m bs)))) h) := by
  intro m
  induction m with
  | zero =>
    intro r hm hr hp
    have e : r = n := by omega
    subst e
    refine g_iload_n (pc := 9) dJ15_equals_9 rfl ?_
    refine g_aload_n (pc := 10) dJ15_equals_10 rfl ?_
    refine g_arraylength (pc := 11) (t := 1) rfl dJ15_equals_11 fv ?_
    refine g_icmp_ge (pc := 12) 32 dJ15_equals_12 (by decide) (fun c_12 => ?_) (fun c_12 => absurd (nI_le (Nat.le_refl _) (by omega)) c_12)
    refine g_iconst (pc := 32) (v := 1) dJ15_equals_32 (by decide) ?_
    refine g_ireturn (pc := 33) dJ15_equals_33 rfl (by first | exact rfl | exact j_nb _) ?_
    exact ⟨by unfold eqN; rw [decide_eq_true ⟨hm2, hp⟩]; rfl, rfl⟩
  | succ m ih =>
    intro r hm hr hp
    refine g_iload_n (pc := 9) dJ15_equals_9 rfl ?_
    refine g_aload_n (pc := 10) dJ15_equals_10 rfl ?_
    refine g_arraylength (pc := 11) (t := 1) rfl dJ15_equals_11 fv ?_
    refine g_icmp_ge (pc := 12) 32 dJ15_equals_12 (by decide) (fun c_12 => absurd c_12 (by intro w; have := (nI_leI (by omega) (by omega)).mp w; omega)) (fun c_12 => ?_)
    refine g_aload_n (pc := 15) dJ15_equals_15 rfl ?_
    refine g_iload_n (pc := 16) dJ15_equals_16 rfl ?_
    refine g_baload (pc := 17) dJ15_equals_17 fv (j := r) rfl (by omega) (by first | decide | omega) rfl ?_
    rw [hf r (by omega)]
    refine g_aload_n (pc := 18) dJ15_equals_18 rfl ?_
    refine g_iload_n (pc := 19) dJ15_equals_19 rfl ?_
    refine g_oldB (pc := 20) (j := r) (f := fun j => bs.getD j 0) hT (by omega) (by omega) dJ15_equals_20 ?_
    refine g_icmp_eq (pc := 21) 26 dJ15_equals_21 (by decide) (fun c_21 => ?_) (fun c_21 => ?_)
    · refine g_iinc (pc := 26) (ls' := [_, _, _]) dJ15_equals_26 rfl (by first | exact nI_1 _ | exact rfl) (by decide) rfl rfl ?_
      refine g_goto (pc := 29) 9 dJ15_equals_29 (by decide) ?_
      exact ih (r + 1) (by omega) (by omega) (fun j hj => by
        by_cases q : j = r
        · subst q; exact c_21
        · exact hp j (by omega))
    · refine g_iconst (pc := 24) (v := 0) dJ15_equals_24 (by decide) ?_
      refine g_ireturn (pc := 25) dJ15_equals_25 rfl (by first | exact rfl | exact j_nb _) ?_
      exact ⟨by unfold eqN; rw [decide_eq_false (fun e => c_21 (e.2 r (by omega)))]; rfl, rfl⟩
theorem k_eq15 {v : jN} {n m w : Nat} {t : Nat → Nat} {f : Nat → Int32} {bs : List Int32} (fv : h v = some (bA n f)) (hf : ∀ j, j < n → f j = nI (t j)) (hn : n < 16) (hT : jOK E → va_T .byte w m (fun j => .int (bs.getD j 0)) (eN E) (eS E) (eS E).heap) (hm : m < 2 ^ 31) : Ct E d 0 0 mJ15_equals [vR v, vR (0, w)] h (qR (some (vI (bI (eqN t n m bs)))) h) := by
  refine ct_of (by decide) (Nat.le_of_ble_eq_true rfl) rfl ?_
  refine g_aload_n (pc := 0) dJ15_equals_0 rfl ?_
  refine g_arraylength (pc := 1) (t := 1) rfl dJ15_equals_1 fv ?_
  refine g_aload_n (pc := 2) dJ15_equals_2 rfl ?_
  refine g_oldL (pc := 3) hT dJ15_equals_3 ?_
  refine g_icmp_ne (pc := 4) 34 dJ15_equals_4 (by decide) (fun c_4 => ?_) (fun c_4 => ?_)
  · refine g_iconst (pc := 34) (v := 0) dJ15_equals_34 (by decide) ?_
    refine g_ireturn (pc := 35) dJ15_equals_35 rfl (by first | exact rfl | exact j_nb _) ?_
    exact ⟨by unfold eqN; rw [decide_eq_false (fun e => c_4 (by rw [e.1]))]; rfl, rfl⟩
  · refine g_iconst (pc := 7) (v := 0) dJ15_equals_7 (by decide) ?_
    refine g_istore_n (pc := 8) (ls' := [_, _, _]) dJ15_equals_8 (by decide) rfl rfl ?_
    exact l_eq fv hf hn hT ((nI_eq (by omega) hm).mp c_4) n 0 rfl (Nat.zero_le _) (fun j hj => absurd hj (Nat.not_lt_zero j))
set_option maxHeartbeats 2000000 in
theorem k_equals {own tx : String} {k : Nat} {s v : jN} {n m q w : Nat} {t : Nat → Nat} {bs : List Int32} (hd : 2 ≤ d) (hs : s.1 ≠ 0) (hn : n < 16) (hm : m < 2 ^ 31) (hS : sS h s v n t) (hC : stC E own k tx m bs q w) : Ct E d 0 0 mJ9_equals [vR s, vR (0, q)] h (qR (some (vI (bI (eqN t n m bs)))) h) := by
  refine ct_of (by decide) (Nat.le_of_ble_eq_true rfl) rfl ?_
  obtain ⟨⟨f, fv, hf⟩, hh, z, fx, hh1, hz1⟩ := hS
  obtain ⟨-, hO, hF1, hF2, hT⟩ := hC
  have hq : q < (eS E).heap.size := by
    obtain ⟨cell, -, -, -, h4⟩ := hO
    exact Nat.not_le.mp h4
  refine g_apart fx hs (fun _ => hq) (fun hap => ?_)
  refine g_aload_n (pc := 0) dJ9_equals_0 rfl ?_
  refine g_aload_n (pc := 1) dJ9_equals_1 rfl ?_
  refine g_acmp_ne (pc := 2) 7 dJ9_equals_2 (by decide) (fun _ => ?_) (fun e => absurd (Option.some.inj e) hap)
  refine g_aload_n (pc := 7) dJ9_equals_7 rfl ?_
  refine g_instO (pc := 8) q1113 dJ9_equals_8 (fun _ => hO) ?_
  refine g_if_eq (pc := 11) 54 dJ9_equals_11 (by decide) (fun c_11 => absurd c_11 (by decide)) (fun c_11 => ?_)
  refine g_aload_n (pc := 14) dJ9_equals_14 rfl ?_
  refine g_castO (pc := 15) q1113 dJ9_equals_15 (fun _ => hO) ?_
  refine g_astore_n (pc := 18) (ls' := [_, _, _]) dJ9_equals_18 (by decide) rfl rfl ?_
  refine g_getstatic (pc := 19) (v := vI 1) q343 (Or.inl rfl) z_cs dJ9_equals_19 ?_
  refine g_if_eq (pc := 22) 36 dJ9_equals_22 (by decide) (fun c_22 => absurd c_22 (by decide)) (fun c_22 => ?_)
  refine g_aload_n (pc := 25) dJ9_equals_25 rfl ?_
  refine g_getfield (pc := 26) f_J9_15_37 dJ9_equals_26 fx rfl ?_
  refine g_aload_n (pc := 29) dJ9_equals_29 rfl ?_
  refine g_oldF (pc := 30) (v := vI 0) q485 (Or.inl rfl) (fun _ => hF1) dJ9_equals_30 ?_
  refine g_icmp_ne (pc := 33) 54 dJ9_equals_33 (by decide) (fun c_33 => absurd rfl c_33) (fun c_33 => ?_)
  refine g_aload_n (pc := 36) dJ9_equals_36 rfl ?_
  refine g_getfield (pc := 37) f_J9_9_37 dJ9_equals_37 fx rfl ?_
  refine g_aload_n (pc := 40) dJ9_equals_40 rfl ?_
  refine g_oldF (pc := 41) (v := vR (0, w)) q484 (Or.inl rfl) (fun _ => hF2) dJ9_equals_41 ?_
  refine g_cS (pc := 44) (M' := mJ15_equals) (as := [_, _]) i_J9_541 eJ15_equals dJ9_equals_44 (k_eq15 fv hf hn (fun _ => hT) hm) (by omega) rfl rfl (Nat.le_of_ble_eq_true rfl) ?_
  refine g_ifB_eq (pc := 47) 54 dJ9_equals_47 (by decide) (fun c_47 => ?_) (fun c_47 => ?_)
  · refine g_iconst (pc := 54) (v := 0) dJ9_equals_54 (by decide) ?_
    refine g_ireturn (pc := 55) dJ9_equals_55 rfl (by first | exact rfl | exact j_nb _) ?_
    exact ⟨by rw [c_47]; rfl, rfl⟩
  · refine g_iconst (pc := 50) (v := 1) dJ9_equals_50 (by decide) ?_
    refine g_goto (pc := 51) 55 dJ9_equals_51 (by decide) ?_
    refine g_ireturn (pc := 55) dJ9_equals_55 rfl (by first | exact rfl | exact j_nb _) ?_
    exact ⟨by rw [c_47]; rfl, rfl⟩
end
