def bt (x : Int32) (i : Nat) : Bool := x.toBitVec.getLsbD i
theorem b_ext {x y : Int32} (h : ∀ i, i < 32 → bt x i = bt y i) : x = y := Int32.toBitVec_inj.mp (BitVec.eq_of_getLsbD_eq (fun i hi => h i hi))
theorem b_or (x y : Int32) (i : Nat) : bt (x ||| y) i = (bt x i || bt y i) := by unfold bt; rw [Int32.toBitVec_or, BitVec.getLsbD_or]
theorem b_and (x y : Int32) (i : Nat) : bt (x &&& y) i = (bt x i && bt y i) := by unfold bt; rw [Int32.toBitVec_and, BitVec.getLsbD_and]
theorem b_xor (x y : Int32) (i : Nat) : bt (x ^^^ y) i = (bt x i ^^ bt y i) := by unfold bt; rw [Int32.toBitVec_xor, BitVec.getLsbD_xor]
theorem b_big {x : Int32} {i : Nat} (h : 32 ≤ i) : bt x i = false := BitVec.getLsbD_of_ge _ _ h
theorem b_255 (i : Nat) : bt 255 i = decide (i < 8) := by
  rcases Nat.lt_or_ge i 32 with h | h
  · exact (by decide +kernel : ∀ i, i < 32 → bt 255 i = decide (i < 8)) i h
  · rw [b_big h, decide_eq_false (by omega)]
theorem b_65535 (i : Nat) : bt 65535 i = decide (i < 16) := by
  rcases Nat.lt_or_ge i 32 with h | h
  · exact (by decide +kernel : ∀ i, i < 32 → bt 65535 i = decide (i < 16)) i h
  · rw [b_big h, decide_eq_false (by omega)]
theorem b_m1 : ∀ i, i < 32 → bt (-1) i = true := by decide +kernel
theorem b_0 (i : Nat) : bt 0 i = false := BitVec.getLsbD_zero
theorem s_l : ∀ n, n < 32 → ((nI n &&& 31).toBitVec.smod 32).toNat = n := by decide +kernel
theorem s_u : ∀ n, n < 32 → (((nI n).toUInt32 &&& Int32.toUInt32 31).toBitVec % 32).toNat = n := by decide +kernel
theorem b_shl (n : Nat) (hn : n < 32) (x : Int32) {i : Nat} (hi : i < 32) : bt (x <<< (nI n &&& 31)) i = (decide (n ≤ i) && bt x (i - n)) := by
  unfold bt
  rw [Int32.toBitVec_shiftLeft]
  show (x.toBitVec <<< ((nI n &&& 31).toBitVec.smod 32).toNat).getLsbD i = _
  rw [s_l n hn, BitVec.getLsbD_shiftLeft]
  rcases Nat.lt_or_ge i n with h | h
  · simp [h, Nat.not_le.mpr h]
  · simp [hi, h, Nat.not_lt.mpr h]
theorem b_ushr (n : Nat) (hn : n < 32) (x : Int32) (i : Nat) : bt ((x.toUInt32 >>> ((nI n).toUInt32 &&& Int32.toUInt32 31)).toInt32) i = bt x (n + i) := by
  show (x.toUInt32 >>> ((nI n).toUInt32 &&& Int32.toUInt32 31)).toBitVec.getLsbD i = x.toUInt32.toBitVec.getLsbD (n + i)
  rw [UInt32.toBitVec_shiftRight]
  show (x.toUInt32.toBitVec >>> (((nI n).toUInt32 &&& Int32.toUInt32 31).toBitVec % 32).toNat).getLsbD i = _
  rw [s_u n hn, BitVec.getLsbD_ushiftRight]
theorem b_sshr (n : Nat) (hn : n < 32) (x : Int32) {i : Nat} (hi : i < 32) : bt (x >>> (nI n &&& 31)) i = if n + i < 32 then bt x (n + i) else bt x 31 := by
  unfold bt
  rw [Int32.toBitVec_shiftRight]
  show (x.toBitVec.sshiftRight ((nI n &&& 31).toBitVec.smod 32).toNat).getLsbD i = _
  rw [s_l n hn, BitVec.getLsbD_sshiftRight, BitVec.msb_eq_getLsbD_last]
  simp [hi]
theorem b_shl8 (x : Int32) {i : Nat} (hi : i < 32) : bt (x <<< ((8 : Int32) &&& 31)) i = (decide (8 ≤ i) && bt x (i - 8)) := b_shl 8 (by omega) x hi
theorem b_shl16 (x : Int32) {i : Nat} (hi : i < 32) : bt (x <<< ((16 : Int32) &&& 31)) i = (decide (16 ≤ i) && bt x (i - 16)) := b_shl 16 (by omega) x hi
theorem b_shl24 (x : Int32) {i : Nat} (hi : i < 32) : bt (x <<< ((24 : Int32) &&& 31)) i = (decide (24 ≤ i) && bt x (i - 24)) := b_shl 24 (by omega) x hi
theorem b_sshr8 (x : Int32) {i : Nat} (hi : i < 32) : bt (x >>> ((8 : Int32) &&& 31)) i = if 8 + i < 32 then bt x (8 + i) else bt x 31 := b_sshr 8 (by omega) x hi
/-! sets as bits (the rows bt .. above began as the kit's BITS.to-paste, first family) -/
theorem b_1 : ∀ i, i < 32 → bt 1 i = decide (i = 0) := by decide +kernel
theorem bt_bit {k i : Nat} (hk : k < 32) (hi : i < 32) : bt (bitI k) i = decide (i = k) := by
  unfold bitI
  rw [b_shl k hk 1 hi]
  by_cases q : k ≤ i
  · rw [b_1 _ (by omega), decide_eq_true q, Bool.true_and]
    congr 1
    exact propext ⟨fun w => by omega, fun w => by omega⟩
  · rw [decide_eq_false q, decide_eq_false (by omega)]
    rfl
theorem bt_bits {p : Nat → Bool} : ∀ {n : Nat}, n ≤ 32 → ∀ {i : Nat}, i < 32 → bt (bitsI p n) i = (decide (i < n) && p i)
  | 0, _, i, _ => by rw [show bitsI p 0 = 0 from rfl, b_0]; simp
  | n + 1, hn, i, hi => by
    show bt (bitsI p n ||| (if p n = true then bitI n else 0)) i = _
    rw [b_or, bt_bits (by omega) hi]
    by_cases q : p n = true
    · rw [if_pos q, bt_bit (by omega) hi]
      by_cases e : i = n
      · subst e; simp [q]
      · by_cases w : i < n
        · simp [e, w, show i < n + 1 by omega]
        · simp [e, w, show ¬ i < n + 1 by omega]
    · rw [if_neg q, b_0]
      by_cases e : i = n
      · subst e; simp [q]
      · by_cases w : i < n
        · simp [w, show i < n + 1 by omega]
        · simp [w, show ¬ i < n + 1 by omega]
theorem and1 (x : Int32) : x &&& 1 = if bt x 0 = true then 1 else 0 := by
  apply b_ext
  intro i hi
  rw [b_and, b_1 i hi]
  by_cases e : i = 0
  · subst e
    by_cases q : bt x 0 = true
    · rw [if_pos q, q]; decide
    · rw [if_neg q, b_0]; simp [q]
  · by_cases q : bt x 0 = true
    · rw [if_pos q, b_1 i hi]; simp [e]
    · rw [if_neg q, b_0]; simp [e]
theorem hasI_bt {b : Int32} {k : Nat} (hk : k < 32) : hasI b (nI k) = bt b k := by
  unfold hasI
  have e := b_sshr k hk b (show 0 < 32 by decide)
  rw [if_pos (show k + 0 < 32 by omega), Nat.add_zero] at e
  rw [and1, e]
  by_cases q : bt b k = true
  · rw [if_pos q, q]; decide
  · rw [if_neg q, show bt b k = false by simpa using q]; decide
theorem hasI_bits {p : Nat → Bool} {n k : Nat} (hn : n ≤ 32) (hk : k < n) : hasI (bitsI p n) (nI k) = p k := by
  rw [hasI_bt (by omega), bt_bits hn (by omega)]
  simp [hk]
theorem bits_congr {p q : Nat → Bool} : ∀ {n : Nat}, (∀ i, i < n → p i = q i) → bitsI p n = bitsI q n
  | 0, _ => rfl
  | n + 1, h => by
    show bitsI p n ||| (if p n = true then bitI n else 0) = bitsI q n ||| (if q n = true then bitI n else 0)
    rw [bits_congr (fun i hi => h i (by omega)), h n (by omega)]
theorem bits_0 {p : Nat → Bool} {n : Nat} (hn : n ≤ 32) : bitsI p n = 0 ↔ ∀ i, i < n → p i = false := by
  constructor
  · intro h i hi
    have q := bt_bits (p := p) hn (show i < 32 by omega)
    rw [h, b_0] at q
    simpa [hi] using q.symm
  · intro h
    apply b_ext
    intro i hi
    rw [bt_bits hn hi, b_0]
    by_cases q : i < n
    · simp [h i q]
    · simp [q]
/-- how many under n have p -/
def cnt (p : Nat → Bool) : Nat → Nat
  | 0 => 0
  | k + 1 => cnt p k + (if p k then 1 else 0)
theorem cnt_le {p : Nat → Bool} : ∀ n, cnt p n ≤ n
  | 0 => Nat.le_refl _
  | n + 1 => by
    have := cnt_le (p := p) n
    show cnt p n + (if p n then 1 else 0) ≤ n + 1
    split <;> omega
theorem onesF_eq {p : Nat → Bool} {n : Nat} (hn : n ≤ 10) : ∀ k, k ≤ 10 → onesF (bitsI p n) k = nI (cnt (fun i => decide (i < n) && p i) k)
  | 0, _ => rfl
  | k + 1, h => by
    show onesF (bitsI p n) k + ((bitsI p n >>> (nI k &&& 31)) &&& 1) = _
    have e := b_sshr k (by omega) (bitsI p n) (show 0 < 32 by decide)
    rw [if_pos (show k + 0 < 32 by omega), Nat.add_zero, bt_bits (by omega) (by omega)] at e
    rw [onesF_eq hn k (by omega), and1, e]
    show _ = nI (cnt _ k + (if (decide (k < n) && p k) = true then 1 else 0))
    by_cases q : (decide (k < n) && p k) = true
    · rw [if_pos q, if_pos q, nI_1]
    · rw [if_neg q, if_neg q, Nat.add_zero]
      show _ + 0 = _
      rw [Int32.add_zero]
theorem cnt_cut {p : Nat → Bool} {n : Nat} : ∀ k, n ≤ k → cnt (fun i => decide (i < n) && p i) k = cnt p n
  | 0, h => by
    have : n = 0 := by omega
    subst this; rfl
  | k + 1, h => by
    show cnt (fun i => decide (i < n) && p i) k + (if (decide (k < n) && p k) = true then 1 else 0) = cnt p n
    by_cases q : n ≤ k
    · rw [cnt_cut k q, if_neg (by simp; omega), Nat.add_zero]
    · have e : n = k + 1 := by omega
      subst e
      show _ = cnt p k + (if p k then 1 else 0)
      have e2 : ∀ j, j ≤ k → cnt (fun i => decide (i < k + 1) && p i) j = cnt p j := by
        intro j
        induction j with
        | zero => intro _; rfl
        | succ j ih =>
          intro hj
          show cnt _ j + (if (decide (j < k + 1) && p j) = true then 1 else 0) = cnt p j + (if p j then 1 else 0)
          rw [ih (by omega)]
          simp [show j < k + 1 by omega]
      rw [e2 k (Nat.le_refl _)]
      simp
theorem ones_bits {p : Nat → Bool} {n : Nat} (hn : n ≤ 10) : onesF (bitsI p n) 10 = nI (cnt p n) := by rw [onesF_eq hn 10 (Nat.le_refl _), cnt_cut 10 hn]
