/-! THE REFERENCE: when best, how likely. Printed by m_q8.py -/
set_option maxRecDepth 100000
theorem lessI_n {a b : Nat} (ha : a < 2 ^ 31) (hb : b < 2 ^ 31) : lessI (nI a) (nI b) = nI (min a b) := by
  unfold lessI
  by_cases q : b ≤ a
  · rw [if_pos (nI_le q ha), Nat.min_eq_right q]
  · rw [if_neg (fun w => q ((nI_leI hb ha).mp w)), Nat.min_eq_left (by omega)]
theorem clamp_n (v : Int32) : ∃ p, p ≤ 99 ∧ clampI v = nI p := by
  unfold clampI moreI
  by_cases q : (0 : Int32) ≤ v
  · rw [if_pos q]
    obtain ⟨j, hj, rfl⟩ := nI_of (x := v) (Int32.not_lt.mpr q)
    rw [show (99 : Int32) = nI 99 from rfl, lessI_n (by decide) hj]
    exact ⟨min 99 j, Nat.min_le_left _ _, rfl⟩
  · rw [if_neg q]
    exact ⟨0, by decide, rfl⟩
theorem pwOf_n (lw : (Nat → Int32) → Int32) (D : Nat → Nat → Nat) (nR : Nat) (R : Nat → Int32) (r : Nat) (x y z : Int32) : ∃ p, p ≤ 99 ∧ pwOf lw D nR R r x y z = nI p := clamp_n _
def pwNat (lw : (Nat → Int32) → Int32) (D : Nat → Nat → Nat) (nR : Nat) (R : Nat → Int32) (r : Nat) (x y z : Int32) : Nat := (pwOf lw D nR R r x y z).toNatClampNeg
theorem pwNat_s (lw : (Nat → Int32) → Int32) (D : Nat → Nat → Nat) (nR : Nat) (R : Nat → Int32) (r : Nat) (x y z : Int32) : pwOf lw D nR R r x y z = nI (pwNat lw D nR R r x y z) ∧ pwNat lw D nR R r x y z ≤ 99 := by
  obtain ⟨p, hp, e⟩ := pwOf_n lw D nR R r x y z
  unfold pwNat
  rw [e, nI_clamp (by omega)]
  exact ⟨rfl, hp⟩
/-- the most on the mean, times 16 for each day that is left -/
def gbN (lw : (Nat → Int32) → Int32) (D : Nat → Nat → Nat) (nR : Nat) (R : Nat → Int32) (r : Nat) : Nat → Int32 → Int32 → Int32 → Nat
  | 0, x, y, z => pwNat lw D nR R r x y z
  | n + 1, x, y, z => max (pwNat lw D nR R r x y z * 16 ^ (n + 1)) (D 5 (D 0 r) * gbN lw D nR R r n (x / 2 + 1) (y + 1) (z + 1) + (16 - D 5 (D 0 r)) * gbN lw D nR R r n (x + 1) y (z + 1))
theorem gbN_le (lw : (Nat → Int32) → Int32) (D : Nat → Nat → Nat) (nR : Nat) (R : Nat → Int32) (r : Nat) (ht : D 5 (D 0 r) ≤ 16) : ∀ n x y z, gbN lw D nR R r n x y z ≤ 99 * 16 ^ n
  | 0, x, y, z => by have := (pwNat_s lw D nR R r x y z).2; simpa [gbN] using this
  | n + 1, x, y, z => by
    unfold gbN
    have h0 := (pwNat_s lw D nR R r x y z).2
    have h1 := gbN_le lw D nR R r ht n (x / 2 + 1) (y + 1) (z + 1)
    have h2 := gbN_le lw D nR R r ht n (x + 1) y (z + 1)
    refine Nat.max_le.mpr ⟨Nat.mul_le_mul_right _ h0, ?_⟩
    have e1 := Nat.mul_le_mul_left (D 5 (D 0 r)) h1
    have e2 := Nat.mul_le_mul_left (16 - D 5 (D 0 r)) h2
    have e3 : D 5 (D 0 r) * (99 * 16 ^ n) + (16 - D 5 (D 0 r)) * (99 * 16 ^ n) = 99 * 16 ^ (n + 1) := by
      rw [← Nat.add_mul, Nat.add_sub_cancel' ht, Nat.pow_succ, Nat.mul_comm (16 ^ n) 16, ← Nat.mul_assoc, ← Nat.mul_assoc, Nat.mul_comm 16 99]
    omega
theorem shl16 : ∀ n, n ≤ 6 → ∀ p, p ≤ 99 → (nI p).toInt64 <<< ((4 * nI n).toInt64 &&& 63) = lN (p * 16 ^ n) := by
  decide +kernel
theorem shl1 : ∀ n, n ≤ 12 → (1 : Int64) <<< ((4 * nI n).toInt64 &&& 63) = lN (16 ^ n) := by decide +kernel
theorem p16_6 : ∀ k, k ≤ 6 → 16 ^ k ≤ 16777216 := by decide
theorem pow16 : ∀ n, n ≤ 12 → 1 ≤ 16 ^ n ∧ 16 ^ n ≤ 281474976710656 := by decide +kernel
theorem lmaxN {a b : Nat} (ha : a < 2 ^ 63) (hb : b < 2 ^ 63) : (if lg_cmp (lN a) (lN b) ≤ 0 then lN b else lN a) = lN (max a b) := by
  by_cases q : a ≤ b
  · rw [if_pos ((lg_cmp_le _ _).mpr ((pk_lLE ha hb).mpr q)), Nat.max_eq_right q]
  · rw [if_neg (fun w => q ((pk_lLE ha hb).mp ((lg_cmp_le _ _).mp w))), Nat.max_eq_left (by omega)]
theorem sub16 {t : Nat} (h : t ≤ 16) : (16 : Int32) - nI t = nI (16 - t) := by rw [show (16 : Int32) = nI 16 from rfl, pk_sub h]
section
variable {E : jE} {d : Nat} {h : jH} {am : Nat → Nat} {V : mV} {D : Nat → Nat → Nat} {nS nR nP nL k : Nat}
set_option maxHeartbeats 4000000 in
theorem c_goesBest (hI : InvM am V h) (hT : MT V D nS nR nP) (hl : okL V) (r : Nat) (hr : r < nR) : ∀ (n d : Nat) (x y z : Int32), n ≤ 6 → 5 + n ≤ d → Ct E d 0 0 mX11_goesBest [vR (nMo am), vI (nI r), vI (nI n), vI x, vI y, vI z] h (qR (some (vL (lN (gbN (mlaw V) D nR (V 31) r n x y z)))) h) := by
  have b8 := hT.2.2.2.1
  have b10 := hT.2.2.2.2.1
  have hrr := hT.2.2.2.2.2.2.1 r hr
  have hts := hT.2.2.2.2.2.2.2.2 (D 0 r) hrr.2.2.2.1
  intro n
  induction n with
  | zero =>
    intro d x y z hn hd
    have hp := (pwNat_s (mlaw V) D nR (V 31) r x y z)
    refine ct_of (by decide) (Nat.le_of_ble_eq_true rfl) rfl ?_
    refine g_aload_n (pc := 0) dX11_goesBest_0 rfl ?_
    refine g_aload_n (pc := 1) dX11_goesBest_1 rfl ?_
    refine g_getfield (pc := 2) f_X11_73_11 dX11_goesBest_2 hI.1 mf_31 ?_
    refine g_iload_n (pc := 5) dX11_goesBest_5 rfl ?_
    refine g_iload_n (pc := 6) dX11_goesBest_6 rfl ?_
    refine g_iload (pc := 7) dX11_goesBest_7 rfl ?_
    refine g_iload (pc := 9) dX11_goesBest_9 rfl ?_
    refine m_cP (pc := 11) (M' := mX11_powerOf) (as := [_, _, _, _, _]) i_X11_285_11 eX11_powerOf hI dX11_goesBest_11 (c_powerOf (by omega) hI hT hl (k := 31) rfl r hr _ _ _) (by omega) rfl rfl (Nat.le_of_ble_eq_true rfl) ?_
    refine g_i2l (pc := 14) dX11_goesBest_14 ?_
    refine g_iconst (pc := 15) (v := 4) dX11_goesBest_15 (by decide) ?_
    refine g_iload_n (pc := 16) dX11_goesBest_16 rfl ?_
    refine g_imul (pc := 17) dX11_goesBest_17 ?_
    refine g_lshl (pc := 18) dX11_goesBest_18 ?_
    rw [hp.1, shl16 0 (by decide) _ hp.2]
    refine g_lstore (pc := 19) (ls' := [_, _, _, _, _, _, _, _, _, _, _]) dX11_goesBest_19 (by decide) rfl rfl ?_
    refine g_iload_n (pc := 21) dX11_goesBest_21 rfl ?_
    refine g_if_ne (pc := 22) 28 dX11_goesBest_22 (by decide) (fun c_22 => absurd rfl c_22) (fun c_22 => ?_)
    refine g_lload (pc := 25) dX11_goesBest_25 rfl ?_
    refine g_lreturn (pc := 27) dX11_goesBest_27 rfl ?_
    exact ⟨by simp [gbN], rfl⟩
  | succ n ih =>
    intro d x y z hn hd
    have hp := (pwNat_s (mlaw V) D nR (V 31) r x y z)
    refine ct_of (by decide) (Nat.le_of_ble_eq_true rfl) rfl ?_
    have g1 := gbN_le (mlaw V) D nR (V 31) r (by omega) n (x / 2 + 1) (y + 1) (z + 1)
    have g2 := gbN_le (mlaw V) D nR (V 31) r (by omega) n (x + 1) y (z + 1)
    have g3 := gbN_le (mlaw V) D nR (V 31) r (by omega) (n + 1) x y z
    have p6 := pow16 (n + 1) (by omega)
    have p5 := p16_6 (n + 1) hn
    refine g_aload_n (pc := 0) dX11_goesBest_0 rfl ?_
    refine g_aload_n (pc := 1) dX11_goesBest_1 rfl ?_
    refine g_getfield (pc := 2) f_X11_73_11 dX11_goesBest_2 hI.1 mf_31 ?_
    refine g_iload_n (pc := 5) dX11_goesBest_5 rfl ?_
    refine g_iload_n (pc := 6) dX11_goesBest_6 rfl ?_
    refine g_iload (pc := 7) dX11_goesBest_7 rfl ?_
    refine g_iload (pc := 9) dX11_goesBest_9 rfl ?_
    refine m_cP (pc := 11) (M' := mX11_powerOf) (as := [_, _, _, _, _]) i_X11_285_11 eX11_powerOf hI dX11_goesBest_11 (c_powerOf (by omega) hI hT hl (k := 31) rfl r hr _ _ _) (by omega) rfl rfl (Nat.le_of_ble_eq_true rfl) ?_
    refine g_i2l (pc := 14) dX11_goesBest_14 ?_
    refine g_iconst (pc := 15) (v := 4) dX11_goesBest_15 (by decide) ?_
    refine g_iload_n (pc := 16) dX11_goesBest_16 rfl ?_
    refine g_imul (pc := 17) dX11_goesBest_17 ?_
    refine g_lshl (pc := 18) dX11_goesBest_18 ?_
    rw [hp.1, shl16 (n + 1) hn _ hp.2]
    refine g_lstore (pc := 19) (ls' := [_, _, _, _, _, _, _, _, _, _, _]) dX11_goesBest_19 (by decide) rfl rfl ?_
    refine g_iload_n (pc := 21) dX11_goesBest_21 rfl ?_
    refine g_if_ne (pc := 22) 28 dX11_goesBest_22 (by decide) (fun c_22 => ?_) (fun c_22 => absurd c_22 (nI_ne0 (by omega) (by omega)))
    refine g_aload_n (pc := 28) dX11_goesBest_28 rfl ?_
    refine g_getfield (pc := 29) f_X11_29_11 dX11_goesBest_29 hI.1 mf_14 ?_
    refine g_aload_n (pc := 32) dX11_goesBest_32 rfl ?_
    refine g_getfield (pc := 33) f_X11_43_11 dX11_goesBest_33 hI.1 mf_18 ?_
    refine g_iload_n (pc := 36) dX11_goesBest_36 rfl ?_
    refine g_aaload (pc := 37) (t := 5) rfl rfl dX11_goesBest_37 (mG hI 18 10 rfl (by decide)) rfl (by omega) (by decide) rfl ?_
    refine g_iconst (pc := 38) (v := 0) dX11_goesBest_38 (by decide) ?_
    refine g_iaload (pc := 39) dX11_goesBest_39 (mR hI 18 3 _ rfl (by show _ < 10; omega)) (j := 0) (by decide) (by omega) (by decide) rfl ?_
    rw [hrr.1]
    refine g_iaload (pc := 40) dX11_goesBest_40 (mA hI 14 8 rfl (by decide)) (j := D 0 r) rfl (by omega) (by decide) rfl ?_
    rw [hts.1]
    refine g_istore (pc := 41) (ls' := [_, _, _, _, _, _, _, _, _, _, _]) dX11_goesBest_41 (by decide) rfl rfl ?_
    refine g_iload (pc := 43) dX11_goesBest_43 rfl ?_
    refine g_i2l (pc := 45) dX11_goesBest_45 ?_
    rw [nI_l (by omega)]
    refine g_aload_n (pc := 46) dX11_goesBest_46 rfl ?_
    refine g_iload_n (pc := 47) dX11_goesBest_47 rfl ?_
    refine g_iload_n (pc := 48) dX11_goesBest_48 rfl ?_
    refine g_iconst (pc := 49) (v := 1) dX11_goesBest_49 (by decide) ?_
    refine g_isub (pc := 50) dX11_goesBest_50 ?_
    rw [nI_pred]
    refine g_iload_n (pc := 51) dX11_goesBest_51 rfl ?_
    refine g_iconst (pc := 52) (v := 2) dX11_goesBest_52 (by decide) ?_
    refine g_idiv (pc := 53) dX11_goesBest_53 (by decide) ?_
    refine g_iconst (pc := 54) (v := 1) dX11_goesBest_54 (by decide) ?_
    refine g_iadd (pc := 55) dX11_goesBest_55 ?_
    refine g_iload (pc := 56) dX11_goesBest_56 rfl ?_
    refine g_iconst (pc := 58) (v := 1) dX11_goesBest_58 (by decide) ?_
    refine g_iadd (pc := 59) dX11_goesBest_59 ?_
    refine g_iload (pc := 60) dX11_goesBest_60 rfl ?_
    refine g_iconst (pc := 62) (v := 1) dX11_goesBest_62 (by decide) ?_
    refine g_iadd (pc := 63) dX11_goesBest_63 ?_
    refine m_cP (pc := 64) (M' := mX11_goesBest) (as := [_, _, _, _, _]) i_X11_365_11 eX11_goesBest hI dX11_goesBest_64 (ih (d - 1) _ _ _ (by omega) (by omega)) (by omega) rfl rfl (Nat.le_of_ble_eq_true rfl) ?_
    
    refine g_lmul (pc := 67) dX11_goesBest_67 ?_
    rw [lN_mul]
    refine g_bipush (pc := 68) (v := 16) dX11_goesBest_68 (by decide) ?_
    refine g_iload (pc := 70) dX11_goesBest_70 rfl ?_
    refine g_isub (pc := 72) dX11_goesBest_72 ?_
    rw [sub16 (by omega)]
    refine g_i2l (pc := 73) dX11_goesBest_73 ?_
    rw [nI_l (by omega)]
    refine g_aload_n (pc := 74) dX11_goesBest_74 rfl ?_
    refine g_iload_n (pc := 75) dX11_goesBest_75 rfl ?_
    refine g_iload_n (pc := 76) dX11_goesBest_76 rfl ?_
    refine g_iconst (pc := 77) (v := 1) dX11_goesBest_77 (by decide) ?_
    refine g_isub (pc := 78) dX11_goesBest_78 ?_
    rw [nI_pred]
    refine g_iload_n (pc := 79) dX11_goesBest_79 rfl ?_
    refine g_iconst (pc := 80) (v := 1) dX11_goesBest_80 (by decide) ?_
    refine g_iadd (pc := 81) dX11_goesBest_81 ?_
    refine g_iload (pc := 82) dX11_goesBest_82 rfl ?_
    refine g_iload (pc := 84) dX11_goesBest_84 rfl ?_
    refine g_iconst (pc := 86) (v := 1) dX11_goesBest_86 (by decide) ?_
    refine g_iadd (pc := 87) dX11_goesBest_87 ?_
    refine m_cP (pc := 88) (M' := mX11_goesBest) (as := [_, _, _, _, _]) i_X11_365_11 eX11_goesBest hI dX11_goesBest_88 (ih (d - 1) _ _ _ (by omega) (by omega)) (by omega) rfl rfl (Nat.le_of_ble_eq_true rfl) ?_
    refine g_lmul (pc := 91) dX11_goesBest_91 ?_
    rw [lN_mul]
    refine g_ladd (pc := 92) dX11_goesBest_92 ?_
    rw [lN_add]
    refine g_lstore (pc := 93) (ls' := [_, _, _, _, _, _, _, _, _, _, _]) dX11_goesBest_93 (by decide) rfl rfl ?_
    refine g_lload (pc := 95) dX11_goesBest_95 rfl ?_
    refine g_lload (pc := 97) dX11_goesBest_97 rfl ?_
    refine g_lcmp (pc := 99) dX11_goesBest_99 ?_
    have e : lN (gbN (mlaw V) D nR (V 31) r (n + 1) x y z) = _ := (lmaxN (a := pwNat (mlaw V) D nR (V 31) r x y z * 16 ^ (n + 1)) (b := D 5 (D 0 r) * gbN (mlaw V) D nR (V 31) r n (x / 2 + 1) (y + 1) (z + 1) + (16 - D 5 (D 0 r)) * gbN (mlaw V) D nR (V 31) r n (x + 1) y (z + 1)) (by unfold gbN at g3; have := Nat.le_max_left (pwNat (mlaw V) D nR (V 31) r x y z * 16 ^ (n + 1)) (D 5 (D 0 r) * gbN (mlaw V) D nR (V 31) r n (x / 2 + 1) (y + 1) (z + 1) + (16 - D 5 (D 0 r)) * gbN (mlaw V) D nR (V 31) r n (x + 1) y (z + 1)); omega) (by unfold gbN at g3; have := Nat.le_max_right (pwNat (mlaw V) D nR (V 31) r x y z * 16 ^ (n + 1)) (D 5 (D 0 r) * gbN (mlaw V) D nR (V 31) r n (x / 2 + 1) (y + 1) (z + 1) + (16 - D 5 (D 0 r)) * gbN (mlaw V) D nR (V 31) r n (x + 1) y (z + 1)); omega)).symm
    rw [e]
    refine g_if_le (pc := 100) 108 dX11_goesBest_100 (by decide) (fun c_100 => ?_) (fun c_100 => ?_)
    · refine g_lload (pc := 108) dX11_goesBest_108 rfl ?_
      refine g_lreturn (pc := 110) dX11_goesBest_110 rfl ?_
      exact ⟨by simp [c_100], rfl⟩
    · refine g_lload (pc := 103) dX11_goesBest_103 rfl ?_
      refine g_goto (pc := 105) 110 dX11_goesBest_105 (by decide) ?_
      refine g_lreturn (pc := 110) dX11_goesBest_110 rfl ?_
      exact ⟨by simp [c_100], rfl⟩
set_option maxHeartbeats 2000000 in
theorem l_partOf {bc bs : Nat} (u w : Nat) (hu : u < 2 ^ 62) (hw : w < 2 ^ 62) (hw0 : 0 < w) (q : Int32) : ∀ (m x y : Nat) (u9 : Option jV), y < m → x < 2 ^ 62 → y < 2 ^ 62 → Nat.gcd x y = Nat.gcd w u → G E d bc bs mX11_partOf 6 [some (vL (lN u)), none, some (vL (lN w)), none, some (vI q), some (vL (lN x)), none, some (vL (lN y)), none, u9, none] [] h (qR (some (vL (if q = 0 then lN (u / Nat.gcd w u) else lN (w / Nat.gcd w u)))) h) := by
  intro m
  induction m with
  | zero => intro x y u9 hm; omega
  | succ m ih =>
    intro x y u9 hm hx hy hg
    by_cases hy0 : y = 0
    · subst hy0
      rw [Nat.gcd_zero_right] at hg
      have hx0 : 0 < x := by rw [hg]; exact Nat.gcd_pos_of_pos_left _ hw0
      subst hg
      refine g_lload (pc := 6) dX11_partOf_6 rfl ?_
      refine g_lconst (pc := 8) (v := 0) dX11_partOf_8 (by decide) ?_
      refine g_lcmp (pc := 9) dX11_partOf_9 ?_
      refine g_if_eq (pc := 10) 31 dX11_partOf_10 (by decide) (fun c_10 => ?_) (fun c_10 => absurd ((lg_cmp_eq _ _).mpr rfl) c_10)
      refine g_iload (pc := 31) dX11_partOf_31 rfl ?_
      refine g_if_ne (pc := 33) 43 dX11_partOf_33 (by decide) (fun c_33 => ?_) (fun c_33 => ?_)
      · refine g_lload_n (pc := 43) dX11_partOf_43 rfl ?_
        refine g_lload (pc := 44) dX11_partOf_44 rfl ?_
        refine g_ldiv (pc := 46) dX11_partOf_46 (fun e => by have := (pk_lEQ (b := 0) (by omega) (by decide)).mp e; omega) ?_
        refine g_lreturn (pc := 47) dX11_partOf_47 rfl ?_
        first
          | exact ⟨by rw [if_neg c_33, pk_lDiv (by omega) hx0 (by omega)], rfl⟩
          | exact ⟨by rw [if_pos c_33, pk_lDiv (by omega) hx0 (by omega)], rfl⟩
      · refine g_lload_n (pc := 36) dX11_partOf_36 rfl ?_
        refine g_lload (pc := 37) dX11_partOf_37 rfl ?_
        refine g_ldiv (pc := 39) dX11_partOf_39 (fun e => by have := (pk_lEQ (b := 0) (by omega) (by decide)).mp e; omega) ?_
        refine g_goto (pc := 40) 47 dX11_partOf_40 (by decide) ?_
        refine g_lreturn (pc := 47) dX11_partOf_47 rfl ?_
        first
          | exact ⟨by rw [if_neg c_33, pk_lDiv (by omega) hx0 (by omega)], rfl⟩
          | exact ⟨by rw [if_pos c_33, pk_lDiv (by omega) hx0 (by omega)], rfl⟩
    · have hlt := Nat.mod_lt x (show y > 0 by omega)
      refine g_lload (pc := 6) dX11_partOf_6 rfl ?_
      refine g_lconst (pc := 8) (v := 0) dX11_partOf_8 (by decide) ?_
      refine g_lcmp (pc := 9) dX11_partOf_9 ?_
      refine g_if_eq (pc := 10) 31 dX11_partOf_10 (by decide) (fun c_10 => absurd ((pk_lEQ (b := 0) (by omega) (by decide)).mp ((lg_cmp_eq _ _).mp c_10)) hy0) (fun c_10 => ?_)
      refine g_lload (pc := 13) dX11_partOf_13 rfl ?_
      refine g_lload (pc := 15) dX11_partOf_15 rfl ?_
      refine g_lrem (pc := 17) dX11_partOf_17 (fun e => hy0 ((pk_lEQ (b := 0) (by omega) (by decide)).mp e)) ?_
      rw [pk_lRem (by omega) (by omega) (by omega)]
      refine g_lstore (pc := 18) (ls' := [_, _, _, _, _, _, _, _, _, _, _]) dX11_partOf_18 (by decide) rfl rfl ?_
      refine g_lload (pc := 20) dX11_partOf_20 rfl ?_
      refine g_lstore (pc := 22) (ls' := [_, _, _, _, _, _, _, _, _, _, _]) dX11_partOf_22 (by decide) rfl rfl ?_
      refine g_lload (pc := 24) dX11_partOf_24 rfl ?_
      refine g_lstore (pc := 26) (ls' := [_, _, _, _, _, _, _, _, _, _, _]) dX11_partOf_26 (by decide) rfl rfl ?_
      refine g_goto (pc := 28) 6 dX11_partOf_28 (by decide) ?_
      exact ih y (x % y) _ (by omega) (by omega) (by omega) (by rw [← hg, Nat.gcd_comm x y, Nat.gcd_rec y x, Nat.gcd_comm])
theorem c_partOf (u w : Nat) (hu : u < 2 ^ 62) (hw : w < 2 ^ 62) (hw0 : 0 < w) (q : Int32) : Ct E d 0 0 mX11_partOf [vL (lN u), vL (lN w), vI q] h (qR (some (vL (if q = 0 then lN (u / Nat.gcd w u) else lN (w / Nat.gcd w u)))) h) := by
  refine ct_of (by decide) (Nat.le_of_ble_eq_true rfl) rfl ?_
  refine g_lload_n (pc := 0) dX11_partOf_0 rfl ?_
  refine g_lstore (pc := 1) (ls' := [_, _, _, _, _, _, _, _, _, _, _]) dX11_partOf_1 (by decide) rfl rfl ?_
  refine g_lload_n (pc := 3) dX11_partOf_3 rfl ?_
  refine g_lstore (pc := 4) (ls' := [_, _, _, _, _, _, _, _, _, _, _]) dX11_partOf_4 (by decide) rfl rfl ?_
  exact l_partOf u w hu hw hw0 q (u + 1) w u _ (by omega) hw hu rfl
theorem r1_mbest (hd : 2 ≤ d) (hI : InvM am V h) (hT : MT V D nS nR nP) (s n w : Int32) (hv : inR s 0 (nI nR - 1) = false) : Ct E d 0 0 mX11_best [vR (nMo am), vI s, vI n, vI w] h (mQ am (refV V 1 0) h (some (vL 0))) := by
  refine ct_of (by decide) (Nat.le_of_ble_eq_true rfl) rfl ?_
  have hF : mFr h h := mFr.rf
  have hT := MT.f0 (j := 0) (y := 0) hT
  change MT (thr0 V) D nS nR nP at hT
  have b8 := hT.2.2.2.1
  have b10 := hT.2.2.2.2.1
  have bP := hT.2.2.2.2.2.1
  refine g_aload_n (pc := 0) dX11_best_0 rfl ?_
  refine g_iconst (pc := 1) (v := 0) dX11_best_1 (by decide) ?_
  refine m_put (pc := 2) hI w_X11_103_11 rfl (by decide) dX11_best_2 (fun h hI fr => ?_)
  replace hF := mFr.tr hF fr
  change InvM am (thr0 V) h at hI
  refine g_aload_n (pc := 5) dX11_best_5 rfl ?_
  refine g_aload_n (pc := 6) dX11_best_6 rfl ?_
  refine g_iload_n (pc := 7) dX11_best_7 rfl ?_
  refine m_cP (pc := 8) (M' := mX11_isRelic) (as := [_]) i_X11_339_11 eX11_isRelic hI dX11_best_8 (c_isRelic hI hT (by omega) _) (by omega) rfl rfl (Nat.le_of_ble_eq_true rfl) ?_
  refine g_ifB_ne (pc := 11) 18 dX11_best_11 (by decide) (fun c_11 => absurd (c_11.symm.trans hv) (by decide)) (fun c_11 => ?_)
  refine g_iconst (pc := 14) (v := 1) dX11_best_14 (by decide) ?_
  refine g_goto (pc := 15) 19 dX11_best_15 (by decide) ?_
  refine g_iconst (pc := 19) (v := 1) dX11_best_19 (by decide) ?_
  refine g_iconst (pc := 20) (v := 0) dX11_best_20 (by decide) ?_
  refine m_cV (pc := 21) (M' := mX11_bad) (as := [_, _, _]) i_X11_183_11 eX11_bad hI dX11_best_21 (c_badT hI thr0_0 1 (by decide) 0 (by decide)) (by omega) rfl rfl (Nat.le_of_ble_eq_true rfl) (fun h hI fr => ?_)
  replace hF := mFr.tr hF fr
  refine g_ifB_ne (pc := 24) 60 dX11_best_24 (by decide) (fun c_24 => ?_) (fun c_24 => absurd c_24 (by decide))
  refine g_lconst (pc := 60) (v := 0) dX11_best_60 (by decide) ?_
  refine g_lreturn (pc := 61) dX11_best_61 rfl ?_
  rw [refV_thr0] at hI
  exact ⟨rfl, hI, hF⟩
theorem r2_mbest (hd : 2 ≤ d) (hI : InvM am V h) (hT : MT V D nS nR nP) (s n w : Int32) (hu : inR s 0 (nI nR - 1) = true) (hv : (inR n 0 6 && inR w 0 1) = false) : Ct E d 0 0 mX11_best [vR (nMo am), vI s, vI n, vI w] h (mQ am (refV V 2 1) h (some (vL 0))) := by
  refine ct_of (by decide) (Nat.le_of_ble_eq_true rfl) rfl ?_
  have hF : mFr h h := mFr.rf
  have hT := MT.f0 (j := 0) (y := 0) hT
  change MT (thr0 V) D nS nR nP at hT
  have b8 := hT.2.2.2.1
  have b10 := hT.2.2.2.2.1
  have bP := hT.2.2.2.2.2.1
  refine g_aload_n (pc := 0) dX11_best_0 rfl ?_
  refine g_iconst (pc := 1) (v := 0) dX11_best_1 (by decide) ?_
  refine m_put (pc := 2) hI w_X11_103_11 rfl (by decide) dX11_best_2 (fun h hI fr => ?_)
  replace hF := mFr.tr hF fr
  change InvM am (thr0 V) h at hI
  refine g_aload_n (pc := 5) dX11_best_5 rfl ?_
  refine g_aload_n (pc := 6) dX11_best_6 rfl ?_
  refine g_iload_n (pc := 7) dX11_best_7 rfl ?_
  refine m_cP (pc := 8) (M' := mX11_isRelic) (as := [_]) i_X11_339_11 eX11_isRelic hI dX11_best_8 (c_isRelic hI hT (by omega) _) (by omega) rfl rfl (Nat.le_of_ble_eq_true rfl) ?_
  refine g_ifB_ne (pc := 11) 18 dX11_best_11 (by decide) (fun c_11 => ?_) (fun c_11 => absurd (hu.symm.trans c_11) (by decide))
  refine g_iconst (pc := 18) (v := 0) dX11_best_18 (by decide) ?_
  refine g_iconst (pc := 19) (v := 1) dX11_best_19 (by decide) ?_
  refine g_iconst (pc := 20) (v := 0) dX11_best_20 (by decide) ?_
  refine m_cV (pc := 21) (M' := mX11_bad) (as := [_, _, _]) i_X11_183_11 eX11_bad hI dX11_best_21 (c_badF hI thr0_0 1 0 (by decide)) (by omega) rfl rfl (Nat.le_of_ble_eq_true rfl) (fun h hI fr => ?_)
  replace hF := mFr.tr hF fr
  refine g_ifB_ne (pc := 24) 60 dX11_best_24 (by decide) (fun c_24 => absurd c_24 (by decide)) (fun c_24 => ?_)
  refine g_aload_n (pc := 27) dX11_best_27 rfl ?_
  refine g_iload_n (pc := 28) dX11_best_28 rfl ?_
  refine g_iconst (pc := 29) (v := 0) dX11_best_29 (by decide) ?_
  refine g_bipush (pc := 30) (v := 6) dX11_best_30 (by decide) ?_
  refine g_cS (pc := 32) (M' := mX11_in) (as := [_, _, _]) i_X11_137 eX11_in dX11_best_32 (c_in _ _ _) (by omega) rfl rfl (Nat.le_of_ble_eq_true rfl) ?_
  refine g_ifB_eq (pc := 35) 47 dX11_best_35 (by decide) (fun c_35 => ?_) (fun c_35 => ?_)
  · refine g_iconst (pc := 47) (v := 1) dX11_best_47 (by decide) ?_
    refine g_goto (pc := 48) 52 dX11_best_48 (by decide) ?_
    refine g_iconst (pc := 52) (v := 2) dX11_best_52 (by decide) ?_
    refine g_iconst (pc := 53) (v := 1) dX11_best_53 (by decide) ?_
    refine m_cV (pc := 54) (M' := mX11_bad) (as := [_, _, _]) i_X11_183_11 eX11_bad hI dX11_best_54 (c_badT hI thr0_0 2 (by decide) 1 (by decide)) (by omega) rfl rfl (Nat.le_of_ble_eq_true rfl) (fun h hI fr => ?_)
    replace hF := mFr.tr hF fr
    refine g_ifB_eq (pc := 57) 62 dX11_best_57 (by decide) (fun c_57 => absurd c_57 (by decide)) (fun c_57 => ?_)
    refine g_lconst (pc := 60) (v := 0) dX11_best_60 (by decide) ?_
    refine g_lreturn (pc := 61) dX11_best_61 rfl ?_
    rw [refV_thr0] at hI
    exact ⟨rfl, hI, hF⟩
  · refine g_iload_n (pc := 38) dX11_best_38 rfl ?_
    refine g_iconst (pc := 39) (v := 0) dX11_best_39 (by decide) ?_
    refine g_iconst (pc := 40) (v := 1) dX11_best_40 (by decide) ?_
    refine g_cS (pc := 41) (M' := mX11_in) (as := [_, _, _]) i_X11_137 eX11_in dX11_best_41 (c_in _ _ _) (by omega) rfl rfl (Nat.le_of_ble_eq_true rfl) ?_
    refine g_ifB_ne (pc := 44) 51 dX11_best_44 (by decide) (fun c_44 => ?_) (fun c_44 => ?_)
    · exfalso
      rw [c_35, c_44] at hv
      cases hv
    · refine g_iconst (pc := 47) (v := 1) dX11_best_47 (by decide) ?_
      refine g_goto (pc := 48) 52 dX11_best_48 (by decide) ?_
      refine g_iconst (pc := 52) (v := 2) dX11_best_52 (by decide) ?_
      refine g_iconst (pc := 53) (v := 1) dX11_best_53 (by decide) ?_
      refine m_cV (pc := 54) (M' := mX11_bad) (as := [_, _, _]) i_X11_183_11 eX11_bad hI dX11_best_54 (c_badT hI thr0_0 2 (by decide) 1 (by decide)) (by omega) rfl rfl (Nat.le_of_ble_eq_true rfl) (fun h hI fr => ?_)
      replace hF := mFr.tr hF fr
      refine g_ifB_eq (pc := 57) 62 dX11_best_57 (by decide) (fun c_57 => absurd c_57 (by decide)) (fun c_57 => ?_)
      refine g_lconst (pc := 60) (v := 0) dX11_best_60 (by decide) ?_
      refine g_lreturn (pc := 61) dX11_best_61 rfl ?_
      rw [refV_thr0] at hI
      exact ⟨rfl, hI, hF⟩
theorem r1_mwithout (hd : 2 ≤ d) (hI : InvM am V h) (hT : MT V D nS nR nP) (s n w : Int32) (hv : inR s 0 (nI nS - 1) = false) : Ct E d 0 0 mX11_without [vR (nMo am), vI s, vI n, vI w] h (mQ am (refV V 1 0) h (some (vL 0))) := by
  refine ct_of (by decide) (Nat.le_of_ble_eq_true rfl) rfl ?_
  have hF : mFr h h := mFr.rf
  have hT := MT.f0 (j := 0) (y := 0) hT
  change MT (thr0 V) D nS nR nP at hT
  have b8 := hT.2.2.2.1
  have b10 := hT.2.2.2.2.1
  have bP := hT.2.2.2.2.2.1
  refine g_aload_n (pc := 0) dX11_without_0 rfl ?_
  refine g_iconst (pc := 1) (v := 0) dX11_without_1 (by decide) ?_
  refine m_put (pc := 2) hI w_X11_103_11 rfl (by decide) dX11_without_2 (fun h hI fr => ?_)
  replace hF := mFr.tr hF fr
  change InvM am (thr0 V) h at hI
  refine g_aload_n (pc := 5) dX11_without_5 rfl ?_
  refine g_aload_n (pc := 6) dX11_without_6 rfl ?_
  refine g_iload_n (pc := 7) dX11_without_7 rfl ?_
  refine m_cP (pc := 8) (M' := mX11_isSister) (as := [_]) i_X11_336_11 eX11_isSister hI dX11_without_8 (c_isSister hI hT (by omega) _) (by omega) rfl rfl (Nat.le_of_ble_eq_true rfl) ?_
  refine g_ifB_ne (pc := 11) 18 dX11_without_11 (by decide) (fun c_11 => absurd (c_11.symm.trans hv) (by decide)) (fun c_11 => ?_)
  refine g_iconst (pc := 14) (v := 1) dX11_without_14 (by decide) ?_
  refine g_goto (pc := 15) 19 dX11_without_15 (by decide) ?_
  refine g_iconst (pc := 19) (v := 1) dX11_without_19 (by decide) ?_
  refine g_iconst (pc := 20) (v := 0) dX11_without_20 (by decide) ?_
  refine m_cV (pc := 21) (M' := mX11_bad) (as := [_, _, _]) i_X11_183_11 eX11_bad hI dX11_without_21 (c_badT hI thr0_0 1 (by decide) 0 (by decide)) (by omega) rfl rfl (Nat.le_of_ble_eq_true rfl) (fun h hI fr => ?_)
  replace hF := mFr.tr hF fr
  refine g_ifB_ne (pc := 24) 60 dX11_without_24 (by decide) (fun c_24 => ?_) (fun c_24 => absurd c_24 (by decide))
  refine g_lconst (pc := 60) (v := 0) dX11_without_60 (by decide) ?_
  refine g_lreturn (pc := 61) dX11_without_61 rfl ?_
  rw [refV_thr0] at hI
  exact ⟨rfl, hI, hF⟩
theorem r2_mwithout (hd : 2 ≤ d) (hI : InvM am V h) (hT : MT V D nS nR nP) (s n w : Int32) (hu : inR s 0 (nI nS - 1) = true) (hv : (inR n 0 12 && inR w 0 1) = false) : Ct E d 0 0 mX11_without [vR (nMo am), vI s, vI n, vI w] h (mQ am (refV V 2 1) h (some (vL 0))) := by
  refine ct_of (by decide) (Nat.le_of_ble_eq_true rfl) rfl ?_
  have hF : mFr h h := mFr.rf
  have hT := MT.f0 (j := 0) (y := 0) hT
  change MT (thr0 V) D nS nR nP at hT
  have b8 := hT.2.2.2.1
  have b10 := hT.2.2.2.2.1
  have bP := hT.2.2.2.2.2.1
  refine g_aload_n (pc := 0) dX11_without_0 rfl ?_
  refine g_iconst (pc := 1) (v := 0) dX11_without_1 (by decide) ?_
  refine m_put (pc := 2) hI w_X11_103_11 rfl (by decide) dX11_without_2 (fun h hI fr => ?_)
  replace hF := mFr.tr hF fr
  change InvM am (thr0 V) h at hI
  refine g_aload_n (pc := 5) dX11_without_5 rfl ?_
  refine g_aload_n (pc := 6) dX11_without_6 rfl ?_
  refine g_iload_n (pc := 7) dX11_without_7 rfl ?_
  refine m_cP (pc := 8) (M' := mX11_isSister) (as := [_]) i_X11_336_11 eX11_isSister hI dX11_without_8 (c_isSister hI hT (by omega) _) (by omega) rfl rfl (Nat.le_of_ble_eq_true rfl) ?_
  refine g_ifB_ne (pc := 11) 18 dX11_without_11 (by decide) (fun c_11 => ?_) (fun c_11 => absurd (hu.symm.trans c_11) (by decide))
  refine g_iconst (pc := 18) (v := 0) dX11_without_18 (by decide) ?_
  refine g_iconst (pc := 19) (v := 1) dX11_without_19 (by decide) ?_
  refine g_iconst (pc := 20) (v := 0) dX11_without_20 (by decide) ?_
  refine m_cV (pc := 21) (M' := mX11_bad) (as := [_, _, _]) i_X11_183_11 eX11_bad hI dX11_without_21 (c_badF hI thr0_0 1 0 (by decide)) (by omega) rfl rfl (Nat.le_of_ble_eq_true rfl) (fun h hI fr => ?_)
  replace hF := mFr.tr hF fr
  refine g_ifB_ne (pc := 24) 60 dX11_without_24 (by decide) (fun c_24 => absurd c_24 (by decide)) (fun c_24 => ?_)
  refine g_aload_n (pc := 27) dX11_without_27 rfl ?_
  refine g_iload_n (pc := 28) dX11_without_28 rfl ?_
  refine g_iconst (pc := 29) (v := 0) dX11_without_29 (by decide) ?_
  refine g_bipush (pc := 30) (v := 12) dX11_without_30 (by decide) ?_
  refine g_cS (pc := 32) (M' := mX11_in) (as := [_, _, _]) i_X11_137 eX11_in dX11_without_32 (c_in _ _ _) (by omega) rfl rfl (Nat.le_of_ble_eq_true rfl) ?_
  refine g_ifB_eq (pc := 35) 47 dX11_without_35 (by decide) (fun c_35 => ?_) (fun c_35 => ?_)
  · refine g_iconst (pc := 47) (v := 1) dX11_without_47 (by decide) ?_
    refine g_goto (pc := 48) 52 dX11_without_48 (by decide) ?_
    refine g_iconst (pc := 52) (v := 2) dX11_without_52 (by decide) ?_
    refine g_iconst (pc := 53) (v := 1) dX11_without_53 (by decide) ?_
    refine m_cV (pc := 54) (M' := mX11_bad) (as := [_, _, _]) i_X11_183_11 eX11_bad hI dX11_without_54 (c_badT hI thr0_0 2 (by decide) 1 (by decide)) (by omega) rfl rfl (Nat.le_of_ble_eq_true rfl) (fun h hI fr => ?_)
    replace hF := mFr.tr hF fr
    refine g_ifB_eq (pc := 57) 62 dX11_without_57 (by decide) (fun c_57 => absurd c_57 (by decide)) (fun c_57 => ?_)
    refine g_lconst (pc := 60) (v := 0) dX11_without_60 (by decide) ?_
    refine g_lreturn (pc := 61) dX11_without_61 rfl ?_
    rw [refV_thr0] at hI
    exact ⟨rfl, hI, hF⟩
  · refine g_iload_n (pc := 38) dX11_without_38 rfl ?_
    refine g_iconst (pc := 39) (v := 0) dX11_without_39 (by decide) ?_
    refine g_iconst (pc := 40) (v := 1) dX11_without_40 (by decide) ?_
    refine g_cS (pc := 41) (M' := mX11_in) (as := [_, _, _]) i_X11_137 eX11_in dX11_without_41 (c_in _ _ _) (by omega) rfl rfl (Nat.le_of_ble_eq_true rfl) ?_
    refine g_ifB_ne (pc := 44) 51 dX11_without_44 (by decide) (fun c_44 => ?_) (fun c_44 => ?_)
    · exfalso
      rw [c_35, c_44] at hv
      cases hv
    · refine g_iconst (pc := 47) (v := 1) dX11_without_47 (by decide) ?_
      refine g_goto (pc := 48) 52 dX11_without_48 (by decide) ?_
      refine g_iconst (pc := 52) (v := 2) dX11_without_52 (by decide) ?_
      refine g_iconst (pc := 53) (v := 1) dX11_without_53 (by decide) ?_
      refine m_cV (pc := 54) (M' := mX11_bad) (as := [_, _, _]) i_X11_183_11 eX11_bad hI dX11_without_54 (c_badT hI thr0_0 2 (by decide) 1 (by decide)) (by omega) rfl rfl (Nat.le_of_ble_eq_true rfl) (fun h hI fr => ?_)
      replace hF := mFr.tr hF fr
      refine g_ifB_eq (pc := 57) 62 dX11_without_57 (by decide) (fun c_57 => absurd c_57 (by decide)) (fun c_57 => ?_)
      refine g_lconst (pc := 60) (v := 0) dX11_without_60 (by decide) ?_
      refine g_lreturn (pc := 61) dX11_without_61 rfl ?_
      rw [refV_thr0] at hI
      exact ⟨rfl, hI, hF⟩
/-- a fraction, one part of it, in its least terms -/
def frcI (u w : Nat) (q : Int32) : Int64 := if q = 0 then lN (u / Nat.gcd w u) else lN (w / Nat.gcd w u)
def besI (lw : (Nat → Int32) → Int32) (D : Nat → Nat → Nat) (nR : Nat) (R : Nat → Int32) (r n x : Nat) : Int64 := if kpd R r then frcI (gbN lw D nR R r n (R (16 + r)) (R (8 + D 0 r)) (R 44)) (16 ^ n) (nI x) else (nI x).toInt64
set_option maxHeartbeats 4000000 in
theorem c_mbest (hd : 13 ≤ d) (hI : InvM am V h) (hT : MT V D nS nR nP) (hl : okL V) (r n x : Nat) (hr : r < nR) (hn : n ≤ 6) (hx : x ≤ 1) : Ct E d 0 0 mX11_best [vR (nMo am), vI (nI r), vI (nI n), vI (nI x)] h (mQ am (thr0 V) h (some (vL (besI (mlaw V) D nR (V 31) r n x)))) := by
  refine ct_of (by decide) (Nat.le_of_ble_eq_true rfl) rfl ?_
  have hF : mFr h h := mFr.rf
  have hT := MT.f0 (j := 0) (y := 0) hT
  change MT (thr0 V) D nS nR nP at hT
  have b8 := hT.2.2.2.1
  have b10 := hT.2.2.2.2.1
  have bP := hT.2.2.2.2.2.1
  have hl := okL.f0 (j := 0) (y := 0) hl (by decide)
  change okL (thr0 V) at hl
  have hu := in_of hr (show nR ≤ 1000 by omega)
  have hv : inR (nI n) 0 6 = true := inC_of (n := 6) hn (by decide)
  have hv2 : inR (nI x) 0 1 = true := inC_of (n := 1) hx (by decide)
  have b8 := hT.2.2.2.1
  have b10 := hT.2.2.2.2.1
  have hrr := hT.2.2.2.2.2.2.1 r hr
  have hts := hT.2.2.2.2.2.2.2.2 (D 0 r) hrr.2.2.2.1
  have p6 := pow16 n (by omega)
  have p5 := p16_6 n hn
  have gl := gbN_le (mlaw (thr0 V)) D nR (thr0 V 31) r (by omega) n (thr0 V 31 (16 + r)) (thr0 V 31 (8 + D 0 r)) (thr0 V 31 44)
  refine g_aload_n (pc := 0) dX11_best_0 rfl ?_
  refine g_iconst (pc := 1) (v := 0) dX11_best_1 (by decide) ?_
  refine m_put (pc := 2) hI w_X11_103_11 rfl (by decide) dX11_best_2 (fun h hI fr => ?_)
  replace hF := mFr.tr hF fr
  change InvM am (thr0 V) h at hI
  refine g_aload_n (pc := 5) dX11_best_5 rfl ?_
  refine g_aload_n (pc := 6) dX11_best_6 rfl ?_
  refine g_iload_n (pc := 7) dX11_best_7 rfl ?_
  refine m_cP (pc := 8) (M' := mX11_isRelic) (as := [_]) i_X11_339_11 eX11_isRelic hI dX11_best_8 (c_isRelic hI hT (by omega) _) (by omega) rfl rfl (Nat.le_of_ble_eq_true rfl) ?_
  refine g_ifB_ne (pc := 11) 18 dX11_best_11 (by decide) (fun c_11 => ?_) (fun c_11 => absurd (hu.symm.trans c_11) (by decide))
  refine g_iconst (pc := 18) (v := 0) dX11_best_18 (by decide) ?_
  refine g_iconst (pc := 19) (v := 1) dX11_best_19 (by decide) ?_
  refine g_iconst (pc := 20) (v := 0) dX11_best_20 (by decide) ?_
  refine m_cV (pc := 21) (M' := mX11_bad) (as := [_, _, _]) i_X11_183_11 eX11_bad hI dX11_best_21 (c_badF hI thr0_0 1 0 (by decide)) (by omega) rfl rfl (Nat.le_of_ble_eq_true rfl) (fun h hI fr => ?_)
  replace hF := mFr.tr hF fr
  refine g_ifB_ne (pc := 24) 60 dX11_best_24 (by decide) (fun c_24 => absurd c_24 (by decide)) (fun c_24 => ?_)
  refine g_aload_n (pc := 27) dX11_best_27 rfl ?_
  refine g_iload_n (pc := 28) dX11_best_28 rfl ?_
  refine g_iconst (pc := 29) (v := 0) dX11_best_29 (by decide) ?_
  refine g_bipush (pc := 30) (v := 6) dX11_best_30 (by decide) ?_
  refine g_cS (pc := 32) (M' := mX11_in) (as := [_, _, _]) i_X11_137 eX11_in dX11_best_32 (c_in _ _ _) (by omega) rfl rfl (Nat.le_of_ble_eq_true rfl) ?_
  refine g_ifB_eq (pc := 35) 47 dX11_best_35 (by decide) (fun c_35 => absurd (hv.symm.trans c_35) (by decide)) (fun c_35 => ?_)
  refine g_iload_n (pc := 38) dX11_best_38 rfl ?_
  refine g_iconst (pc := 39) (v := 0) dX11_best_39 (by decide) ?_
  refine g_iconst (pc := 40) (v := 1) dX11_best_40 (by decide) ?_
  refine g_cS (pc := 41) (M' := mX11_in) (as := [_, _, _]) i_X11_137 eX11_in dX11_best_41 (c_in _ _ _) (by omega) rfl rfl (Nat.le_of_ble_eq_true rfl) ?_
  refine g_ifB_ne (pc := 44) 51 dX11_best_44 (by decide) (fun c_44 => ?_) (fun c_44 => absurd (hv2.symm.trans c_44) (by decide))
  refine g_iconst (pc := 51) (v := 0) dX11_best_51 (by decide) ?_
  refine g_iconst (pc := 52) (v := 2) dX11_best_52 (by decide) ?_
  refine g_iconst (pc := 53) (v := 1) dX11_best_53 (by decide) ?_
  refine m_cV (pc := 54) (M' := mX11_bad) (as := [_, _, _]) i_X11_183_11 eX11_bad hI dX11_best_54 (c_badF hI thr0_0 2 1 (by decide)) (by omega) rfl rfl (Nat.le_of_ble_eq_true rfl) (fun h hI fr => ?_)
  replace hF := mFr.tr hF fr
  refine g_ifB_eq (pc := 57) 62 dX11_best_57 (by decide) (fun c_57 => ?_) (fun c_57 => absurd c_57 (by decide))
  refine g_aload_n (pc := 62) dX11_best_62 rfl ?_
  refine g_getfield (pc := 63) f_X11_73_11 dX11_best_63 hI.1 mf_31 ?_
  refine g_iload_n (pc := 66) dX11_best_66 rfl ?_
  refine g_cS (pc := 67) (M' := mX11_isKept) (as := [_, _]) i_X11_267 eX11_isKept dX11_best_67 (c_isKept hI (k := 31) rfl r (by omega)) (by omega) rfl rfl (Nat.le_of_ble_eq_true rfl) ?_
  refine g_ifB_ne (pc := 70) 76 dX11_best_70 (by decide) (fun c_70 => ?_) (fun c_70 => ?_)
  · refine g_aload_n (pc := 76) dX11_best_76 rfl ?_
    refine g_iload_n (pc := 77) dX11_best_77 rfl ?_
    refine g_iload_n (pc := 78) dX11_best_78 rfl ?_
    refine g_aload_n (pc := 79) dX11_best_79 rfl ?_
    refine g_getfield (pc := 80) f_X11_73_11 dX11_best_80 hI.1 mf_31 ?_
    refine g_bipush (pc := 83) (v := 16) dX11_best_83 (by decide) ?_
    refine g_iload_n (pc := 85) dX11_best_85 rfl ?_
    refine g_iadd (pc := 86) dX11_best_86 ?_
    refine g_iaload (pc := 87) dX11_best_87 (mA hI 31 45 rfl (by decide)) (j := 16 + r) (nI_add 16 r) (by omega) (by decide) rfl ?_
    refine g_aload_n (pc := 88) dX11_best_88 rfl ?_
    refine g_getfield (pc := 89) f_X11_73_11 dX11_best_89 hI.1 mf_31 ?_
    refine g_bipush (pc := 92) (v := 8) dX11_best_92 (by decide) ?_
    refine g_aload_n (pc := 94) dX11_best_94 rfl ?_
    refine g_getfield (pc := 95) f_X11_43_11 dX11_best_95 hI.1 mf_18 ?_
    refine g_iload_n (pc := 98) dX11_best_98 rfl ?_
    refine g_aaload (pc := 99) (t := 5) rfl rfl dX11_best_99 (mG hI 18 10 rfl (by decide)) rfl (by omega) (by decide) rfl ?_
    refine g_iconst (pc := 100) (v := 0) dX11_best_100 (by decide) ?_
    refine g_iaload (pc := 101) dX11_best_101 (mR hI 18 3 _ rfl (by show _ < 10; omega)) (j := 0) (by decide) (by omega) (by decide) rfl ?_
    rw [hrr.1]
    refine g_iadd (pc := 102) dX11_best_102 ?_
    refine g_iaload (pc := 103) dX11_best_103 (mA hI 31 45 rfl (by decide)) (j := 8 + D 0 r) (nI_add 8 (D 0 r)) (by omega) (by decide) rfl ?_
    refine g_aload_n (pc := 104) dX11_best_104 rfl ?_
    refine g_getfield (pc := 105) f_X11_73_11 dX11_best_105 hI.1 mf_31 ?_
    refine g_bipush (pc := 108) (v := 44) dX11_best_108 (by decide) ?_
    refine g_iaload (pc := 110) dX11_best_110 (mA hI 31 45 rfl (by decide)) (j := 44) (by decide) (by omega) (by decide) rfl ?_
    refine m_cP (pc := 111) (M' := mX11_goesBest) (as := [_, _, _, _, _]) i_X11_365_11 eX11_goesBest hI dX11_best_111 (c_goesBest hI hT hl r hr n (d - 1) _ _ _ hn (by omega)) (by omega) rfl rfl (Nat.le_of_ble_eq_true rfl) ?_
    refine g_lconst (pc := 114) (v := 1) dX11_best_114 (by decide) ?_
    refine g_iconst (pc := 115) (v := 4) dX11_best_115 (by decide) ?_
    refine g_iload_n (pc := 116) dX11_best_116 rfl ?_
    refine g_imul (pc := 117) dX11_best_117 ?_
    refine g_lshl (pc := 118) dX11_best_118 ?_
    rw [shl1 n (by omega)]
    refine g_iload_n (pc := 119) dX11_best_119 rfl ?_
    refine g_cS (pc := 120) (M' := mX11_partOf) (as := [_, _, _]) i_X11_369 eX11_partOf dX11_best_120 (c_partOf _ _ (by omega) (by omega) (by omega) _) (by omega) rfl rfl (Nat.le_of_ble_eq_true rfl) ?_
    refine g_lreturn (pc := 123) dX11_best_123 rfl ?_
    refine ⟨?_, hI, hF⟩
    rw [thr0_now] at *
    rw [← thr0_law (V := V)]
    unfold besI frcI
    first
      | rw [if_pos c_70]
      | rw [if_neg (by rw [c_70]; decide)]
  · refine g_iload_n (pc := 73) dX11_best_73 rfl ?_
    refine g_i2l (pc := 74) dX11_best_74 ?_
    refine g_lreturn (pc := 75) dX11_best_75 rfl ?_
    refine ⟨?_, hI, hF⟩
    rw [thr0_now] at *
    rw [← thr0_law (V := V)]
    unfold besI frcI
    first
      | rw [if_pos c_70]
      | rw [if_neg (by rw [c_70]; decide)]
set_option maxHeartbeats 2000000 in
theorem l_without {bc bs : Nat} {Q : jR → jH → Prop} (hI : InvM am V h) (hT : MT V D nS nR nP) (s n : Nat) (hs : s < nS) (hn : n ≤ 12) (w : Int32) (kk : G E d bc bs mX11_without 95 [some (vR (nMo am)), some (vI (nI s)), some (vI (nI n)), some (vI w), some (vL (lN ((16 - D 5 s) ^ n))), none, some (vI (nI n))] [] h Q) : ∀ (m k : Nat), n - k = m → k ≤ n → G E d bc bs mX11_without 68 [some (vR (nMo am)), some (vI (nI s)), some (vI (nI n)), some (vI w), some (vL (lN ((16 - D 5 s) ^ k))), none, some (vI (nI k))] [] h Q := by
  intro m
  have b8 := hT.2.2.2.1
  have hts := hT.2.2.2.2.2.2.2.2 s hs
  induction m with
  | zero =>
    intro k hm hk
    have e : k = n := by omega
    subst e
    refine g_iload (pc := 68) dX11_without_68 rfl ?_
    refine g_iload_n (pc := 70) dX11_without_70 rfl ?_
    refine g_icmp_ge (pc := 71) 95 dX11_without_71 (by decide) (fun c_71 => ?_) (fun c_71 => absurd (nI_le (Nat.le_refl _) (by omega)) c_71)
    exact kk
  | succ m ih =>
    intro k hm hk
    have hq := ih (k + 1) (by omega) (by omega)
    rw [Nat.pow_succ] at hq
    refine g_iload (pc := 68) dX11_without_68 rfl ?_
    refine g_iload_n (pc := 70) dX11_without_70 rfl ?_
    refine g_icmp_ge (pc := 71) 95 dX11_without_71 (by decide) (fun c_71 => absurd c_71 (by intro w; have := (nI_leI (by omega) (by omega)).mp w; omega)) (fun c_71 => ?_)
    refine g_lload (pc := 74) dX11_without_74 rfl ?_
    refine g_bipush (pc := 76) (v := 16) dX11_without_76 (by decide) ?_
    refine g_aload_n (pc := 78) dX11_without_78 rfl ?_
    refine g_getfield (pc := 79) f_X11_29_11 dX11_without_79 hI.1 mf_14 ?_
    refine g_iload_n (pc := 82) dX11_without_82 rfl ?_
    refine g_iaload (pc := 83) dX11_without_83 (mA hI 14 8 rfl (by decide)) rfl (by omega) (by decide) rfl ?_
    rw [hts.1]
    refine g_isub (pc := 84) dX11_without_84 ?_
    rw [sub16 (by omega)]
    refine g_i2l (pc := 85) dX11_without_85 ?_
    rw [nI_l (by omega)]
    refine g_lmul (pc := 86) dX11_without_86 ?_
    rw [lN_mul]
    refine g_lstore (pc := 87) (ls' := [_, _, _, _, _, _, _]) dX11_without_87 (by decide) rfl rfl ?_
    refine g_iinc (pc := 89) (ls' := [_, _, _, _, _, _, _]) dX11_without_89 rfl (by first | exact nI_1 _ | exact rfl) (by decide) rfl rfl ?_
    refine g_goto (pc := 92) 68 dX11_without_92 (by decide) ?_
    exact hq
theorem pow_le16 {t : Nat} (ht : t ≤ 16) (n : Nat) : t ^ n ≤ 16 ^ n := Nat.pow_le_pow_left ht n
set_option maxHeartbeats 2000000 in
theorem c_mwithout (hd : 3 ≤ d) (hI : InvM am V h) (hT : MT V D nS nR nP) (s n x : Nat) (hs : s < nS) (hn : n ≤ 12) (hx : x ≤ 1) : Ct E d 0 0 mX11_without [vR (nMo am), vI (nI s), vI (nI n), vI (nI x)] h (mQ am (thr0 V) h (some (vL (frcI ((16 - D 5 s) ^ n) (16 ^ n) (nI x))))) := by
  refine ct_of (by decide) (Nat.le_of_ble_eq_true rfl) rfl ?_
  have hF : mFr h h := mFr.rf
  have hT := MT.f0 (j := 0) (y := 0) hT
  change MT (thr0 V) D nS nR nP at hT
  have b8 := hT.2.2.2.1
  have b10 := hT.2.2.2.2.1
  have bP := hT.2.2.2.2.2.1
  have hu := in_of hs (show nS ≤ 1000 by omega)
  have hv : inR (nI n) 0 12 = true := inC_of (n := 12) hn (by decide)
  have hv2 : inR (nI x) 0 1 = true := inC_of (n := 1) hx (by decide)
  have p6 := pow16 n hn
  have p7 := pow_le16 (t := 16 - D 5 s) (by omega) n
  refine g_aload_n (pc := 0) dX11_without_0 rfl ?_
  refine g_iconst (pc := 1) (v := 0) dX11_without_1 (by decide) ?_
  refine m_put (pc := 2) hI w_X11_103_11 rfl (by decide) dX11_without_2 (fun h hI fr => ?_)
  replace hF := mFr.tr hF fr
  change InvM am (thr0 V) h at hI
  refine g_aload_n (pc := 5) dX11_without_5 rfl ?_
  refine g_aload_n (pc := 6) dX11_without_6 rfl ?_
  refine g_iload_n (pc := 7) dX11_without_7 rfl ?_
  refine m_cP (pc := 8) (M' := mX11_isSister) (as := [_]) i_X11_336_11 eX11_isSister hI dX11_without_8 (c_isSister hI hT (by omega) _) (by omega) rfl rfl (Nat.le_of_ble_eq_true rfl) ?_
  refine g_ifB_ne (pc := 11) 18 dX11_without_11 (by decide) (fun c_11 => ?_) (fun c_11 => absurd (hu.symm.trans c_11) (by decide))
  refine g_iconst (pc := 18) (v := 0) dX11_without_18 (by decide) ?_
  refine g_iconst (pc := 19) (v := 1) dX11_without_19 (by decide) ?_
  refine g_iconst (pc := 20) (v := 0) dX11_without_20 (by decide) ?_
  refine m_cV (pc := 21) (M' := mX11_bad) (as := [_, _, _]) i_X11_183_11 eX11_bad hI dX11_without_21 (c_badF hI thr0_0 1 0 (by decide)) (by omega) rfl rfl (Nat.le_of_ble_eq_true rfl) (fun h hI fr => ?_)
  replace hF := mFr.tr hF fr
  refine g_ifB_ne (pc := 24) 60 dX11_without_24 (by decide) (fun c_24 => absurd c_24 (by decide)) (fun c_24 => ?_)
  refine g_aload_n (pc := 27) dX11_without_27 rfl ?_
  refine g_iload_n (pc := 28) dX11_without_28 rfl ?_
  refine g_iconst (pc := 29) (v := 0) dX11_without_29 (by decide) ?_
  refine g_bipush (pc := 30) (v := 12) dX11_without_30 (by decide) ?_
  refine g_cS (pc := 32) (M' := mX11_in) (as := [_, _, _]) i_X11_137 eX11_in dX11_without_32 (c_in _ _ _) (by omega) rfl rfl (Nat.le_of_ble_eq_true rfl) ?_
  refine g_ifB_eq (pc := 35) 47 dX11_without_35 (by decide) (fun c_35 => absurd (hv.symm.trans c_35) (by decide)) (fun c_35 => ?_)
  refine g_iload_n (pc := 38) dX11_without_38 rfl ?_
  refine g_iconst (pc := 39) (v := 0) dX11_without_39 (by decide) ?_
  refine g_iconst (pc := 40) (v := 1) dX11_without_40 (by decide) ?_
  refine g_cS (pc := 41) (M' := mX11_in) (as := [_, _, _]) i_X11_137 eX11_in dX11_without_41 (c_in _ _ _) (by omega) rfl rfl (Nat.le_of_ble_eq_true rfl) ?_
  refine g_ifB_ne (pc := 44) 51 dX11_without_44 (by decide) (fun c_44 => ?_) (fun c_44 => absurd (hv2.symm.trans c_44) (by decide))
  refine g_iconst (pc := 51) (v := 0) dX11_without_51 (by decide) ?_
  refine g_iconst (pc := 52) (v := 2) dX11_without_52 (by decide) ?_
  refine g_iconst (pc := 53) (v := 1) dX11_without_53 (by decide) ?_
  refine m_cV (pc := 54) (M' := mX11_bad) (as := [_, _, _]) i_X11_183_11 eX11_bad hI dX11_without_54 (c_badF hI thr0_0 2 1 (by decide)) (by omega) rfl rfl (Nat.le_of_ble_eq_true rfl) (fun h hI fr => ?_)
  replace hF := mFr.tr hF fr
  refine g_ifB_eq (pc := 57) 62 dX11_without_57 (by decide) (fun c_57 => ?_) (fun c_57 => absurd c_57 (by decide))
  refine g_lconst (pc := 62) (v := 1) dX11_without_62 (by decide) ?_
  refine g_lstore (pc := 63) (ls' := [_, _, _, _, _, _, _]) dX11_without_63 (by decide) rfl rfl ?_
  refine g_iconst (pc := 65) (v := 0) dX11_without_65 (by decide) ?_
  refine g_istore (pc := 66) (ls' := [_, _, _, _, _, _, _]) dX11_without_66 (by decide) rfl rfl ?_
  refine l_without hI hT s n hs hn _ ?_ n 0 rfl (Nat.zero_le _)
  refine g_lload (pc := 95) dX11_without_95 rfl ?_
  refine g_lconst (pc := 97) (v := 1) dX11_without_97 (by decide) ?_
  refine g_iconst (pc := 98) (v := 4) dX11_without_98 (by decide) ?_
  refine g_iload_n (pc := 99) dX11_without_99 rfl ?_
  refine g_imul (pc := 100) dX11_without_100 ?_
  refine g_lshl (pc := 101) dX11_without_101 ?_
  rw [shl1 n hn]
  refine g_iload_n (pc := 102) dX11_without_102 rfl ?_
  refine g_cS (pc := 103) (M' := mX11_partOf) (as := [_, _, _]) i_X11_369 eX11_partOf dX11_without_103 (c_partOf _ _ (by omega) (by omega) (by omega) _) (by omega) rfl rfl (Nat.le_of_ble_eq_true rfl) ?_
  refine g_lreturn (pc := 106) dX11_without_106 rfl ?_
  exact ⟨rfl, hI, hF⟩
end
