/-! THE COMPONENT: what a house can, second half. Printed by m_c4.py -/
set_option maxRecDepth 100000
theorem or_all : ∀ n : Fin 10, ∀ k : Fin 512, k.1 < 2 ^ n.1 → nI k.1 ||| bitI n.1 = nI (k.1 + 2 ^ n.1) := by decide +kernel
theorem bits_nat {p : Nat → Bool} : ∀ n, n ≤ 10 → ∃ k, k < 2 ^ n ∧ bitsI p n = nI k
  | 0, _ => ⟨0, by decide, rfl⟩
  | n + 1, h => by
    obtain ⟨k, h1, h2⟩ := bits_nat (p := p) n (by omega)
    have hp : 2 ^ n ≤ 512 := Nat.pow_le_pow_right (n := 2) (by decide) (show n ≤ 9 by omega)
    have he : 2 ^ (n + 1) = 2 ^ n + 2 ^ n := by rw [Nat.pow_succ]; omega
    show ∃ k, k < 2 ^ (n + 1) ∧ bitsI p n ||| (if p n = true then bitI n else 0) = nI k
    rw [h2]
    by_cases q : p n = true
    · rw [if_pos q]
      exact ⟨k + 2 ^ n, by omega, or_all ⟨n, by omega⟩ ⟨k, by omega⟩ h1⟩
    · rw [if_neg q]
      exact ⟨k, by omega, Int32.or_zero⟩
theorem bits_1024 {p : Nat → Bool} {n : Nat} (h : n ≤ 10) : ∃ k, k < 1024 ∧ bitsI p n = nI k := by
  obtain ⟨k, h1, h2⟩ := bits_nat (p := p) n h
  have hp : 2 ^ n ≤ 1024 := Nat.pow_le_pow_right (n := 2) (by decide) (show n ≤ 10 by omega)
  exact ⟨k, by omega, h2⟩
theorem cnt_not {p : Nat → Bool} {r : Nat} : ∀ n, cnt (fun q => p q && !(decide (q = r))) n + (if r < n ∧ p r = true then 1 else 0) = cnt p n
  | 0 => by simp [cnt]
  | n + 1 => by
    have ih := cnt_not (p := p) (r := r) n
    show cnt (fun q => p q && !(decide (q = r))) n + (if (p n && !(decide (n = r))) = true then 1 else 0) + _ = cnt p n + (if p n = true then 1 else 0)
    by_cases e : n = r
    · subst e
      have e1 : ¬ (n < n ∧ p n = true) := fun w => absurd w.1 (Nat.lt_irrefl _)
      rw [if_neg e1] at ih
      by_cases w : p n = true
      · simp [w]; omega
      · simp [w]; omega
    · have : (r < n + 1 ∧ p r = true) ↔ (r < n ∧ p r = true) := ⟨fun w => ⟨by omega, w.2⟩, fun w => ⟨by omega, w.2⟩⟩
      simp only [this]
      by_cases w : p n = true
      · simp [w, e]; omega
      · simp [w]; omega
/-- her others, counted with or without it -/
theorem oth_e {D : Nat → Nat → Nat} {nR r : Nat} {R : Nat → Int32} (hn : nR ≤ 10) (hr : r < nR) (hk : kpd R r = true) : onesF (bitsI (fun q => kpS D R (D 0 r) q && !(decide (q = r))) nR) 10 = othI D nR R (D 0 r) := by
  unfold othI
  rw [onesF_eq hn 10 (Nat.le_refl _), onesF_eq hn 10 (Nat.le_refl _), cnt_cut 10 hn, cnt_cut 10 hn]
  have := cnt_not (p := kpS D R (D 0 r)) (r := r) nR
  rw [if_pos ⟨hr, by unfold kpS; rw [hk]; simp⟩] at this
  rw [← this, nI_pred]
theorem and_oth {D : Nat → Nat → Nat} {nR r s : Nat} {R : Nat → Int32} (hn : nR ≤ 10) (hr : r < nR) : bitsI (kpd R) nR &&& bitsI (hersB D s) nR &&& (bitI r ^^^ -1) = bitsI (fun q => kpS D R s q && !(decide (q = r))) nR := by
  refine b_ext (fun i hi => ?_)
  rw [b_and, b_and, bt_bits (by omega) hi, bt_bits (by omega) hi, bt_bits (by omega) hi, b_xor, bt_bit (by omega) hi, show bt (-1) i = true from b_m1 i hi]
  unfold kpS hersB
  cases decide (i < nR) <;> cases kpd R i <;> cases decide (D 0 i = s) <;> cases decide (i = r) <;> rfl
theorem and_her {D : Nat → Nat → Nat} {nR s : Nat} {R : Nat → Int32} (hn : nR ≤ 10) : bitsI (kpd R) nR &&& bitsI (hersB D s) nR = bitsI (kpS D R s) nR := by
  refine b_ext (fun i hi => ?_)
  rw [b_and, bt_bits (by omega) hi, bt_bits (by omega) hi, bt_bits (by omega) hi]
  unfold kpS hersB
  cases decide (i < nR) <;> cases kpd R i <;> cases decide (D 0 i = s) <;> rfl
section
variable {E : jE} {d : Nat} {h : jH} {ac : Nat → Nat} {W : mV} {g : HD} {F : (Nat → Int32) → Int32} {i : Nat} {R : Nat → Int32}
theorem k_others (hd : 6 ≤ d) (hI : InvC ac W g F h) (hl : liv W i) (hz : HZ g W i R) (r : Nat) (hr : r < gR g) (hk : kpd R r = true) : Ct E d 0 0 mX10_othersOf [vR (nC ac (100 + i)), vI (nI r)] h (qR (some (vI (othI (gD g) (gR g) R (gD g 0 r)))) h) := by
  refine ct_of (by decide) (Nat.le_of_ble_eq_true rfl) rfl ?_
  have b8 := hI.2.2.2.2.1.2.2.2.2.2.2.2.1
  have b10 := hI.2.2.2.2.1.2.2.2.2.2.2.2.2.1
  have bP := hI.2.2.2.2.1.2.2.2.2.2.2.2.2.2.1
  have hD := hI.2.2.2.2.1.2.2.2.2.2.2.2.2.2.2.1 r hr
  refine g_aload_n (pc := 0) dX10_othersOf_0 rfl ?_
  refine g_cV (pc := 1) (M' := mX10_kept) (as := []) (ci := 10) rfl i_X10_57_10 eX10_kept dX10_othersOf_1 (hI.2.2.2.1 i hl).1 (k_kept (by omega) hI hl hz) (by omega) rfl rfl (Nat.le_of_ble_eq_true rfl) ?_
  refine g_aload_n (pc := 4) dX10_othersOf_4 rfl ?_
  refine g_getfield (pc := 5) f_X10_3_10 dX10_othersOf_5 (hI.2.2.2.1 i hl).1 rfl ?_
  refine g_getfield (pc := 8) f_X10_25_1 dX10_othersOf_8 hI.1 rfl ?_
  refine g_aload_n (pc := 11) dX10_othersOf_11 rfl ?_
  refine g_getfield (pc := 12) f_X10_3_10 dX10_othersOf_12 (hI.2.2.2.1 i hl).1 rfl ?_
  refine g_iload_n (pc := 15) dX10_othersOf_15 rfl ?_
  refine g_cV (pc := 16) (M' := mX1_relicOf) (as := [_]) (ci := 1) rfl i_X10_60_1 eX1_relicOf dX10_othersOf_16 hI.1 (k_relicOf (by omega) hI r hr) (by omega) rfl rfl (Nat.le_of_ble_eq_true rfl) ?_
  refine g_getfield (pc := 19) f_X10_64_15 dX10_othersOf_19 (hI.2.2.2.2.1.2.2.2.2.2.1 r hr) rfl ?_
  refine g_cV (pc := 22) (M' := mX2_of) (as := [_]) (ci := 2) rfl i_X10_69_2 eX2_of dX10_othersOf_22 hI.2.2.2.2.1.1.choose_spec (k_of (by omega) hI _ (by omega)) (by omega) rfl rfl (Nat.le_of_ble_eq_true rfl) ?_
  refine g_iand (pc := 25) dX10_othersOf_25 ?_
  refine g_iconst (pc := 26) (v := 1) dX10_othersOf_26 (by decide) ?_
  refine g_iload_n (pc := 27) dX10_othersOf_27 rfl ?_
  refine g_ishl (pc := 28) dX10_othersOf_28 ?_
  refine g_iconst (pc := 29) (v := -1) dX10_othersOf_29 (by decide) ?_
  refine g_ixor (pc := 30) dX10_othersOf_30 ?_
  refine g_iand (pc := 31) dX10_othersOf_31 ?_
  rw [show (1 : Int32) <<< (nI r &&& 31) = bitI r from rfl, and_oth b10 hr]
  obtain ⟨k, hk1, hk2⟩ := bits_1024 (p := fun q => kpS (gD g) R (gD g 0 r) q && !(decide (q = r))) b10
  rw [hk2]
  refine g_cS (pc := 32) (M' := mJ16_bitCount) (as := [_]) i_X10_73 eJ16_bitCount dX10_othersOf_32 (k_bitCount k hk1) (by omega) rfl rfl (Nat.le_of_ble_eq_true rfl) ?_
  refine g_ireturn (pc := 35) dX10_othersOf_35 rfl (by first | exact rfl | exact j_nb _) ?_
  exact ⟨by rw [← hk2, oth_e b10 hr hk], rfl⟩
set_option maxHeartbeats 1000000 in
theorem k_powerOf (hd : 604 ≤ d) (hI : InvC ac W g F h) (hl : liv W i) (hz : HZ g W i R) (r : Nat) (hr : r < gR g) : Ct E d 0 0 mX10_powerOf [vR (nC ac (100 + i)), vI (nI r)] h (cQ ac W g F h (some (vI (pwr F (gD g) (gR g) R r)))) := by
  refine ct_of (by decide) (Nat.le_of_ble_eq_true rfl) rfl ?_
  have hF : cFr h h := cFr.rf
  have b8 := hI.2.2.2.2.1.2.2.2.2.2.2.2.1
  have b10 := hI.2.2.2.2.1.2.2.2.2.2.2.2.2.1
  have bP := hI.2.2.2.2.1.2.2.2.2.2.2.2.2.2.1
  have hD := hI.2.2.2.2.1.2.2.2.2.2.2.2.2.2.2.1 r hr
  refine g_aload_n (pc := 0) dX10_powerOf_0 rfl ?_
  refine g_getfield (pc := 1) f_X10_15_10 dX10_powerOf_1 (hI.2.2.2.1 i hl).1 rfl ?_
  refine g_iload_n (pc := 4) dX10_powerOf_4 rfl ?_
  refine g_iaload (pc := 5) dX10_powerOf_5 (hI.2.2.2.1 i hl).2.1 (j := r) rfl (by omega) (by first | decide | omega) rfl ?_
  rw [hz.1 r (by omega)]
  refine g_iconst (pc := 6) (v := -1) dX10_powerOf_6 (by decide) ?_
  refine g_icmp_ne (pc := 7) 12 dX10_powerOf_7 (by decide) (fun c_7 => ?_) (fun c_7 => ?_)
  · refine g_aload_n (pc := 12) dX10_powerOf_12 rfl ?_
    refine g_getfield (pc := 13) f_X10_3_10 dX10_powerOf_13 (hI.2.2.2.1 i hl).1 rfl ?_
    refine g_iload_n (pc := 16) dX10_powerOf_16 rfl ?_
    refine g_cV (pc := 17) (M' := mX1_relicOf) (as := [_]) (ci := 1) rfl i_X10_60_1 eX1_relicOf dX10_powerOf_17 hI.1 (k_relicOf (by omega) hI r hr) (by omega) rfl rfl (Nat.le_of_ble_eq_true rfl) ?_
    refine g_astore_n (pc := 20) (ls' := [_, _, _]) dX10_powerOf_20 (by decide) rfl rfl ?_
    have hk : kpd R r = true := by unfold kpd; exact decide_eq_true c_7
    refine g_aload_n (pc := 21) dX10_powerOf_21 rfl ?_
    refine g_getfield (pc := 22) f_X10_3_10 dX10_powerOf_22 (hI.2.2.2.1 i hl).1 rfl ?_
    refine g_aload_n (pc := 25) dX10_powerOf_25 rfl ?_
    refine g_getfield (pc := 26) f_X10_78_15 dX10_powerOf_26 (hI.2.2.2.2.1.2.2.2.2.2.1 r hr) rfl ?_
    refine g_aload_n (pc := 29) dX10_powerOf_29 rfl ?_
    refine g_getfield (pc := 30) f_X10_15_10 dX10_powerOf_30 (hI.2.2.2.1 i hl).1 rfl ?_
    refine g_iload_n (pc := 33) dX10_powerOf_33 rfl ?_
    refine g_iaload (pc := 34) dX10_powerOf_34 (hI.2.2.2.1 i hl).2.1 (j := r) rfl (by omega) (by first | decide | omega) rfl ?_
    rw [hz.1 r (by omega)]
    refine g_aload_n (pc := 35) dX10_powerOf_35 rfl ?_
    refine g_getfield (pc := 36) f_X10_19_10 dX10_powerOf_36 (hI.2.2.2.1 i hl).1 rfl ?_
    refine g_aload_n (pc := 39) dX10_powerOf_39 rfl ?_
    refine g_getfield (pc := 40) f_X10_64_15 dX10_powerOf_40 (hI.2.2.2.2.1.2.2.2.2.2.1 r hr) rfl ?_
    refine g_iaload (pc := 43) dX10_powerOf_43 (hI.2.2.2.1 i hl).2.2.1 (j := gD g 0 r) rfl (by omega) (by first | decide | omega) rfl ?_
    rw [hz.2.1 (gD g 0 r) (by omega)]
    refine g_aload_n (pc := 44) dX10_powerOf_44 rfl ?_
    refine g_getfield (pc := 45) f_X10_3_10 dX10_powerOf_45 (hI.2.2.2.1 i hl).1 rfl ?_
    refine g_getfield (pc := 48) f_X10_25_1 dX10_powerOf_48 hI.1 rfl ?_
    refine g_getfield (pc := 51) f_X10_81_2 dX10_powerOf_51 hI.2.2.2.2.1.1.choose_spec rfl ?_
    refine g_aload_n (pc := 54) dX10_powerOf_54 rfl ?_
    refine g_getfield (pc := 55) f_X10_64_15 dX10_powerOf_55 (hI.2.2.2.2.1.2.2.2.2.2.1 r hr) rfl ?_
    refine g_iaload (pc := 58) dX10_powerOf_58 hI.2.2.2.2.1.2.1.choose_spec.1 (j := gD g 0 r) rfl (by omega) (by first | decide | omega) rfl ?_
    rw [hI.2.2.2.2.1.2.1.choose_spec.2 (gD g 0 r) hD.1]
    refine g_aload_n (pc := 59) dX10_powerOf_59 rfl ?_
    refine g_getfield (pc := 60) f_X10_84_15 dX10_powerOf_60 (hI.2.2.2.2.1.2.2.2.2.2.1 r hr) rfl ?_
    refine g_aload_n (pc := 63) dX10_powerOf_63 rfl ?_
    refine g_iload_n (pc := 64) dX10_powerOf_64 rfl ?_
    refine g_cV (pc := 65) (M' := mX10_othersOf) (as := [_]) (ci := 10) rfl i_X10_87_10 eX10_othersOf dX10_powerOf_65 (hI.2.2.2.1 i hl).1 (k_others (by omega) hI hl hz r hr hk) (by omega) rfl rfl (Nat.le_of_ble_eq_true rfl) ?_
    refine g_aload_n (pc := 68) dX10_powerOf_68 rfl ?_
    refine g_getfield (pc := 69) f_X10_64_15 dX10_powerOf_69 (hI.2.2.2.2.1.2.2.2.2.2.1 r hr) rfl ?_
    refine g_aload_n (pc := 72) dX10_powerOf_72 rfl ?_
    refine g_getfield (pc := 73) f_X10_41_10 dX10_powerOf_73 (hI.2.2.2.1 i hl).1 rfl ?_
    rw [hz.2.2.2.2.2]
    refine c_cV (pc := 76) (M' := mX1_powerBy) (as := [_, _, _, _, _, _, _, _]) (ci := 1) rfl i_X10_90_1 eX1_powerBy dX10_powerOf_76 hI.1 (k_powerBy (by omega) hI _ _ _ _ _ _ _ _) (by omega) rfl rfl (Nat.le_of_ble_eq_true rfl) (fun h hI fr => ?_)
    replace hF := cFr.tr hF fr
    refine g_ireturn (pc := 79) dX10_powerOf_79 rfl (by first | exact rfl | exact j_nb _) ?_
    refine ⟨?_, hI, hF⟩
    unfold pwr pwOf
    rw [if_pos hk]
  · refine g_iconst (pc := 10) (v := 0) dX10_powerOf_10 (by decide) ?_
    refine g_ireturn (pc := 11) dX10_powerOf_11 rfl (by first | exact rfl | exact j_nb _) ?_
    refine ⟨?_, hI, hF⟩
    unfold pwr
    rw [if_neg (by unfold kpd; rw [c_7]; decide)]
set_option maxHeartbeats 1000000 in
theorem l_kpa {bc bs : Nat} {h0 : jH} (hd : 605 ≤ d) (hl : liv W i) (hz : HZ g W i R) : ∀ (m r : Nat) (h : jH), gR g - r = m → r ≤ gR g → InvC ac W g F h → cFr h0 h → G E d bc bs mX10_powerAll 4 [some (vR (nC ac (100 + i))), some (vI (sumI (pwr F (gD g) (gR g) R) r)), some (vI (nI r))] [] h (cQ ac W g F h0 (some (vI (sumI (pwr F (gD g) (gR g) R) (gR g))))) := by
  intro m
  induction m with
  | zero =>
    intro r h hm hr hI hF
    have e : r = gR g := by omega
    subst e
    have b8 := hI.2.2.2.2.1.2.2.2.2.2.2.2.1
    have b10 := hI.2.2.2.2.1.2.2.2.2.2.2.2.2.1
    have bP := hI.2.2.2.2.1.2.2.2.2.2.2.2.2.2.1
    refine g_iload_n (pc := 4) dX10_powerAll_4 rfl ?_
    refine g_aload_n (pc := 5) dX10_powerAll_5 rfl ?_
    refine g_getfield (pc := 6) f_X10_3_10 dX10_powerAll_6 (hI.2.2.2.1 i hl).1 rfl ?_
    refine g_cV (pc := 9) (M' := mX1_relics) (as := []) (ci := 1) rfl i_X10_50_1 eX1_relics dX10_powerAll_9 hI.1 (k_relics (by omega) hI) (by omega) rfl rfl (Nat.le_of_ble_eq_true rfl) ?_
    refine g_icmp_ge (pc := 12) 29 dX10_powerAll_12 (by decide) (fun c_12 => ?_) (fun c_12 => absurd (nI_le (Nat.le_refl _) (by omega)) c_12)
    refine g_iload_n (pc := 29) dX10_powerAll_29 rfl ?_
    refine g_ireturn (pc := 30) dX10_powerAll_30 rfl (by first | exact rfl | exact j_nb _) ?_
    exact ⟨rfl, hI, hF⟩
  | succ m ih =>
    intro r h hm hr hI hF
    have b8 := hI.2.2.2.2.1.2.2.2.2.2.2.2.1
    have b10 := hI.2.2.2.2.1.2.2.2.2.2.2.2.2.1
    have bP := hI.2.2.2.2.1.2.2.2.2.2.2.2.2.2.1
    refine g_iload_n (pc := 4) dX10_powerAll_4 rfl ?_
    refine g_aload_n (pc := 5) dX10_powerAll_5 rfl ?_
    refine g_getfield (pc := 6) f_X10_3_10 dX10_powerAll_6 (hI.2.2.2.1 i hl).1 rfl ?_
    refine g_cV (pc := 9) (M' := mX1_relics) (as := []) (ci := 1) rfl i_X10_50_1 eX1_relics dX10_powerAll_9 hI.1 (k_relics (by omega) hI) (by omega) rfl rfl (Nat.le_of_ble_eq_true rfl) ?_
    refine g_icmp_ge (pc := 12) 29 dX10_powerAll_12 (by decide) (fun c_12 => absurd c_12 (by intro w; have := (nI_leI (by omega) (by omega)).mp w; omega)) (fun c_12 => ?_)
    refine g_iload_n (pc := 15) dX10_powerAll_15 rfl ?_
    refine g_aload_n (pc := 16) dX10_powerAll_16 rfl ?_
    refine g_iload_n (pc := 17) dX10_powerAll_17 rfl ?_
    refine c_cV (pc := 18) (M' := mX10_powerOf) (as := [_]) (ci := 10) rfl i_X10_94_10 eX10_powerOf dX10_powerAll_18 (hI.2.2.2.1 i hl).1 (k_powerOf (by omega) hI hl hz r (by omega)) (by omega) rfl rfl (Nat.le_of_ble_eq_true rfl) (fun h hI fr => ?_)
    replace hF := cFr.tr hF fr
    refine g_iadd (pc := 21) dX10_powerAll_21 ?_
    refine g_istore_n (pc := 22) (ls' := [_, _, _]) dX10_powerAll_22 (by decide) rfl rfl ?_
    refine g_iinc (pc := 23) (ls' := [_, _, _]) dX10_powerAll_23 rfl (by first | exact nI_1 _ | exact rfl) (by decide) rfl rfl ?_
    refine g_goto (pc := 26) 4 dX10_powerAll_26 (by decide) ?_
    exact ih (r + 1) h (by omega) (by omega) hI hF
theorem k_powerAll (hd : 605 ≤ d) (hI : InvC ac W g F h) (hl : liv W i) (hz : HZ g W i R) : Ct E d 0 0 mX10_powerAll [vR (nC ac (100 + i))] h (cQ ac W g F h (some (vI (sumI (pwr F (gD g) (gR g) R) (gR g))))) := by
  refine ct_of (by decide) (Nat.le_of_ble_eq_true rfl) rfl ?_
  refine g_iconst (pc := 0) (v := 0) dX10_powerAll_0 (by decide) ?_
  refine g_istore_n (pc := 1) (ls' := [_, _, _]) dX10_powerAll_1 (by decide) rfl rfl ?_
  refine g_iconst (pc := 2) (v := 0) dX10_powerAll_2 (by decide) ?_
  refine g_istore_n (pc := 3) (ls' := [_, _, _]) dX10_powerAll_3 (by decide) rfl rfl ?_
  exact l_kpa hd hl hz (gR g) 0 h rfl (Nat.zero_le _) hI cFr.rf
set_option maxHeartbeats 1000000 in
theorem k_isAble (hd : 605 ≤ d) (hI : InvC ac W g F h) (hl : liv W i) (hz : HZ g W i R) (r p : Nat) (hr : r < gR g) (hp : p < gP g) : Ct E d 0 0 mX10_isAble [vR (nC ac (100 + i)), vI (nI r), vI (nI p)] h (cQ ac W g F h (some (vI (bI (ablI F (gD g) (gR g) R r p))))) := by
  refine ct_of (by decide) (Nat.le_of_ble_eq_true rfl) rfl ?_
  have hF : cFr h h := cFr.rf
  have b8 := hI.2.2.2.2.1.2.2.2.2.2.2.2.1
  have b10 := hI.2.2.2.2.1.2.2.2.2.2.2.2.2.1
  have bP := hI.2.2.2.2.1.2.2.2.2.2.2.2.2.2.1
  have hD := hI.2.2.2.2.1.2.2.2.2.2.2.2.2.2.2.1 r hr
  have hE := hI.2.2.2.2.1.2.2.2.2.2.2.2.2.2.2.2.1 p hp
  refine g_aload_n (pc := 0) dX10_isAble_0 rfl ?_
  refine g_getfield (pc := 1) f_X10_3_10 dX10_isAble_1 (hI.2.2.2.1 i hl).1 rfl ?_
  refine g_iload_n (pc := 4) dX10_isAble_4 rfl ?_
  refine g_cV (pc := 5) (M' := mX1_relicOf) (as := [_]) (ci := 1) rfl i_X10_60_1 eX1_relicOf dX10_isAble_5 hI.1 (k_relicOf (by omega) hI r hr) (by omega) rfl rfl (Nat.le_of_ble_eq_true rfl) ?_
  refine g_getfield (pc := 8) f_X10_84_15 dX10_isAble_8 (hI.2.2.2.2.1.2.2.2.2.2.1 r hr) rfl ?_
  refine g_aload_n (pc := 11) dX10_isAble_11 rfl ?_
  refine g_getfield (pc := 12) f_X10_3_10 dX10_isAble_12 (hI.2.2.2.1 i hl).1 rfl ?_
  refine g_iload_n (pc := 15) dX10_isAble_15 rfl ?_
  refine g_cV (pc := 16) (M' := mX1_pilgrimOf) (as := [_]) (ci := 1) rfl i_X10_97_1 eX1_pilgrimOf dX10_isAble_16 hI.1 (k_pilgrimOf (by omega) hI p hp) (by omega) rfl rfl (Nat.le_of_ble_eq_true rfl) ?_
  refine g_getfield (pc := 19) f_X10_101_16 dX10_isAble_19 (hI.2.2.2.2.1.2.2.2.2.2.2.1 p hp) rfl ?_
  refine g_icmp_ne (pc := 22) 48 dX10_isAble_22 (by decide) (fun c_22 => ?_) (fun c_22 => ?_)
  · refine g_iconst (pc := 48) (v := 0) dX10_isAble_48 (by decide) ?_
    refine g_ireturn (pc := 49) dX10_isAble_49 rfl (by first | exact rfl | exact j_nb _) ?_
    refine ⟨?_, hI, hF⟩
    unfold ablI
    rw [decide_eq_false (fun w => c_22 (by rw [w]))]; rfl
  · refine g_aload_n (pc := 25) dX10_isAble_25 rfl ?_
    refine g_iload_n (pc := 26) dX10_isAble_26 rfl ?_
    refine c_cV (pc := 27) (M' := mX10_powerOf) (as := [_]) (ci := 10) rfl i_X10_94_10 eX10_powerOf dX10_isAble_27 (hI.2.2.2.1 i hl).1 (k_powerOf (by omega) hI hl hz r hr) (by omega) rfl rfl (Nat.le_of_ble_eq_true rfl) (fun h hI fr => ?_)
    replace hF := cFr.tr hF fr
    refine g_aload_n (pc := 30) dX10_isAble_30 rfl ?_
    refine g_getfield (pc := 31) f_X10_3_10 dX10_isAble_31 (hI.2.2.2.1 i hl).1 rfl ?_
    refine g_iload_n (pc := 34) dX10_isAble_34 rfl ?_
    refine g_cV (pc := 35) (M' := mX1_pilgrimOf) (as := [_]) (ci := 1) rfl i_X10_97_1 eX1_pilgrimOf dX10_isAble_35 hI.1 (k_pilgrimOf (by omega) hI p hp) (by omega) rfl rfl (Nat.le_of_ble_eq_true rfl) ?_
    refine g_getfield (pc := 38) f_X10_104_16 dX10_isAble_38 (hI.2.2.2.2.1.2.2.2.2.2.2.1 p hp) rfl ?_
    refine g_icmp_lt (pc := 41) 48 dX10_isAble_41 (by decide) (fun c_41 => ?_) (fun c_41 => ?_)
    · refine g_iconst (pc := 48) (v := 0) dX10_isAble_48 (by decide) ?_
      refine g_ireturn (pc := 49) dX10_isAble_49 rfl (by first | exact rfl | exact j_nb _) ?_
      refine ⟨?_, hI, hF⟩
      unfold ablI
      rw [decide_eq_true ((nI_eq (by omega) (by omega)).mp c_22), decide_eq_true c_41]; rfl
    · refine g_iconst (pc := 44) (v := 1) dX10_isAble_44 (by decide) ?_
      refine g_goto (pc := 45) 49 dX10_isAble_45 (by decide) ?_
      refine g_ireturn (pc := 49) dX10_isAble_49 rfl (by first | exact rfl | exact j_nb _) ?_
      refine ⟨?_, hI, hF⟩
      unfold ablI
      rw [decide_eq_true ((nI_eq (by omega) (by omega)).mp c_22), decide_eq_false c_41]; rfl
theorem has_used {g : HD} {W : mV} {i r : Nat} {R : Nat → Int32} (hz : HZ g W i R) (b : gR g ≤ 10) (hr : r < gR g) : hasI (W (100 + i) 4) (nI r) = useB R r := by rw [hz.2.2.2.2.1, hasI_bits (by omega) hr]
theorem has_liv {g : HD} {W : mV} {i s : Nat} {R : Nat → Int32} (hz : HZ g W i R) (b : gS g ≤ 8) (hs : s < gS g) : hasI (W (100 + i) 3) (nI s) = livB R s := by rw [hz.2.2.2.1, hasI_bits (by omega) hs]
/-- flags are 0 or 1 -/
def HB (R : Nat → Int32) : Prop := (∀ s, s < 8 → R s = 0 ∨ R s = 1) ∧ ∀ r, r < 10 → R (26 + r) = 0 ∨ R (26 + r) = 1
set_option maxHeartbeats 1000000 in
theorem k_canCure (hd : 606 ≤ d) (hI : InvC ac W g F h) (hl : liv W i) (hz : HZ g W i R) (hb : HB R) (r p : Nat) (hr : r < gR g) (hp : p < gP g) : Ct E d 0 0 mX10_canCure [vR (nC ac (100 + i)), vI (nI r), vI (nI p)] h (cQ ac W g F h (some (vI (bI (ccI F (gD g) (gR g) R r p))))) := by
  refine ct_of (by decide) (Nat.le_of_ble_eq_true rfl) rfl ?_
  have hF : cFr h h := cFr.rf
  have b8 := hI.2.2.2.2.1.2.2.2.2.2.2.2.1
  have b10 := hI.2.2.2.2.1.2.2.2.2.2.2.2.2.1
  have bP := hI.2.2.2.2.1.2.2.2.2.2.2.2.2.2.1
  refine g_aload_n (pc := 0) dX10_canCure_0 rfl ?_
  refine g_getfield (pc := 1) f_X10_22_10 dX10_canCure_1 (hI.2.2.2.1 i hl).1 rfl ?_
  refine g_iload_n (pc := 4) dX10_canCure_4 rfl ?_
  refine g_iaload (pc := 5) dX10_canCure_5 (hI.2.2.2.1 i hl).2.2.2 (j := p) rfl (by omega) (by first | decide | omega) rfl ?_
  rw [hz.2.2.1 p (by omega)]
  refine g_iconst (pc := 6) (v := -1) dX10_canCure_6 (by decide) ?_
  refine g_icmp_ne (pc := 7) 34 dX10_canCure_7 (by decide) (fun c_7 => ?_) (fun c_7 => ?_)
  · refine g_iconst (pc := 34) (v := 0) dX10_canCure_34 (by decide) ?_
    refine g_ireturn (pc := 35) dX10_canCure_35 rfl (by first | exact rfl | exact j_nb _) ?_
    refine ⟨?_, hI, hF⟩
    unfold ccI
    rw [decide_eq_false c_7]; rfl
  · refine g_aload_n (pc := 10) dX10_canCure_10 rfl ?_
    refine g_getfield (pc := 11) f_X10_38_10 dX10_canCure_11 (hI.2.2.2.1 i hl).1 rfl ?_
    refine g_iload_n (pc := 14) dX10_canCure_14 rfl ?_
    refine g_cS (pc := 15) (M' := mX1_has) (as := [_, _]) i_X10_107 eX1_has dX10_canCure_15 (k_has _ _) (by omega) rfl rfl (Nat.le_of_ble_eq_true rfl) ?_
    rw [has_used hz b10 hr]
    refine g_ifB_ne (pc := 18) 34 dX10_canCure_18 (by decide) (fun c_18 => ?_) (fun c_18 => ?_)
    · refine g_iconst (pc := 34) (v := 0) dX10_canCure_34 (by decide) ?_
      refine g_ireturn (pc := 35) dX10_canCure_35 rfl (by first | exact rfl | exact j_nb _) ?_
      refine ⟨?_, hI, hF⟩
      unfold ccI
      rw [decide_eq_true c_7, decide_eq_false (fun w => by have c := of_decide_eq_true c_18; rw [w] at c; exact absurd c (by decide))]; rfl
    · refine g_aload_n (pc := 21) dX10_canCure_21 rfl ?_
      refine g_iload_n (pc := 22) dX10_canCure_22 rfl ?_
      refine g_iload_n (pc := 23) dX10_canCure_23 rfl ?_
      refine c_cV (pc := 24) (M' := mX10_isAble) (as := [_, _]) (ci := 10) rfl i_X10_111_10 eX10_isAble dX10_canCure_24 (hI.2.2.2.1 i hl).1 (k_isAble (by omega) hI hl hz r p hr hp) (by omega) rfl rfl (Nat.le_of_ble_eq_true rfl) (fun h hI fr => ?_)
      replace hF := cFr.tr hF fr
      refine g_ifB_eq (pc := 27) 34 dX10_canCure_27 (by decide) (fun c_27 => ?_) (fun c_27 => ?_)
      · refine g_iconst (pc := 34) (v := 0) dX10_canCure_34 (by decide) ?_
        refine g_ireturn (pc := 35) dX10_canCure_35 rfl (by first | exact rfl | exact j_nb _) ?_
        refine ⟨?_, hI, hF⟩
        unfold ccI
        rw [decide_eq_true c_7, decide_eq_true ((hb.2 r (by omega)).resolve_right (of_decide_eq_false c_18)), c_27]; rfl
      · refine g_iconst (pc := 30) (v := 1) dX10_canCure_30 (by decide) ?_
        refine g_goto (pc := 31) 35 dX10_canCure_31 (by decide) ?_
        refine g_ireturn (pc := 35) dX10_canCure_35 rfl (by first | exact rfl | exact j_nb _) ?_
        refine ⟨?_, hI, hF⟩
        unfold ccI
        rw [decide_eq_true c_7, decide_eq_true ((hb.2 r (by omega)).resolve_right (of_decide_eq_false c_18)), c_27]; rfl
set_option maxHeartbeats 1000000 in
theorem k_canLapse (hd : 5 ≤ d) (hI : InvC ac W g F h) (hl : liv W i) (hz : HZ g W i R) (s : Nat) (hs : s < gS g) : Ct E d 0 0 mX10_canLapse [vR (nC ac (100 + i)), vI (nI s)] h (qR (some (vI (bI (clI (gD g) (gR g) R s)))) h) := by
  refine ct_of (by decide) (Nat.le_of_ble_eq_true rfl) rfl ?_
  have b8 := hI.2.2.2.2.1.2.2.2.2.2.2.2.1
  have b10 := hI.2.2.2.2.1.2.2.2.2.2.2.2.2.1
  have bP := hI.2.2.2.2.1.2.2.2.2.2.2.2.2.2.1
  refine g_aload_n (pc := 0) dX10_canLapse_0 rfl ?_
  refine g_getfield (pc := 1) f_X10_35_10 dX10_canLapse_1 (hI.2.2.2.1 i hl).1 rfl ?_
  refine g_iload_n (pc := 4) dX10_canLapse_4 rfl ?_
  refine g_cS (pc := 5) (M' := mX1_has) (as := [_, _]) i_X10_107 eX1_has dX10_canLapse_5 (k_has _ _) (by omega) rfl rfl (Nat.le_of_ble_eq_true rfl) ?_
  rw [has_liv hz b8 hs]
  refine g_ifB_eq (pc := 8) 34 dX10_canLapse_8 (by decide) (fun c_8 => ?_) (fun c_8 => ?_)
  · refine g_iconst (pc := 34) (v := 0) dX10_canLapse_34 (by decide) ?_
    refine g_ireturn (pc := 35) dX10_canLapse_35 rfl (by first | exact rfl | exact j_nb _) ?_
    refine ⟨?_, rfl⟩
    unfold clI
    rw [show decide (R s = 0) = false from c_8]; rfl
  · refine g_aload_n (pc := 11) dX10_canLapse_11 rfl ?_
    refine g_cV (pc := 12) (M' := mX10_kept) (as := []) (ci := 10) rfl i_X10_57_10 eX10_kept dX10_canLapse_12 (hI.2.2.2.1 i hl).1 (k_kept (by omega) hI hl hz) (by omega) rfl rfl (Nat.le_of_ble_eq_true rfl) ?_
    refine g_aload_n (pc := 15) dX10_canLapse_15 rfl ?_
    refine g_getfield (pc := 16) f_X10_3_10 dX10_canLapse_16 (hI.2.2.2.1 i hl).1 rfl ?_
    refine g_getfield (pc := 19) f_X10_25_1 dX10_canLapse_19 hI.1 rfl ?_
    refine g_iload_n (pc := 22) dX10_canLapse_22 rfl ?_
    refine g_cV (pc := 23) (M' := mX2_of) (as := [_]) (ci := 2) rfl i_X10_69_2 eX2_of dX10_canLapse_23 hI.2.2.2.2.1.1.choose_spec (k_of (by omega) hI s (by omega)) (by omega) rfl rfl (Nat.le_of_ble_eq_true rfl) ?_
    refine g_iand (pc := 26) dX10_canLapse_26 ?_
    rw [and_her b10]
    refine g_if_eq (pc := 27) 34 dX10_canLapse_27 (by decide) (fun c_27 => ?_) (fun c_27 => ?_)
    · refine g_iconst (pc := 34) (v := 0) dX10_canLapse_34 (by decide) ?_
      refine g_ireturn (pc := 35) dX10_canLapse_35 rfl (by first | exact rfl | exact j_nb _) ?_
      refine ⟨?_, rfl⟩
      unfold clI
      rw [show decide (R s = 0) = true from c_8, decide_eq_true c_27]; rfl
    · refine g_iconst (pc := 30) (v := 1) dX10_canLapse_30 (by decide) ?_
      refine g_goto (pc := 31) 35 dX10_canLapse_31 (by decide) ?_
      refine g_ireturn (pc := 35) dX10_canLapse_35 rfl (by first | exact rfl | exact j_nb _) ?_
      refine ⟨?_, rfl⟩
      unfold clI
      rw [show decide (R s = 0) = true from c_8, decide_eq_false c_27]; rfl
end
