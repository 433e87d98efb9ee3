/-! THE REFERENCE: power. Printed by m_pow.py -/
set_option maxRecDepth 100000
def bitI (k : Nat) : Int32 := 1 <<< (nI k &&& 31)
/-- the bits of those under n that have p -/
def bitsI (p : Nat → Bool) : Nat → Int32
  | 0 => 0
  | k + 1 => bitsI p k ||| (if p k then bitI k else 0)
/-- what is told: D 0 sister, 1 ill, 2 worth of a relic; 3 ill, 4 need of a pilgrim; 5 how tempted a sister is -/
def MT (V : mV) (D : Nat → Nat → Nat) (nS nR nP : Nat) : Prop := V 12 0 = nI nS ∧ V 12 1 = nI nR ∧ V 12 2 = nI nP ∧ nS ≤ 8 ∧ nR ≤ 10 ∧ nP ≤ 8 ∧
  (∀ r, r < nR → V (1000 * 18 + r) 0 = nI (D 0 r) ∧ V (1000 * 18 + r) 1 = nI (D 1 r) ∧ V (1000 * 18 + r) 2 = nI (D 2 r) ∧ D 0 r < nS ∧ D 1 r < 6 ∧ 1 ≤ D 2 r ∧ D 2 r ≤ 30) ∧
  (∀ p, p < nP → V (1000 * 20 + p) 0 = nI (D 3 p) ∧ V (1000 * 20 + p) 1 = nI (D 4 p) ∧ D 3 p < 6 ∧ 1 ≤ D 4 p ∧ D 4 p ≤ 99) ∧ (∀ s, s < nS → V 14 s = nI (D 5 s) ∧ D 5 s ≤ 15)
def kpd (R : Nat → Int32) (r : Nat) : Bool := decide (¬ R (16 + r) = -1)
def kpS (D : Nat → Nat → Nat) (R : Nat → Int32) (s r : Nat) : Bool := decide (D 0 r = s) && kpd R r
section
variable {E : jE} {d : Nat} {h : jH} {am : Nat → Nat} {V : mV} {D : Nat → Nat → Nat} {nS nR nP k : Nat}
theorem c_isKept (hI : InvM am V h) (hk : mlen k = 45) (r : Nat) (hr : r < 10) : Ct E d 0 0 mX11_isKept [vR (nMa am k), vI (nI r)] h (qR (some (vI (bI (kpd (V k) r)))) h) := by
  refine ct_of (by decide) (Nat.le_of_ble_eq_true rfl) rfl ?_
  refine g_aload_n (pc := 0) dX11_isKept_0 rfl ?_
  refine g_bipush (pc := 1) (v := 16) dX11_isKept_1 (by decide) ?_
  refine g_iload_n (pc := 3) dX11_isKept_3 rfl ?_
  refine g_iadd (pc := 4) dX11_isKept_4 ?_
  refine g_iaload (pc := 5) dX11_isKept_5 (mA hI k 45 hk (by decide)) (j := 16 + r) (nI_add 16 r) (by omega) (by decide) rfl ?_
  refine g_iconst (pc := 6) (v := -1) dX11_isKept_6 (by decide) ?_
  refine g_icmp_eq (pc := 7) 14 dX11_isKept_7 (by decide) (fun c_7 => ?_) (fun c_7 => ?_)
  · refine g_iconst (pc := 14) (v := 0) dX11_isKept_14 (by decide) ?_
    refine g_ireturn (pc := 15) dX11_isKept_15 rfl (by first | exact rfl | exact j_nb _) ?_
    exact ⟨by simp [kpd, bI, c_7], rfl⟩
  · refine g_iconst (pc := 10) (v := 1) dX11_isKept_10 (by decide) ?_
    refine g_goto (pc := 11) 15 dX11_isKept_11 (by decide) ?_
    refine g_ireturn (pc := 15) dX11_isKept_15 rfl (by first | exact rfl | exact j_nb _) ?_
    exact ⟨by simp [kpd, bI, c_7], rfl⟩
set_option maxHeartbeats 2000000 in
theorem l_keptOf {bc bs : Nat} (hd : 1 ≤ d) (hI : InvM am V h) (hT : MT V D nS nR nP) (hk : mlen k = 45) (s : Nat) (hs8 : s < 8) : ∀ (m r : Nat), nR - r = m → r ≤ nR → G E d bc bs mX11_keptOf 5 [some (vR (nMo am)), some (vR (nMa am k)), some (vI (nI s)), some (vI (bitsI (kpS D (V k) s) r)), some (vI (nI r))] [] h (qR (some (vI (bitsI (kpS D (V k) s) nR))) h) := by
  intro m
  induction m with
  | zero =>
    intro r hm hr
    have e : r = nR := by omega
    subst e
    have h10 := hT.2.2.2.2.1
    refine g_iload (pc := 5) dX11_keptOf_5 rfl ?_
    refine g_aload_n (pc := 7) dX11_keptOf_7 rfl ?_
    refine g_getfield (pc := 8) f_X11_23_11 dX11_keptOf_8 hI.1 mf_12 ?_
    refine g_iconst (pc := 11) (v := 1) dX11_keptOf_11 (by decide) ?_
    refine g_iaload (pc := 12) dX11_keptOf_12 (mA hI 12 3 rfl (by decide)) (j := 1) (by decide) (by omega) (by decide) rfl ?_
    rw [hT.2.1]
    refine g_icmp_ge (pc := 13) 55 dX11_keptOf_13 (by decide) (fun c_13 => ?_) (fun c_13 => absurd (nI_le (Nat.le_refl _) (by omega)) c_13)
    refine g_iload_n (pc := 55) dX11_keptOf_55 rfl ?_
    refine g_ireturn (pc := 56) dX11_keptOf_56 rfl (by first | exact rfl | exact j_nb _) ?_
    exact ⟨rfl, rfl⟩
  | succ m ih =>
    intro r hm hr
    have h10 := hT.2.2.2.2.1
    have h8 := hT.2.2.2.1
    have hrr := hT.2.2.2.2.2.2.1 r (by omega)
    refine g_iload (pc := 5) dX11_keptOf_5 rfl ?_
    refine g_aload_n (pc := 7) dX11_keptOf_7 rfl ?_
    refine g_getfield (pc := 8) f_X11_23_11 dX11_keptOf_8 hI.1 mf_12 ?_
    refine g_iconst (pc := 11) (v := 1) dX11_keptOf_11 (by decide) ?_
    refine g_iaload (pc := 12) dX11_keptOf_12 (mA hI 12 3 rfl (by decide)) (j := 1) (by decide) (by omega) (by decide) rfl ?_
    rw [hT.2.1]
    refine g_icmp_ge (pc := 13) 55 dX11_keptOf_13 (by decide) (fun c_13 => absurd c_13 (by intro w; have := (nI_leI (by omega) (by omega)).mp w; omega)) (fun c_13 => ?_)
    refine g_iload_n (pc := 16) dX11_keptOf_16 rfl ?_
    refine g_aload_n (pc := 17) dX11_keptOf_17 rfl ?_
    refine g_getfield (pc := 18) f_X11_43_11 dX11_keptOf_18 hI.1 mf_18 ?_
    refine g_iload (pc := 21) dX11_keptOf_21 rfl ?_
    refine g_aaload (pc := 23) (t := 5) rfl rfl dX11_keptOf_23 (mG hI 18 10 rfl (by decide)) rfl (by omega) (by decide) rfl ?_
    refine g_iconst (pc := 24) (v := 0) dX11_keptOf_24 (by decide) ?_
    refine g_iaload (pc := 25) dX11_keptOf_25 (mR hI 18 3 _ rfl (by show _ < 10; omega)) (j := 0) (by decide) (by omega) (by decide) rfl ?_
    rw [hrr.1]
    refine g_iload_n (pc := 26) dX11_keptOf_26 rfl ?_
    refine g_icmp_ne (pc := 27) 46 dX11_keptOf_27 (by decide) (fun c_27 => ?_) (fun c_27 => ?_)
    · refine g_iconst (pc := 46) (v := 0) dX11_keptOf_46 (by decide) ?_
      refine g_ior (pc := 47) dX11_keptOf_47 ?_
      refine g_istore_n (pc := 48) (ls' := [_, _, _, _, _]) dX11_keptOf_48 (by decide) rfl rfl ?_
      refine g_iinc (pc := 49) (ls' := [_, _, _, _, _]) dX11_keptOf_49 rfl (by first | exact nI_1 _ | exact rfl) (by decide) rfl rfl ?_
      refine g_goto (pc := 52) 5 dX11_keptOf_52 (by decide) ?_
      have e : bitsI (kpS D (V k) s) (r + 1) = _ := show bitsI (kpS D (V k) s) r ||| (if kpS D (V k) s r = true then bitI r else 0) = _ from by rw [if_neg (by unfold kpS; rw [decide_eq_false (fun w => c_27 (by rw [w]))]; simp)]
      have q := ih (r + 1) (by omega) (by omega)
      rw [e] at q
      exact q
    · refine g_aload_n (pc := 30) dX11_keptOf_30 rfl ?_
      refine g_iload (pc := 31) dX11_keptOf_31 rfl ?_
      refine g_cS (pc := 33) (M' := mX11_isKept) (as := [_, _]) i_X11_267 eX11_isKept dX11_keptOf_33 (c_isKept hI hk r (by omega)) (by omega) rfl rfl (Nat.le_of_ble_eq_true rfl) ?_
      refine g_ifB_eq (pc := 36) 46 dX11_keptOf_36 (by decide) (fun c_36 => ?_) (fun c_36 => ?_)
      · refine g_iconst (pc := 46) (v := 0) dX11_keptOf_46 (by decide) ?_
        refine g_ior (pc := 47) dX11_keptOf_47 ?_
        refine g_istore_n (pc := 48) (ls' := [_, _, _, _, _]) dX11_keptOf_48 (by decide) rfl rfl ?_
        refine g_iinc (pc := 49) (ls' := [_, _, _, _, _]) dX11_keptOf_49 rfl (by first | exact nI_1 _ | exact rfl) (by decide) rfl rfl ?_
        refine g_goto (pc := 52) 5 dX11_keptOf_52 (by decide) ?_
        have e : bitsI (kpS D (V k) s) (r + 1) = _ := show bitsI (kpS D (V k) s) r ||| (if kpS D (V k) s r = true then bitI r else 0) = _ from by rw [if_neg (by unfold kpS; rw [c_36]; simp)]
        have q := ih (r + 1) (by omega) (by omega)
        rw [e] at q
        exact q
      · refine g_iconst (pc := 39) (v := 1) dX11_keptOf_39 (by decide) ?_
        refine g_iload (pc := 40) dX11_keptOf_40 rfl ?_
        refine g_ishl (pc := 42) dX11_keptOf_42 ?_
        refine g_goto (pc := 43) 47 dX11_keptOf_43 (by decide) ?_
        refine g_ior (pc := 47) dX11_keptOf_47 ?_
        refine g_istore_n (pc := 48) (ls' := [_, _, _, _, _]) dX11_keptOf_48 (by decide) rfl rfl ?_
        refine g_iinc (pc := 49) (ls' := [_, _, _, _, _]) dX11_keptOf_49 rfl (by first | exact nI_1 _ | exact rfl) (by decide) rfl rfl ?_
        refine g_goto (pc := 52) 5 dX11_keptOf_52 (by decide) ?_
        have e : bitsI (kpS D (V k) s) (r + 1) = _ := show bitsI (kpS D (V k) s) r ||| (if kpS D (V k) s r = true then bitI r else 0) = _ from by rw [if_pos (by unfold kpS; rw [decide_eq_true ((nI_eq (by omega) (by omega)).mp c_27), c_36]; rfl)]
        have q := ih (r + 1) (by omega) (by omega)
        rw [e] at q
        exact q
theorem c_keptOf (hd : 1 ≤ d) (hI : InvM am V h) (hT : MT V D nS nR nP) (hk : mlen k = 45) (s : Nat) (hs8 : s < 8) : Ct E d 0 0 mX11_keptOf [vR (nMo am), vR (nMa am k), vI (nI s)] h (qR (some (vI (bitsI (kpS D (V k) s) nR))) h) := by
  refine ct_of (by decide) (Nat.le_of_ble_eq_true rfl) rfl ?_
  refine g_iconst (pc := 0) (v := 0) dX11_keptOf_0 (by decide) ?_
  refine g_istore_n (pc := 1) (ls' := [_, _, _, _, _]) dX11_keptOf_1 (by decide) rfl rfl ?_
  refine g_iconst (pc := 2) (v := 0) dX11_keptOf_2 (by decide) ?_
  refine g_istore (pc := 3) (ls' := [_, _, _, _, _]) dX11_keptOf_3 (by decide) rfl rfl ?_
  exact l_keptOf hd hI hT hk s hs8 nR 0 rfl (Nat.zero_le _)
def onesF (b : Int32) : Nat → Int32
  | 0 => 0
  | k + 1 => onesF b k + ((b >>> (nI k &&& 31)) &&& 1)
theorem l_ones {bc bs : Nat} (b : Int32) : ∀ (m r : Nat), 10 - r = m → r ≤ 10 → G E d bc bs mX11_ones 4 [some (vI b), some (vI (onesF b r)), some (vI (nI r))] [] h (qR (some (vI (onesF b 10))) h) := by
  intro m
  induction m with
  | zero =>
    intro r hm hr
    have e : r = 10 := by omega
    subst e
    refine g_iload_n (pc := 4) dX11_ones_4 rfl ?_
    refine g_bipush (pc := 5) (v := 10) dX11_ones_5 (by decide) ?_
    refine g_icmp_ge (pc := 7) 24 dX11_ones_7 (by decide) (fun c_7 => ?_) (fun c_7 => absurd (by decide) c_7)
    refine g_iload_n (pc := 24) dX11_ones_24 rfl ?_
    refine g_ireturn (pc := 25) dX11_ones_25 rfl (by first | exact rfl | exact j_nb _) ?_
    exact ⟨rfl, rfl⟩
  | succ m ih =>
    intro r hm hr
    refine g_iload_n (pc := 4) dX11_ones_4 rfl ?_
    refine g_bipush (pc := 5) (v := 10) dX11_ones_5 (by decide) ?_
    refine g_icmp_ge (pc := 7) 24 dX11_ones_7 (by decide) (fun c_7 => absurd c_7 (by intro w; have := (nI_leI (a := 10) (by decide) (by omega)).mp w; omega)) (fun c_7 => ?_)
    refine g_iload_n (pc := 10) dX11_ones_10 rfl ?_
    refine g_iload_n (pc := 11) dX11_ones_11 rfl ?_
    refine g_iload_n (pc := 12) dX11_ones_12 rfl ?_
    refine g_ishr (pc := 13) dX11_ones_13 ?_
    refine g_iconst (pc := 14) (v := 1) dX11_ones_14 (by decide) ?_
    refine g_iand (pc := 15) dX11_ones_15 ?_
    refine g_iadd (pc := 16) dX11_ones_16 ?_
    refine g_istore_n (pc := 17) (ls' := [_, _, _]) dX11_ones_17 (by decide) rfl rfl ?_
    refine g_iinc (pc := 18) (ls' := [_, _, _]) dX11_ones_18 rfl (by first | exact nI_1 _ | exact rfl) (by decide) rfl rfl ?_
    refine g_goto (pc := 21) 4 dX11_ones_21 (by decide) ?_
    exact ih (r + 1) (by omega) (by omega)
theorem c_ones (b : Int32) : Ct E d 0 0 mX11_ones [vI b] h (qR (some (vI (onesF b 10))) h) := by
  refine ct_of (by decide) (Nat.le_of_ble_eq_true rfl) rfl ?_
  refine g_iconst (pc := 0) (v := 0) dX11_ones_0 (by decide) ?_
  refine g_istore_n (pc := 1) (ls' := [_, _, _]) dX11_ones_1 (by decide) rfl rfl ?_
  refine g_iconst (pc := 2) (v := 0) dX11_ones_2 (by decide) ?_
  refine g_istore_n (pc := 3) (ls' := [_, _, _]) dX11_ones_3 (by decide) rfl rfl ?_
  exact l_ones b 10 0 rfl (by decide)
def byI (how u v : Int32) : Int32 := if how = 2 then u + v else if how = 3 then u - v else if how = 4 then u * v else if how = 5 then (if v = 0 then 0 else if v = -1 then -u else u / v) else if how = 6 then (if v = 0 ∨ v = -1 then 0 else u - u / v * v) else if how = 7 then lessI u v else moreI u v
set_option maxHeartbeats 2000000 in
theorem c_by (how u v : Int32) (hh : how = 2 ∨ how = 3 ∨ how = 4 ∨ how = 5 ∨ how = 6 ∨ how = 7 ∨ how = 8) (hd : 1 ≤ d) : Ct E d 0 0 mX11_by [vI how, vI u, vI v] h (qR (some (vI (byI how u v))) h) := by
  refine ct_of (by decide) (Nat.le_of_ble_eq_true rfl) rfl ?_
  rcases hh with rfl | rfl | rfl | rfl | rfl | rfl | rfl
  · refine g_iload_n (pc := 0) dX11_by_0 rfl ?_
    refine g_tableIn (pc := 1) 40 dX11_by_1 (by decide) (by decide) rfl (by decide) ?_
    refine g_iload_n (pc := 40) dX11_by_40 rfl ?_
    refine g_iload_n (pc := 41) dX11_by_41 rfl ?_
    refine g_iadd (pc := 42) dX11_by_42 ?_
    refine g_ireturn (pc := 43) dX11_by_43 rfl (by first | exact rfl | exact j_nb _) ?_
    first | exact ⟨rfl, rfl⟩ | exact ⟨by simp [byI, *], rfl⟩
  · refine g_iload_n (pc := 0) dX11_by_0 rfl ?_
    refine g_tableIn (pc := 1) 44 dX11_by_1 (by decide) (by decide) rfl (by decide) ?_
    refine g_iload_n (pc := 44) dX11_by_44 rfl ?_
    refine g_iload_n (pc := 45) dX11_by_45 rfl ?_
    refine g_isub (pc := 46) dX11_by_46 ?_
    refine g_ireturn (pc := 47) dX11_by_47 rfl (by first | exact rfl | exact j_nb _) ?_
    first | exact ⟨rfl, rfl⟩ | exact ⟨by simp [byI, *], rfl⟩
  · refine g_iload_n (pc := 0) dX11_by_0 rfl ?_
    refine g_tableIn (pc := 1) 48 dX11_by_1 (by decide) (by decide) rfl (by decide) ?_
    refine g_iload_n (pc := 48) dX11_by_48 rfl ?_
    refine g_iload_n (pc := 49) dX11_by_49 rfl ?_
    refine g_imul (pc := 50) dX11_by_50 ?_
    refine g_ireturn (pc := 51) dX11_by_51 rfl (by first | exact rfl | exact j_nb _) ?_
    first | exact ⟨rfl, rfl⟩ | exact ⟨by simp [byI, *], rfl⟩
  · refine g_iload_n (pc := 0) dX11_by_0 rfl ?_
    refine g_tableIn (pc := 1) 52 dX11_by_1 (by decide) (by decide) rfl (by decide) ?_
    refine g_iload_n (pc := 52) dX11_by_52 rfl ?_
    refine g_if_ne (pc := 53) 60 dX11_by_53 (by decide) (fun c_53 => ?_) (fun c_53 => ?_)
    · refine g_iload_n (pc := 60) dX11_by_60 rfl ?_
      refine g_iconst (pc := 61) (v := -1) dX11_by_61 (by decide) ?_
      refine g_icmp_ne (pc := 62) 70 dX11_by_62 (by decide) (fun c_62 => ?_) (fun c_62 => ?_)
      · refine g_iload_n (pc := 70) dX11_by_70 rfl ?_
        refine g_iload_n (pc := 71) dX11_by_71 rfl ?_
        refine g_idiv (pc := 72) dX11_by_72 c_53 ?_
        refine g_ireturn (pc := 73) dX11_by_73 rfl (by first | exact rfl | exact j_nb _) ?_
        first | exact ⟨rfl, rfl⟩ | exact ⟨by simp [byI, *], rfl⟩
      · refine g_iload_n (pc := 65) dX11_by_65 rfl ?_
        refine g_ineg (pc := 66) dX11_by_66 ?_
        refine g_goto (pc := 67) 73 dX11_by_67 (by decide) ?_
        refine g_ireturn (pc := 73) dX11_by_73 rfl (by first | exact rfl | exact j_nb _) ?_
        first | exact ⟨rfl, rfl⟩ | exact ⟨by simp [byI, *], rfl⟩
    · refine g_iconst (pc := 56) (v := 0) dX11_by_56 (by decide) ?_
      refine g_goto (pc := 57) 73 dX11_by_57 (by decide) ?_
      refine g_ireturn (pc := 73) dX11_by_73 rfl (by first | exact rfl | exact j_nb _) ?_
      first | exact ⟨rfl, rfl⟩ | exact ⟨by simp [byI, *], rfl⟩
  · refine g_iload_n (pc := 0) dX11_by_0 rfl ?_
    refine g_tableIn (pc := 1) 74 dX11_by_1 (by decide) (by decide) rfl (by decide) ?_
    refine g_iload_n (pc := 74) dX11_by_74 rfl ?_
    refine g_if_eq (pc := 75) 83 dX11_by_75 (by decide) (fun c_75 => ?_) (fun c_75 => ?_)
    · refine g_iconst (pc := 83) (v := 0) dX11_by_83 (by decide) ?_
      refine g_goto (pc := 84) 90 dX11_by_84 (by decide) ?_
      refine g_ireturn (pc := 90) dX11_by_90 rfl (by first | exact rfl | exact j_nb _) ?_
      first | exact ⟨rfl, rfl⟩ | exact ⟨by simp [byI, *], rfl⟩
    · refine g_iload_n (pc := 78) dX11_by_78 rfl ?_
      refine g_iconst (pc := 79) (v := -1) dX11_by_79 (by decide) ?_
      refine g_icmp_ne (pc := 80) 87 dX11_by_80 (by decide) (fun c_80 => ?_) (fun c_80 => ?_)
      · refine g_iload_n (pc := 87) dX11_by_87 rfl ?_
        refine g_iload_n (pc := 88) dX11_by_88 rfl ?_
        refine g_irem (pc := 89) dX11_by_89 c_75 ?_
        refine g_ireturn (pc := 90) dX11_by_90 rfl (by first | exact rfl | exact j_nb _) ?_
        first | exact ⟨rfl, rfl⟩ | exact ⟨by simp [byI, *], rfl⟩
      · refine g_iconst (pc := 83) (v := 0) dX11_by_83 (by decide) ?_
        refine g_goto (pc := 84) 90 dX11_by_84 (by decide) ?_
        refine g_ireturn (pc := 90) dX11_by_90 rfl (by first | exact rfl | exact j_nb _) ?_
        first | exact ⟨rfl, rfl⟩ | exact ⟨by simp [byI, *], rfl⟩
  · refine g_iload_n (pc := 0) dX11_by_0 rfl ?_
    refine g_tableIn (pc := 1) 91 dX11_by_1 (by decide) (by decide) rfl (by decide) ?_
    refine g_iload_n (pc := 91) dX11_by_91 rfl ?_
    refine g_iload_n (pc := 92) dX11_by_92 rfl ?_
    refine g_cS (pc := 93) (M' := mX11_less) (as := [_, _]) i_X11_245 eX11_less dX11_by_93 (c_less _ _) (by omega) rfl rfl (Nat.le_of_ble_eq_true rfl) ?_
    refine g_ireturn (pc := 96) dX11_by_96 rfl (by first | exact rfl | exact j_nb _) ?_
    first | exact ⟨rfl, rfl⟩ | exact ⟨by simp [byI, *], rfl⟩
  · refine g_iload_n (pc := 0) dX11_by_0 rfl ?_
    refine g_tableOut (pc := 1) 97 dX11_by_1 (by decide) (by decide) ?_
    refine g_iload_n (pc := 97) dX11_by_97 rfl ?_
    refine g_iload_n (pc := 98) dX11_by_98 rfl ?_
    refine g_cS (pc := 99) (M' := mX11_more) (as := [_, _]) i_X11_248 eX11_more dX11_by_99 (c_more _ _) (by omega) rfl rfl (Nat.le_of_ble_eq_true rfl) ?_
    refine g_ireturn (pc := 102) dX11_by_102 rfl (by first | exact rfl | exact j_nb _) ?_
    first | exact ⟨rfl, rfl⟩ | exact ⟨by simp [byI, *], rfl⟩
/-- the codes run, from an empty stack; the stack from its bottom -/
def evL (c : Nat → Nat → Int32) (f : Nat → Int32) : Nat → List Int32
  | 0 => []
  | k + 1 => if c k 0 < 2 then evL c f k ++ [if c k 0 = 0 then c k 1 else f (c k 1).toNatClampNeg] else (evL c f k).take ((evL c f k).length - 2) ++ [byI (c k 0) ((evL c f k).getD ((evL c f k).length - 2) 0) ((evL c f k).getD ((evL c f k).length - 1) 0)]
/-- codes that can be run -/
def okC (c : Nat → Nat → Int32) (L : Nat) : Prop := L ≤ 160 ∧ ∀ k, k < L → (c k 0 = 0 ∨ (c k 0 = 1 ∧ ∃ j, j < 8 ∧ c k 1 = nI j) ∨ ((c k 0 = 2 ∨ c k 0 = 3 ∨ c k 0 = 4 ∨ c k 0 = 5 ∨ c k 0 = 6 ∨ c k 0 = 7 ∨ c k 0 = 8) ∧ ∀ f, 2 ≤ (evL c f k).length))
def clampI (v : Int32) : Int32 := lessI 99 (moreI 0 v)
def lawI (c : Nat → Nat → Int32) (L : Nat) (f : Nat → Int32) : Int32 := if L = 0 then f 0 + f 1 - 2 * f 2 else (evL c f L).getD 0 0
theorem evL_len (c : Nat → Nat → Int32) (f : Nat → Int32) : ∀ k, (evL c f k).length ≤ k
  | 0 => Nat.le_refl _
  | k + 1 => by
    have := evL_len c f k
    unfold evL
    by_cases q : c k 0 < 2
    · rw [if_pos q]; simp; omega
    · rw [if_neg q]; simp; omega
theorem evL_pos (c : Nat → Nat → Int32) (f : Nat → Int32) (k : Nat) : 1 ≤ (evL c f (k + 1)).length := by
  unfold evL
  by_cases q : c k 0 < 2
  · rw [if_pos q]; simp
  · rw [if_neg q]; simp
end
