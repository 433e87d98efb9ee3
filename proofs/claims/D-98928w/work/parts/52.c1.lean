/-! THE COMPONENT: lists, leaves. Printed by m_c1.py -/
set_option maxRecDepth 100000

theorem liL.obj {h : jH} {l e : jN} {n : Nat} {x : Nat → jN} (k : liL h l e n x) : h l = some (oO 33 [vI k.choose, vR e, vI (nI n)]) := k.choose_spec.choose_spec.choose_spec.1
section
variable {E : jE} {d : Nat} {h : jH} {ac : Nat → Nat} {W : mV} {g : HD} {F : (Nat → Int32) → Int32}
theorem k_size {l e : jN} {n : Nat} {x : Nat → jN} (hl : liL h l e n x) : Ct E d 0 0 mJ2_size [vR l] h (qR (some (vI (nI n))) h) := by
  refine ct_of (by decide) (Nat.le_of_ble_eq_true rfl) rfl ?_
  obtain ⟨mc, cap, f, q1, q2, q3, q4, q5⟩ := hl
  refine g_aload_n (pc := 0) dJ2_size_0 rfl ?_
  refine g_getfield (pc := 1) f_J2_48_33 dJ2_size_1 q1 rfl ?_
  refine g_ireturn (pc := 4) dJ2_size_4 rfl (by first | exact rfl | exact j_nb _) ?_
  exact ⟨rfl, rfl⟩
theorem k_chk14 {j n : Nat} (hj : j < n) (hn : n < 2 ^ 31) : Ct E d 0 0 mJ14_checkIndex [vI (nI j), vI (nI n), vN] h (qR (some (vI (nI j))) h) := by
  refine ct_of (by decide) (Nat.le_of_ble_eq_true rfl) rfl ?_
  refine g_iload_n (pc := 0) dJ14_checkIndex_0 rfl ?_
  refine g_if_lt (pc := 1) 9 dJ14_checkIndex_1 (by decide) (fun c_1 => absurd c_1 (nI_pos (by omega))) (fun c_1 => ?_)
  refine g_iload_n (pc := 4) dJ14_checkIndex_4 rfl ?_
  refine g_iload_n (pc := 5) dJ14_checkIndex_5 rfl ?_
  refine g_icmp_lt (pc := 6) 16 dJ14_checkIndex_6 (by decide) (fun c_6 => ?_) (fun c_6 => absurd (nI_lt hj hn) c_6)
  refine g_iload_n (pc := 16) dJ14_checkIndex_16 rfl ?_
  refine g_ireturn (pc := 17) dJ14_checkIndex_17 rfl (by first | exact rfl | exact j_nb _) ?_
  exact ⟨rfl, rfl⟩
theorem k_chk17 {j n : Nat} (hd : 1 ≤ d) (hj : j < n) (hn : n < 2 ^ 31) : Ct E d 0 0 mJ17_checkIndex [vI (nI j), vI (nI n)] h (qR (some (vI (nI j))) h) := by
  refine ct_of (by decide) (Nat.le_of_ble_eq_true rfl) rfl ?_
  refine g_iload_n (pc := 0) dJ17_checkIndex_0 rfl ?_
  refine g_iload_n (pc := 1) dJ17_checkIndex_1 rfl ?_
  refine g_null (pc := 2) dJ17_checkIndex_2 ?_
  refine g_cS (pc := 3) (M' := mJ14_checkIndex) (as := [_, _, _]) i_J17_105 eJ14_checkIndex dJ17_checkIndex_3 (k_chk14 hj hn) (by omega) rfl rfl (Nat.le_of_ble_eq_true rfl) ?_
  refine g_ireturn (pc := 6) dJ17_checkIndex_6 rfl (by first | exact rfl | exact j_nb _) ?_
  exact ⟨rfl, rfl⟩
theorem k_elem {l e : jN} {n j : Nat} {x : Nat → jN} (hl : liL h l e n x) (hj : j < n) : Ct E d 0 0 mJ2_elementData [vR l, vI (nI j)] h (qR (some (vR (x j))) h) := by
  refine ct_of (by decide) (Nat.le_of_ble_eq_true rfl) rfl ?_
  obtain ⟨mc, cap, f, q1, q2, q3, q4, q5⟩ := hl
  refine g_aload_n (pc := 0) dJ2_elementData_0 rfl ?_
  refine g_getfield (pc := 1) f_J2_9_33 dJ2_elementData_1 q1 rfl ?_
  refine g_iload_n (pc := 4) dJ2_elementData_4 rfl ?_
  refine g_aaload (pc := 5) (t := 3) rfl rfl dJ2_elementData_5 q2 (j := j) rfl (by omega) (by first | decide | omega) (by rw [q5 j hj]) ?_
  refine g_areturn (pc := 6) dJ2_elementData_6 rfl (by first | exact Or.inl ⟨_, rfl⟩ | exact Or.inr ⟨_, rfl⟩) ?_
  exact ⟨rfl, rfl⟩
theorem k_get {l e : jN} {n j : Nat} {x : Nat → jN} (hd : 2 ≤ d) (hl : liL h l e n x) (hj : j < n) : Ct E d 0 0 mJ2_get [vR l, vI (nI j)] h (qR (some (vR (x j))) h) := by
  refine ct_of (by decide) (Nat.le_of_ble_eq_true rfl) rfl ?_
  obtain ⟨mc, cap, f, q1, q2, q3, q4, q5⟩ := id hl
  refine g_iload_n (pc := 0) dJ2_get_0 rfl ?_
  refine g_aload_n (pc := 1) dJ2_get_1 rfl ?_
  refine g_getfield (pc := 2) f_J2_48_33 dJ2_get_2 q1 rfl ?_
  refine g_cS (pc := 5) (M' := mJ17_checkIndex) (as := [_, _]) i_J2_118 eJ17_checkIndex dJ2_get_5 (k_chk17 (by omega) hj (by omega)) (by omega) rfl rfl (Nat.le_of_ble_eq_true rfl) ?_
  refine g_pop (pc := 8) dJ2_get_8 rfl ?_
  refine g_aload_n (pc := 9) dJ2_get_9 rfl ?_
  refine g_iload_n (pc := 10) dJ2_get_10 rfl ?_
  refine g_cV (pc := 11) (M' := mJ2_elementData) (as := [_]) (ci := 33) rfl i_J2_123_33 eJ2_elementData dJ2_get_11 q1 (k_elem hl hj) (by omega) rfl rfl (Nat.le_of_ble_eq_true rfl) ?_
  refine g_areturn (pc := 14) dJ2_get_14 rfl (by first | exact Or.inl ⟨_, rfl⟩ | exact Or.inr ⟨_, rfl⟩) ?_
  exact ⟨rfl, rfl⟩
theorem k_max (a b : Int32) : Ct E d 0 0 mJ12_max [vI a, vI b] h (qR (some (vI (if a < b then b else a))) h) := by
  refine ct_ofF (by decide +kernel) (Nat.le_of_ble_eq_true rfl) rfl ?_
  refine g_iload_n (pc := 0) dJ12_max_0 rfl ?_
  refine g_iload_n (pc := 1) dJ12_max_1 rfl ?_
  refine g_icmp_lt (pc := 2) 9 dJ12_max_2 (by decide) (fun c_2 => ?_) (fun c_2 => ?_)
  · refine g_iload_n (pc := 9) dJ12_max_9 rfl ?_
    refine g_ireturn (pc := 10) dJ12_max_10 rfl (by first | exact rfl | exact j_nb _) ?_
    exact ⟨by rw [if_pos c_2], rfl⟩
  · refine g_iload_n (pc := 5) dJ12_max_5 rfl ?_
    refine g_goto (pc := 6) 10 dJ12_max_6 (by decide) ?_
    refine g_ireturn (pc := 10) dJ12_max_10 rfl (by first | exact rfl | exact j_nb _) ?_
    exact ⟨by rw [if_neg c_2], rfl⟩
theorem k_min (a b : Int32) : Ct E d 0 0 mJ12_min [vI a, vI b] h (qR (some (vI (if b < a then b else a))) h) := by
  refine ct_ofF (by decide +kernel) (Nat.le_of_ble_eq_true rfl) rfl ?_
  refine g_iload_n (pc := 0) dJ12_min_0 rfl ?_
  refine g_iload_n (pc := 1) dJ12_min_1 rfl ?_
  refine g_icmp_gt (pc := 2) 9 dJ12_min_2 (by decide) (fun c_2 => ?_) (fun c_2 => ?_)
  · refine g_iload_n (pc := 9) dJ12_min_9 rfl ?_
    refine g_ireturn (pc := 10) dJ12_min_10 rfl (by first | exact rfl | exact j_nb _) ?_
    exact ⟨by rw [if_pos c_2], rfl⟩
  · refine g_iload_n (pc := 5) dJ12_min_5 rfl ?_
    refine g_goto (pc := 6) 10 dJ12_min_6 (by decide) ?_
    refine g_ireturn (pc := 10) dJ12_min_10 rfl (by first | exact rfl | exact j_nb _) ?_
    exact ⟨by rw [if_neg c_2], rfl⟩
theorem k_has (b k : Int32) : Ct E d 0 0 mX1_has [vI b, vI k] h (qR (some (vI (bI (hasI b k)))) h) := by
  refine ct_of (by decide) (Nat.le_of_ble_eq_true rfl) rfl ?_
  refine g_iload_n (pc := 0) dX1_has_0 rfl ?_
  refine g_iload_n (pc := 1) dX1_has_1 rfl ?_
  refine g_ishr (pc := 2) dX1_has_2 ?_
  refine g_iconst (pc := 3) (v := 1) dX1_has_3 (by decide) ?_
  refine g_iand (pc := 4) dX1_has_4 ?_
  refine g_iconst (pc := 5) (v := 1) dX1_has_5 (by decide) ?_
  refine g_icmp_ne (pc := 6) 13 dX1_has_6 (by decide) (fun c_6 => ?_) (fun c_6 => ?_)
  · refine g_iconst (pc := 13) (v := 0) dX1_has_13 (by decide) ?_
    refine g_ireturn (pc := 14) dX1_has_14 rfl (by first | exact rfl | exact j_nb _) ?_
    exact ⟨by unfold hasI; rw [decide_eq_false c_6]; rfl, rfl⟩
  · refine g_iconst (pc := 9) (v := 1) dX1_has_9 (by decide) ?_
    refine g_goto (pc := 10) 14 dX1_has_10 (by decide) ?_
    refine g_ireturn (pc := 14) dX1_has_14 rfl (by first | exact rfl | exact j_nb _) ?_
    exact ⟨by unfold hasI; rw [decide_eq_true c_6]; rfl, rfl⟩
theorem k_isPart (a : Int32) : Ct E d 0 0 mX1_isPart [vI a] h (qR (some (vI (bI (decide (a = 0 ∨ a = 1))))) h) := by
  refine ct_of (by decide) (Nat.le_of_ble_eq_true rfl) rfl ?_
  refine g_iload_n (pc := 0) dX1_isPart_0 rfl ?_
  refine g_if_eq (pc := 1) 9 dX1_isPart_1 (by decide) (fun c_1 => ?_) (fun c_1 => ?_)
  · refine g_iconst (pc := 9) (v := 1) dX1_isPart_9 (by decide) ?_
    refine g_goto (pc := 10) 14 dX1_isPart_10 (by decide) ?_
    refine g_ireturn (pc := 14) dX1_isPart_14 rfl (by first | exact rfl | exact j_nb _) ?_
    exact ⟨by rw [decide_eq_true (Or.inl c_1)]; rfl, rfl⟩
  · refine g_iload_n (pc := 4) dX1_isPart_4 rfl ?_
    refine g_iconst (pc := 5) (v := 1) dX1_isPart_5 (by decide) ?_
    refine g_icmp_ne (pc := 6) 13 dX1_isPart_6 (by decide) (fun c_6 => ?_) (fun c_6 => ?_)
    · refine g_iconst (pc := 13) (v := 0) dX1_isPart_13 (by decide) ?_
      refine g_ireturn (pc := 14) dX1_isPart_14 rfl (by first | exact rfl | exact j_nb _) ?_
      exact ⟨by rw [decide_eq_false (fun w => w.elim c_1 c_6)]; rfl, rfl⟩
    · refine g_iconst (pc := 9) (v := 1) dX1_isPart_9 (by decide) ?_
      refine g_goto (pc := 10) 14 dX1_isPart_10 (by decide) ?_
      refine g_ireturn (pc := 14) dX1_isPart_14 rfl (by first | exact rfl | exact j_nb _) ?_
      exact ⟨by rw [decide_eq_true (Or.inr c_6)]; rfl, rfl⟩
theorem k_isIn (a b c : Int32) : Ct E d 0 0 mX1_isIn [vI a, vI b, vI c] h (qR (some (vI (bI (inR a b c)))) h) := by
  refine ct_of (by decide) (Nat.le_of_ble_eq_true rfl) rfl ?_
  refine g_iload_n (pc := 0) dX1_isIn_0 rfl ?_
  refine g_iload_n (pc := 1) dX1_isIn_1 rfl ?_
  refine g_icmp_lt (pc := 2) 14 dX1_isIn_2 (by decide) (fun c_2 => ?_) (fun c_2 => ?_)
  · refine g_iconst (pc := 14) (v := 0) dX1_isIn_14 (by decide) ?_
    refine g_ireturn (pc := 15) dX1_isIn_15 rfl (by first | exact rfl | exact j_nb _) ?_
    exact ⟨by unfold inR; simp [c_2, bI], rfl⟩
  · refine g_iload_n (pc := 5) dX1_isIn_5 rfl ?_
    refine g_iload_n (pc := 6) dX1_isIn_6 rfl ?_
    refine g_icmp_gt (pc := 7) 14 dX1_isIn_7 (by decide) (fun c_7 => ?_) (fun c_7 => ?_)
    · refine g_iconst (pc := 14) (v := 0) dX1_isIn_14 (by decide) ?_
      refine g_ireturn (pc := 15) dX1_isIn_15 rfl (by first | exact rfl | exact j_nb _) ?_
      exact ⟨by unfold inR; simp [c_2, c_7, bI], rfl⟩
    · refine g_iconst (pc := 10) (v := 1) dX1_isIn_10 (by decide) ?_
      refine g_goto (pc := 11) 15 dX1_isIn_11 (by decide) ?_
      refine g_ireturn (pc := 15) dX1_isIn_15 rfl (by first | exact rfl | exact j_nb _) ?_
      exact ⟨by unfold inR; simp [c_2, c_7, bI], rfl⟩
theorem k_relics (hd : 1 ≤ d) (hI : InvC ac W g F h) : Ct E d 0 0 mX1_relics [vR (nC ac 1)] h (qR (some (vI (nI (gR g)))) h) := by
  refine ct_of (by decide) (Nat.le_of_ble_eq_true rfl) rfl ?_
  refine g_aload_n (pc := 0) dX1_relics_0 rfl ?_
  refine g_getfield (pc := 1) f_X1_31_1 dX1_relics_1 hI.1 rfl ?_
  refine g_getfield (pc := 4) f_X1_116_2 dX1_relics_4 hI.2.2.2.2.1.1.choose_spec rfl ?_
  refine g_cV (pc := 7) (M' := mJ2_size) (as := []) (ci := 33) rfl i_X1_120_33 eJ2_size dX1_relics_7 hI.2.2.2.2.1.2.2.2.1.obj (k_size hI.2.2.2.2.1.2.2.2.1) (by omega) rfl rfl (Nat.le_of_ble_eq_true rfl) ?_
  refine g_ireturn (pc := 10) dX1_relics_10 rfl (by first | exact rfl | exact j_nb _) ?_
  exact ⟨rfl, rfl⟩
theorem k_pilgrims (hd : 1 ≤ d) (hI : InvC ac W g F h) : Ct E d 0 0 mX1_pilgrims [vR (nC ac 1)] h (qR (some (vI (nI (gP g)))) h) := by
  refine ct_of (by decide) (Nat.le_of_ble_eq_true rfl) rfl ?_
  refine g_aload_n (pc := 0) dX1_pilgrims_0 rfl ?_
  refine g_getfield (pc := 1) f_X1_31_1 dX1_pilgrims_1 hI.1 rfl ?_
  refine g_getfield (pc := 4) f_X1_126_2 dX1_pilgrims_4 hI.2.2.2.2.1.1.choose_spec rfl ?_
  refine g_cV (pc := 7) (M' := mJ2_size) (as := []) (ci := 33) rfl i_X1_120_33 eJ2_size dX1_pilgrims_7 hI.2.2.2.2.1.2.2.2.2.1.obj (k_size hI.2.2.2.2.1.2.2.2.2.1) (by omega) rfl rfl (Nat.le_of_ble_eq_true rfl) ?_
  refine g_ireturn (pc := 10) dX1_pilgrims_10 rfl (by first | exact rfl | exact j_nb _) ?_
  exact ⟨rfl, rfl⟩
theorem k_relicOf (hd : 3 ≤ d) (hI : InvC ac W g F h) (r : Nat) (hr : r < gR g) : Ct E d 0 0 mX1_relicOf [vR (nC ac 1), vI (nI r)] h (qR (some (vR (nC ac (60 + r)))) h) := by
  refine ct_of (by decide) (Nat.le_of_ble_eq_true rfl) rfl ?_
  refine g_aload_n (pc := 0) dX1_relicOf_0 rfl ?_
  refine g_getfield (pc := 1) f_X1_31_1 dX1_relicOf_1 hI.1 rfl ?_
  refine g_getfield (pc := 4) f_X1_116_2 dX1_relicOf_4 hI.2.2.2.2.1.1.choose_spec rfl ?_
  refine g_iload_n (pc := 7) dX1_relicOf_7 rfl ?_
  refine g_cV (pc := 8) (M' := mJ2_get) (as := [_]) (ci := 33) rfl i_X1_129_33 eJ2_get dX1_relicOf_8 hI.2.2.2.2.1.2.2.2.1.obj (k_get (by omega) hI.2.2.2.2.1.2.2.2.1 hr) (by omega) rfl rfl (Nat.le_of_ble_eq_true rfl) ?_
  refine g_castE (pc := 11) (ci := 15) rfl q787 dX1_relicOf_11 (hI.2.2.2.2.1.2.2.2.2.2.1 r hr) ?_
  refine g_areturn (pc := 14) dX1_relicOf_14 rfl (by first | exact Or.inl ⟨_, rfl⟩ | exact Or.inr ⟨_, rfl⟩) ?_
  exact ⟨rfl, rfl⟩
theorem k_pilgrimOf (hd : 3 ≤ d) (hI : InvC ac W g F h) (r : Nat) (hr : r < gP g) : Ct E d 0 0 mX1_pilgrimOf [vR (nC ac 1), vI (nI r)] h (qR (some (vR (nC ac (70 + r)))) h) := by
  refine ct_of (by decide) (Nat.le_of_ble_eq_true rfl) rfl ?_
  refine g_aload_n (pc := 0) dX1_pilgrimOf_0 rfl ?_
  refine g_getfield (pc := 1) f_X1_31_1 dX1_pilgrimOf_1 hI.1 rfl ?_
  refine g_getfield (pc := 4) f_X1_126_2 dX1_pilgrimOf_4 hI.2.2.2.2.1.1.choose_spec rfl ?_
  refine g_iload_n (pc := 7) dX1_pilgrimOf_7 rfl ?_
  refine g_cV (pc := 8) (M' := mJ2_get) (as := [_]) (ci := 33) rfl i_X1_129_33 eJ2_get dX1_pilgrimOf_8 hI.2.2.2.2.1.2.2.2.2.1.obj (k_get (by omega) hI.2.2.2.2.1.2.2.2.2.1 hr) (by omega) rfl rfl (Nat.le_of_ble_eq_true rfl) ?_
  refine g_castE (pc := 11) (ci := 16) rfl q837 dX1_pilgrimOf_11 (hI.2.2.2.2.1.2.2.2.2.2.2.1 r hr) ?_
  refine g_areturn (pc := 14) dX1_pilgrimOf_14 rfl (by first | exact Or.inl ⟨_, rfl⟩ | exact Or.inr ⟨_, rfl⟩) ?_
  exact ⟨rfl, rfl⟩
end
