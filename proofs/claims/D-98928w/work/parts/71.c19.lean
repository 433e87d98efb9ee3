/-! THE COMPONENT: constructors. Printed by m_c19.py -/
set_option maxRecDepth 100000
section
variable {E : jE} {d : Nat} {h : jH} {ac : Nat → Nat} {W : mV} {g : HD} {F : (Nat → Int32) → Int32}
theorem k_Term {x : jN} (hd : 1 ≤ d) : Ct E d 0 0 mX3_init [vR x] h (qR none h) := by
  refine ct_of (by decide) (Nat.le_of_ble_eq_true rfl) rfl ?_
  refine g_aload_n (pc := 0) dX3_init_0 rfl ?_
  refine g_obj (pc := 1) q558 dX3_init_1 (by omega) (Nat.le_of_ble_eq_true rfl) ?_
  refine g_return (pc := 4) dX3_init_4 rfl ?_
  exact ⟨rfl, rfl⟩
theorem k_Step {x : jN} (hd : 1 ≤ d) : Ct E d 0 0 mX23_init [vR x] h (qR none h) := by
  refine ct_of (by decide) (Nat.le_of_ble_eq_true rfl) rfl ?_
  refine g_aload_n (pc := 0) dX23_init_0 rfl ?_
  refine g_obj (pc := 1) q1484 dX23_init_1 (by omega) (Nat.le_of_ble_eq_true rfl) ?_
  refine g_return (pc := 4) dX23_init_4 rfl ?_
  exact ⟨rfl, rfl⟩
theorem k_Act {x : jN} (hd : 2 ≤ d) : Ct E d 0 0 mX24_init [vR x] h (qR none h) := by
  refine ct_of (by decide) (Nat.le_of_ble_eq_true rfl) rfl ?_
  refine g_aload_n (pc := 0) dX24_init_0 rfl ?_
  refine g_cIv (pc := 1) (M' := mX23_init) (as := []) i_X24_1 eX23_init dX24_init_1 (k_Step (by omega)) (by omega) rfl rfl (Nat.le_of_ble_eq_true rfl) ?_
  refine g_return (pc := 4) dX24_init_4 rfl ?_
  exact ⟨rfl, rfl⟩
theorem k_J0 {x : jN} (hd : 1 ≤ d) : Ct E d 0 0 mJ0_init [vR x] h (qR none h) := by
  refine ct_of (by decide) (Nat.le_of_ble_eq_true rfl) rfl ?_
  refine g_aload_n (pc := 0) dJ0_init_0 rfl ?_
  refine g_obj (pc := 1) q178 dJ0_init_1 (by omega) (Nat.le_of_ble_eq_true rfl) ?_
  refine g_return (pc := 4) dJ0_init_4 rfl ?_
  exact ⟨rfl, rfl⟩
set_option maxHeartbeats 2000000 in
theorem k_Fact {x : jN} (hd : 4 ≤ d) (hro : x.1 ≠ 0) (fx : h x = some (oO 7 [vI 0])) (v : Int32) : Ct E d 0 0 mX7_init [vR x, vI v] h (iP h x (oO 7 [vI v])) := by
  refine ct_of (by decide) (Nat.le_of_ble_eq_true rfl) rfl ?_
  obtain ⟨h0, hh0⟩ : ∃ h0, h0 = h := ⟨_, rfl⟩
  have fx0 : h0 x = some (oO 7 [vI 0]) := by rw [hh0]; exact fx
  rw [← hh0]
  change G E d 0 0 mX7_init 0 _ [] h0 (iP h0 x (oO 7 [vI v]))
  clear fx hh0
  obtain ⟨h, hh1⟩ : ∃ h, h = h0 := ⟨_, rfl⟩
  have fx : h x = some (oO 7 [vI 0]) := by rw [hh1]; exact fx0
  have O1 : ∀ y, y ≠ x → h y = h0 y := by rw [hh1]; exact fun _ _ => rfl
  suffices hsuf : G E d 0 0 mX7_init 0 _ [] h (iP h0 x (oO 7 [vI v])) by rw [hh1] at hsuf; exact hsuf
  clear hh1
  refine g_aload_n (pc := 0) dX7_init_0 rfl ?_
  refine g_cIv (pc := 1) (M' := mX3_init) (as := []) i_X7_1 eX3_init dX7_init_1 (k_Term (by omega)) (by omega) rfl rfl (Nat.le_of_ble_eq_true rfl) ?_
  refine g_aload_n (pc := 4) dX7_init_4 rfl ?_
  refine g_iload_n (pc := 5) dX7_init_5 rfl ?_
  refine n_putF (pc := 6) w_X7_7_7 dX7_init_6 fx (Nat.le_of_ble_eq_true rfl) hro (j_fit_int _) rfl rfl (fun h q9 o9 => ?_)
  replace fx := q9
  replace O1 := fun y hy => (o9 y hy).trans (O1 y hy)
  refine g_return (pc := 9) dX7_init_9 rfl ?_
  exact ⟨rfl, fx, O1⟩
set_option maxHeartbeats 2000000 in
theorem k_Plain {x : jN} (hd : 4 ≤ d) (hro : x.1 ≠ 0) (fx : h x = some (oO 9 [vI 0])) (v : Int32) : Ct E d 0 0 mX9_init [vR x, vI v] h (iP h x (oO 9 [vI v])) := by
  refine ct_of (by decide) (Nat.le_of_ble_eq_true rfl) rfl ?_
  obtain ⟨h0, hh0⟩ : ∃ h0, h0 = h := ⟨_, rfl⟩
  have fx0 : h0 x = some (oO 9 [vI 0]) := by rw [hh0]; exact fx
  rw [← hh0]
  change G E d 0 0 mX9_init 0 _ [] h0 (iP h0 x (oO 9 [vI v]))
  clear fx hh0
  obtain ⟨h, hh1⟩ : ∃ h, h = h0 := ⟨_, rfl⟩
  have fx : h x = some (oO 9 [vI 0]) := by rw [hh1]; exact fx0
  have O1 : ∀ y, y ≠ x → h y = h0 y := by rw [hh1]; exact fun _ _ => rfl
  suffices hsuf : G E d 0 0 mX9_init 0 _ [] h (iP h0 x (oO 9 [vI v])) by rw [hh1] at hsuf; exact hsuf
  clear hh1
  refine g_aload_n (pc := 0) dX9_init_0 rfl ?_
  refine g_cIv (pc := 1) (M' := mX3_init) (as := []) i_X9_1 eX3_init dX9_init_1 (k_Term (by omega)) (by omega) rfl rfl (Nat.le_of_ble_eq_true rfl) ?_
  refine g_aload_n (pc := 4) dX9_init_4 rfl ?_
  refine g_iload_n (pc := 5) dX9_init_5 rfl ?_
  refine n_putF (pc := 6) w_X9_7_9 dX9_init_6 fx (Nat.le_of_ble_eq_true rfl) hro (j_fit_int _) rfl rfl (fun h q9 o9 => ?_)
  replace fx := q9
  replace O1 := fun y hy => (o9 y hy).trans (O1 y hy)
  refine g_return (pc := 9) dX9_init_9 rfl ?_
  exact ⟨rfl, fx, O1⟩
set_option maxHeartbeats 2000000 in
theorem k_Two5 {x : jN} (hd : 2 ≤ d) (hro : x.1 ≠ 0) (fx : h x = some (oO 5 [vN, vN])) (a b : jN) : Ct E d 0 0 mX4_init [vR x, vR a, vR b] h (iP h x (oO 5 [vR a, vR b])) := by
  refine ct_of (by decide) (Nat.le_of_ble_eq_true rfl) rfl ?_
  obtain ⟨h0, hh0⟩ : ∃ h0, h0 = h := ⟨_, rfl⟩
  have fx0 : h0 x = some (oO 5 [vN, vN]) := by rw [hh0]; exact fx
  rw [← hh0]
  change G E d 0 0 mX4_init 0 _ [] h0 (iP h0 x (oO 5 [vR a, vR b]))
  clear fx hh0
  obtain ⟨h, hh1⟩ : ∃ h, h = h0 := ⟨_, rfl⟩
  have fx : h x = some (oO 5 [vN, vN]) := by rw [hh1]; exact fx0
  have O1 : ∀ y, y ≠ x → h y = h0 y := by rw [hh1]; exact fun _ _ => rfl
  suffices hsuf : G E d 0 0 mX4_init 0 _ [] h (iP h0 x (oO 5 [vR a, vR b])) by rw [hh1] at hsuf; exact hsuf
  clear hh1
  refine g_aload_n (pc := 0) dX4_init_0 rfl ?_
  refine g_cIv (pc := 1) (M' := mX3_init) (as := []) i_X4_1 eX3_init dX4_init_1 (k_Term (by omega)) (by omega) rfl rfl (Nat.le_of_ble_eq_true rfl) ?_
  refine g_aload_n (pc := 4) dX4_init_4 rfl ?_
  refine g_aload_n (pc := 5) dX4_init_5 rfl ?_
  refine n_putF (pc := 6) w_X4_7_5 dX4_init_6 fx (Nat.le_of_ble_eq_true rfl) hro (j_fit_obj _ _) rfl rfl (fun h q9 o9 => ?_)
  replace fx := q9
  replace O1 := fun y hy => (o9 y hy).trans (O1 y hy)
  refine g_aload_n (pc := 9) dX4_init_9 rfl ?_
  refine g_aload_n (pc := 10) dX4_init_10 rfl ?_
  refine n_putF (pc := 11) w_X4_13_5 dX4_init_11 fx (Nat.le_of_ble_eq_true rfl) hro (j_fit_obj _ _) rfl rfl (fun h q9 o9 => ?_)
  replace fx := q9
  replace O1 := fun y hy => (o9 y hy).trans (O1 y hy)
  refine g_return (pc := 14) dX4_init_14 rfl ?_
  exact ⟨rfl, fx, O1⟩
set_option maxHeartbeats 2000000 in
theorem k_T5 {x : jN} (hd : 4 ≤ d) (hro : x.1 ≠ 0) (fx : h x = some (oO 5 [vN, vN])) (a b : jN) : Ct E d 0 0 mX5_init [vR x, vR a, vR b] h (iP h x (oO 5 [vR a, vR b])) := by
  refine ct_of (by decide) (Nat.le_of_ble_eq_true rfl) rfl ?_
  obtain ⟨h0, hh0⟩ : ∃ h0, h0 = h := ⟨_, rfl⟩
  have fx0 : h0 x = some (oO 5 [vN, vN]) := by rw [hh0]; exact fx
  rw [← hh0]
  change G E d 0 0 mX5_init 0 _ [] h0 (iP h0 x (oO 5 [vR a, vR b]))
  clear fx hh0
  obtain ⟨h, hh1⟩ : ∃ h, h = h0 := ⟨_, rfl⟩
  have fx : h x = some (oO 5 [vN, vN]) := by rw [hh1]; exact fx0
  have O1 : ∀ y, y ≠ x → h y = h0 y := by rw [hh1]; exact fun _ _ => rfl
  suffices hsuf : G E d 0 0 mX5_init 0 _ [] h (iP h0 x (oO 5 [vR a, vR b])) by rw [hh1] at hsuf; exact hsuf
  clear hh1
  refine g_aload_n (pc := 0) dX5_init_0 rfl ?_
  refine g_aload_n (pc := 1) dX5_init_1 rfl ?_
  refine g_aload_n (pc := 2) dX5_init_2 rfl ?_
  refine n_init (pc := 3) (M' := mX4_init) (as := [_, _]) i_X5_1 eX4_init dX5_init_3 (k_Two5 (by omega) hro fx a b) (by omega) rfl rfl (Nat.le_of_ble_eq_true rfl) (fun h q9 o9 => ?_)
  replace fx := q9
  replace O1 := fun y hy => (o9 y hy).trans (O1 y hy)
  refine g_return (pc := 6) dX5_init_6 rfl ?_
  exact ⟨rfl, fx, O1⟩
set_option maxHeartbeats 2000000 in
theorem k_Two6 {x : jN} (hd : 2 ≤ d) (hro : x.1 ≠ 0) (fx : h x = some (oO 6 [vN, vN])) (a b : jN) : Ct E d 0 0 mX4_init [vR x, vR a, vR b] h (iP h x (oO 6 [vR a, vR b])) := by
  refine ct_of (by decide) (Nat.le_of_ble_eq_true rfl) rfl ?_
  obtain ⟨h0, hh0⟩ : ∃ h0, h0 = h := ⟨_, rfl⟩
  have fx0 : h0 x = some (oO 6 [vN, vN]) := by rw [hh0]; exact fx
  rw [← hh0]
  change G E d 0 0 mX4_init 0 _ [] h0 (iP h0 x (oO 6 [vR a, vR b]))
  clear fx hh0
  obtain ⟨h, hh1⟩ : ∃ h, h = h0 := ⟨_, rfl⟩
  have fx : h x = some (oO 6 [vN, vN]) := by rw [hh1]; exact fx0
  have O1 : ∀ y, y ≠ x → h y = h0 y := by rw [hh1]; exact fun _ _ => rfl
  suffices hsuf : G E d 0 0 mX4_init 0 _ [] h (iP h0 x (oO 6 [vR a, vR b])) by rw [hh1] at hsuf; exact hsuf
  clear hh1
  refine g_aload_n (pc := 0) dX4_init_0 rfl ?_
  refine g_cIv (pc := 1) (M' := mX3_init) (as := []) i_X4_1 eX3_init dX4_init_1 (k_Term (by omega)) (by omega) rfl rfl (Nat.le_of_ble_eq_true rfl) ?_
  refine g_aload_n (pc := 4) dX4_init_4 rfl ?_
  refine g_aload_n (pc := 5) dX4_init_5 rfl ?_
  refine n_putF (pc := 6) w_X4_7_6 dX4_init_6 fx (Nat.le_of_ble_eq_true rfl) hro (j_fit_obj _ _) rfl rfl (fun h q9 o9 => ?_)
  replace fx := q9
  replace O1 := fun y hy => (o9 y hy).trans (O1 y hy)
  refine g_aload_n (pc := 9) dX4_init_9 rfl ?_
  refine g_aload_n (pc := 10) dX4_init_10 rfl ?_
  refine n_putF (pc := 11) w_X4_13_6 dX4_init_11 fx (Nat.le_of_ble_eq_true rfl) hro (j_fit_obj _ _) rfl rfl (fun h q9 o9 => ?_)
  replace fx := q9
  replace O1 := fun y hy => (o9 y hy).trans (O1 y hy)
  refine g_return (pc := 14) dX4_init_14 rfl ?_
  exact ⟨rfl, fx, O1⟩
set_option maxHeartbeats 2000000 in
theorem k_T6 {x : jN} (hd : 4 ≤ d) (hro : x.1 ≠ 0) (fx : h x = some (oO 6 [vN, vN])) (a b : jN) : Ct E d 0 0 mX6_init [vR x, vR a, vR b] h (iP h x (oO 6 [vR a, vR b])) := by
  refine ct_of (by decide) (Nat.le_of_ble_eq_true rfl) rfl ?_
  obtain ⟨h0, hh0⟩ : ∃ h0, h0 = h := ⟨_, rfl⟩
  have fx0 : h0 x = some (oO 6 [vN, vN]) := by rw [hh0]; exact fx
  rw [← hh0]
  change G E d 0 0 mX6_init 0 _ [] h0 (iP h0 x (oO 6 [vR a, vR b]))
  clear fx hh0
  obtain ⟨h, hh1⟩ : ∃ h, h = h0 := ⟨_, rfl⟩
  have fx : h x = some (oO 6 [vN, vN]) := by rw [hh1]; exact fx0
  have O1 : ∀ y, y ≠ x → h y = h0 y := by rw [hh1]; exact fun _ _ => rfl
  suffices hsuf : G E d 0 0 mX6_init 0 _ [] h (iP h0 x (oO 6 [vR a, vR b])) by rw [hh1] at hsuf; exact hsuf
  clear hh1
  refine g_aload_n (pc := 0) dX6_init_0 rfl ?_
  refine g_aload_n (pc := 1) dX6_init_1 rfl ?_
  refine g_aload_n (pc := 2) dX6_init_2 rfl ?_
  refine n_init (pc := 3) (M' := mX4_init) (as := [_, _]) i_X6_1 eX4_init dX6_init_3 (k_Two6 (by omega) hro fx a b) (by omega) rfl rfl (Nat.le_of_ble_eq_true rfl) (fun h q9 o9 => ?_)
  replace fx := q9
  replace O1 := fun y hy => (o9 y hy).trans (O1 y hy)
  refine g_return (pc := 6) dX6_init_6 rfl ?_
  exact ⟨rfl, fx, O1⟩
set_option maxHeartbeats 2000000 in
theorem k_Two8 {x : jN} (hd : 2 ≤ d) (hro : x.1 ≠ 0) (fx : h x = some (oO 8 [vN, vN])) (a b : jN) : Ct E d 0 0 mX4_init [vR x, vR a, vR b] h (iP h x (oO 8 [vR a, vR b])) := by
  refine ct_of (by decide) (Nat.le_of_ble_eq_true rfl) rfl ?_
  obtain ⟨h0, hh0⟩ : ∃ h0, h0 = h := ⟨_, rfl⟩
  have fx0 : h0 x = some (oO 8 [vN, vN]) := by rw [hh0]; exact fx
  rw [← hh0]
  change G E d 0 0 mX4_init 0 _ [] h0 (iP h0 x (oO 8 [vR a, vR b]))
  clear fx hh0
  obtain ⟨h, hh1⟩ : ∃ h, h = h0 := ⟨_, rfl⟩
  have fx : h x = some (oO 8 [vN, vN]) := by rw [hh1]; exact fx0
  have O1 : ∀ y, y ≠ x → h y = h0 y := by rw [hh1]; exact fun _ _ => rfl
  suffices hsuf : G E d 0 0 mX4_init 0 _ [] h (iP h0 x (oO 8 [vR a, vR b])) by rw [hh1] at hsuf; exact hsuf
  clear hh1
  refine g_aload_n (pc := 0) dX4_init_0 rfl ?_
  refine g_cIv (pc := 1) (M' := mX3_init) (as := []) i_X4_1 eX3_init dX4_init_1 (k_Term (by omega)) (by omega) rfl rfl (Nat.le_of_ble_eq_true rfl) ?_
  refine g_aload_n (pc := 4) dX4_init_4 rfl ?_
  refine g_aload_n (pc := 5) dX4_init_5 rfl ?_
  refine n_putF (pc := 6) w_X4_7_8 dX4_init_6 fx (Nat.le_of_ble_eq_true rfl) hro (j_fit_obj _ _) rfl rfl (fun h q9 o9 => ?_)
  replace fx := q9
  replace O1 := fun y hy => (o9 y hy).trans (O1 y hy)
  refine g_aload_n (pc := 9) dX4_init_9 rfl ?_
  refine g_aload_n (pc := 10) dX4_init_10 rfl ?_
  refine n_putF (pc := 11) w_X4_13_8 dX4_init_11 fx (Nat.le_of_ble_eq_true rfl) hro (j_fit_obj _ _) rfl rfl (fun h q9 o9 => ?_)
  replace fx := q9
  replace O1 := fun y hy => (o9 y hy).trans (O1 y hy)
  refine g_return (pc := 14) dX4_init_14 rfl ?_
  exact ⟨rfl, fx, O1⟩
set_option maxHeartbeats 2000000 in
theorem k_T8 {x : jN} (hd : 4 ≤ d) (hro : x.1 ≠ 0) (fx : h x = some (oO 8 [vN, vN])) (a b : jN) : Ct E d 0 0 mX8_init [vR x, vR a, vR b] h (iP h x (oO 8 [vR a, vR b])) := by
  refine ct_of (by decide) (Nat.le_of_ble_eq_true rfl) rfl ?_
  obtain ⟨h0, hh0⟩ : ∃ h0, h0 = h := ⟨_, rfl⟩
  have fx0 : h0 x = some (oO 8 [vN, vN]) := by rw [hh0]; exact fx
  rw [← hh0]
  change G E d 0 0 mX8_init 0 _ [] h0 (iP h0 x (oO 8 [vR a, vR b]))
  clear fx hh0
  obtain ⟨h, hh1⟩ : ∃ h, h = h0 := ⟨_, rfl⟩
  have fx : h x = some (oO 8 [vN, vN]) := by rw [hh1]; exact fx0
  have O1 : ∀ y, y ≠ x → h y = h0 y := by rw [hh1]; exact fun _ _ => rfl
  suffices hsuf : G E d 0 0 mX8_init 0 _ [] h (iP h0 x (oO 8 [vR a, vR b])) by rw [hh1] at hsuf; exact hsuf
  clear hh1
  refine g_aload_n (pc := 0) dX8_init_0 rfl ?_
  refine g_aload_n (pc := 1) dX8_init_1 rfl ?_
  refine g_aload_n (pc := 2) dX8_init_2 rfl ?_
  refine n_init (pc := 3) (M' := mX4_init) (as := [_, _]) i_X8_1 eX4_init dX8_init_3 (k_Two8 (by omega) hro fx a b) (by omega) rfl rfl (Nat.le_of_ble_eq_true rfl) (fun h q9 o9 => ?_)
  replace fx := q9
  replace O1 := fun y hy => (o9 y hy).trans (O1 y hy)
  refine g_return (pc := 6) dX8_init_6 rfl ?_
  exact ⟨rfl, fx, O1⟩
set_option maxHeartbeats 2000000 in
theorem k_Two18 {x : jN} (hd : 2 ≤ d) (hro : x.1 ≠ 0) (fx : h x = some (oO 18 [vN, vN])) (a b : jN) : Ct E d 0 0 mX4_init [vR x, vR a, vR b] h (iP h x (oO 18 [vR a, vR b])) := by
  refine ct_of (by decide) (Nat.le_of_ble_eq_true rfl) rfl ?_
  obtain ⟨h0, hh0⟩ : ∃ h0, h0 = h := ⟨_, rfl⟩
  have fx0 : h0 x = some (oO 18 [vN, vN]) := by rw [hh0]; exact fx
  rw [← hh0]
  change G E d 0 0 mX4_init 0 _ [] h0 (iP h0 x (oO 18 [vR a, vR b]))
  clear fx hh0
  obtain ⟨h, hh1⟩ : ∃ h, h = h0 := ⟨_, rfl⟩
  have fx : h x = some (oO 18 [vN, vN]) := by rw [hh1]; exact fx0
  have O1 : ∀ y, y ≠ x → h y = h0 y := by rw [hh1]; exact fun _ _ => rfl
  suffices hsuf : G E d 0 0 mX4_init 0 _ [] h (iP h0 x (oO 18 [vR a, vR b])) by rw [hh1] at hsuf; exact hsuf
  clear hh1
  refine g_aload_n (pc := 0) dX4_init_0 rfl ?_
  refine g_cIv (pc := 1) (M' := mX3_init) (as := []) i_X4_1 eX3_init dX4_init_1 (k_Term (by omega)) (by omega) rfl rfl (Nat.le_of_ble_eq_true rfl) ?_
  refine g_aload_n (pc := 4) dX4_init_4 rfl ?_
  refine g_aload_n (pc := 5) dX4_init_5 rfl ?_
  refine n_putF (pc := 6) w_X4_7_18 dX4_init_6 fx (Nat.le_of_ble_eq_true rfl) hro (j_fit_obj _ _) rfl rfl (fun h q9 o9 => ?_)
  replace fx := q9
  replace O1 := fun y hy => (o9 y hy).trans (O1 y hy)
  refine g_aload_n (pc := 9) dX4_init_9 rfl ?_
  refine g_aload_n (pc := 10) dX4_init_10 rfl ?_
  refine n_putF (pc := 11) w_X4_13_18 dX4_init_11 fx (Nat.le_of_ble_eq_true rfl) hro (j_fit_obj _ _) rfl rfl (fun h q9 o9 => ?_)
  replace fx := q9
  replace O1 := fun y hy => (o9 y hy).trans (O1 y hy)
  refine g_return (pc := 14) dX4_init_14 rfl ?_
  exact ⟨rfl, fx, O1⟩
set_option maxHeartbeats 2000000 in
theorem k_T18 {x : jN} (hd : 4 ≤ d) (hro : x.1 ≠ 0) (fx : h x = some (oO 18 [vN, vN])) (a b : jN) : Ct E d 0 0 mX18_init [vR x, vR a, vR b] h (iP h x (oO 18 [vR a, vR b])) := by
  refine ct_of (by decide) (Nat.le_of_ble_eq_true rfl) rfl ?_
  obtain ⟨h0, hh0⟩ : ∃ h0, h0 = h := ⟨_, rfl⟩
  have fx0 : h0 x = some (oO 18 [vN, vN]) := by rw [hh0]; exact fx
  rw [← hh0]
  change G E d 0 0 mX18_init 0 _ [] h0 (iP h0 x (oO 18 [vR a, vR b]))
  clear fx hh0
  obtain ⟨h, hh1⟩ : ∃ h, h = h0 := ⟨_, rfl⟩
  have fx : h x = some (oO 18 [vN, vN]) := by rw [hh1]; exact fx0
  have O1 : ∀ y, y ≠ x → h y = h0 y := by rw [hh1]; exact fun _ _ => rfl
  suffices hsuf : G E d 0 0 mX18_init 0 _ [] h (iP h0 x (oO 18 [vR a, vR b])) by rw [hh1] at hsuf; exact hsuf
  clear hh1
  refine g_aload_n (pc := 0) dX18_init_0 rfl ?_
  refine g_aload_n (pc := 1) dX18_init_1 rfl ?_
  refine g_aload_n (pc := 2) dX18_init_2 rfl ?_
  refine n_init (pc := 3) (M' := mX4_init) (as := [_, _]) i_X18_1 eX4_init dX18_init_3 (k_Two18 (by omega) hro fx a b) (by omega) rfl rfl (Nat.le_of_ble_eq_true rfl) (fun h q9 o9 => ?_)
  replace fx := q9
  replace O1 := fun y hy => (o9 y hy).trans (O1 y hy)
  refine g_return (pc := 6) dX18_init_6 rfl ?_
  exact ⟨rfl, fx, O1⟩
set_option maxHeartbeats 2000000 in
theorem k_Two19 {x : jN} (hd : 2 ≤ d) (hro : x.1 ≠ 0) (fx : h x = some (oO 19 [vN, vN])) (a b : jN) : Ct E d 0 0 mX4_init [vR x, vR a, vR b] h (iP h x (oO 19 [vR a, vR b])) := by
  refine ct_of (by decide) (Nat.le_of_ble_eq_true rfl) rfl ?_
  obtain ⟨h0, hh0⟩ : ∃ h0, h0 = h := ⟨_, rfl⟩
  have fx0 : h0 x = some (oO 19 [vN, vN]) := by rw [hh0]; exact fx
  rw [← hh0]
  change G E d 0 0 mX4_init 0 _ [] h0 (iP h0 x (oO 19 [vR a, vR b]))
  clear fx hh0
  obtain ⟨h, hh1⟩ : ∃ h, h = h0 := ⟨_, rfl⟩
  have fx : h x = some (oO 19 [vN, vN]) := by rw [hh1]; exact fx0
  have O1 : ∀ y, y ≠ x → h y = h0 y := by rw [hh1]; exact fun _ _ => rfl
  suffices hsuf : G E d 0 0 mX4_init 0 _ [] h (iP h0 x (oO 19 [vR a, vR b])) by rw [hh1] at hsuf; exact hsuf
  clear hh1
  refine g_aload_n (pc := 0) dX4_init_0 rfl ?_
  refine g_cIv (pc := 1) (M' := mX3_init) (as := []) i_X4_1 eX3_init dX4_init_1 (k_Term (by omega)) (by omega) rfl rfl (Nat.le_of_ble_eq_true rfl) ?_
  refine g_aload_n (pc := 4) dX4_init_4 rfl ?_
  refine g_aload_n (pc := 5) dX4_init_5 rfl ?_
  refine n_putF (pc := 6) w_X4_7_19 dX4_init_6 fx (Nat.le_of_ble_eq_true rfl) hro (j_fit_obj _ _) rfl rfl (fun h q9 o9 => ?_)
  replace fx := q9
  replace O1 := fun y hy => (o9 y hy).trans (O1 y hy)
  refine g_aload_n (pc := 9) dX4_init_9 rfl ?_
  refine g_aload_n (pc := 10) dX4_init_10 rfl ?_
  refine n_putF (pc := 11) w_X4_13_19 dX4_init_11 fx (Nat.le_of_ble_eq_true rfl) hro (j_fit_obj _ _) rfl rfl (fun h q9 o9 => ?_)
  replace fx := q9
  replace O1 := fun y hy => (o9 y hy).trans (O1 y hy)
  refine g_return (pc := 14) dX4_init_14 rfl ?_
  exact ⟨rfl, fx, O1⟩
set_option maxHeartbeats 2000000 in
theorem k_T19 {x : jN} (hd : 4 ≤ d) (hro : x.1 ≠ 0) (fx : h x = some (oO 19 [vN, vN])) (a b : jN) : Ct E d 0 0 mX19_init [vR x, vR a, vR b] h (iP h x (oO 19 [vR a, vR b])) := by
  refine ct_of (by decide) (Nat.le_of_ble_eq_true rfl) rfl ?_
  obtain ⟨h0, hh0⟩ : ∃ h0, h0 = h := ⟨_, rfl⟩
  have fx0 : h0 x = some (oO 19 [vN, vN]) := by rw [hh0]; exact fx
  rw [← hh0]
  change G E d 0 0 mX19_init 0 _ [] h0 (iP h0 x (oO 19 [vR a, vR b]))
  clear fx hh0
  obtain ⟨h, hh1⟩ : ∃ h, h = h0 := ⟨_, rfl⟩
  have fx : h x = some (oO 19 [vN, vN]) := by rw [hh1]; exact fx0
  have O1 : ∀ y, y ≠ x → h y = h0 y := by rw [hh1]; exact fun _ _ => rfl
  suffices hsuf : G E d 0 0 mX19_init 0 _ [] h (iP h0 x (oO 19 [vR a, vR b])) by rw [hh1] at hsuf; exact hsuf
  clear hh1
  refine g_aload_n (pc := 0) dX19_init_0 rfl ?_
  refine g_aload_n (pc := 1) dX19_init_1 rfl ?_
  refine g_aload_n (pc := 2) dX19_init_2 rfl ?_
  refine n_init (pc := 3) (M' := mX4_init) (as := [_, _]) i_X19_1 eX4_init dX19_init_3 (k_Two19 (by omega) hro fx a b) (by omega) rfl rfl (Nat.le_of_ble_eq_true rfl) (fun h q9 o9 => ?_)
  replace fx := q9
  replace O1 := fun y hy => (o9 y hy).trans (O1 y hy)
  refine g_return (pc := 6) dX19_init_6 rfl ?_
  exact ⟨rfl, fx, O1⟩
set_option maxHeartbeats 2000000 in
theorem k_Two20 {x : jN} (hd : 2 ≤ d) (hro : x.1 ≠ 0) (fx : h x = some (oO 20 [vN, vN])) (a b : jN) : Ct E d 0 0 mX4_init [vR x, vR a, vR b] h (iP h x (oO 20 [vR a, vR b])) := by
  refine ct_of (by decide) (Nat.le_of_ble_eq_true rfl) rfl ?_
  obtain ⟨h0, hh0⟩ : ∃ h0, h0 = h := ⟨_, rfl⟩
  have fx0 : h0 x = some (oO 20 [vN, vN]) := by rw [hh0]; exact fx
  rw [← hh0]
  change G E d 0 0 mX4_init 0 _ [] h0 (iP h0 x (oO 20 [vR a, vR b]))
  clear fx hh0
  obtain ⟨h, hh1⟩ : ∃ h, h = h0 := ⟨_, rfl⟩
  have fx : h x = some (oO 20 [vN, vN]) := by rw [hh1]; exact fx0
  have O1 : ∀ y, y ≠ x → h y = h0 y := by rw [hh1]; exact fun _ _ => rfl
  suffices hsuf : G E d 0 0 mX4_init 0 _ [] h (iP h0 x (oO 20 [vR a, vR b])) by rw [hh1] at hsuf; exact hsuf
  clear hh1
  refine g_aload_n (pc := 0) dX4_init_0 rfl ?_
  refine g_cIv (pc := 1) (M' := mX3_init) (as := []) i_X4_1 eX3_init dX4_init_1 (k_Term (by omega)) (by omega) rfl rfl (Nat.le_of_ble_eq_true rfl) ?_
  refine g_aload_n (pc := 4) dX4_init_4 rfl ?_
  refine g_aload_n (pc := 5) dX4_init_5 rfl ?_
  refine n_putF (pc := 6) w_X4_7_20 dX4_init_6 fx (Nat.le_of_ble_eq_true rfl) hro (j_fit_obj _ _) rfl rfl (fun h q9 o9 => ?_)
  replace fx := q9
  replace O1 := fun y hy => (o9 y hy).trans (O1 y hy)
  refine g_aload_n (pc := 9) dX4_init_9 rfl ?_
  refine g_aload_n (pc := 10) dX4_init_10 rfl ?_
  refine n_putF (pc := 11) w_X4_13_20 dX4_init_11 fx (Nat.le_of_ble_eq_true rfl) hro (j_fit_obj _ _) rfl rfl (fun h q9 o9 => ?_)
  replace fx := q9
  replace O1 := fun y hy => (o9 y hy).trans (O1 y hy)
  refine g_return (pc := 14) dX4_init_14 rfl ?_
  exact ⟨rfl, fx, O1⟩
set_option maxHeartbeats 2000000 in
theorem k_T20 {x : jN} (hd : 4 ≤ d) (hro : x.1 ≠ 0) (fx : h x = some (oO 20 [vN, vN])) (a b : jN) : Ct E d 0 0 mX20_init [vR x, vR a, vR b] h (iP h x (oO 20 [vR a, vR b])) := by
  refine ct_of (by decide) (Nat.le_of_ble_eq_true rfl) rfl ?_
  obtain ⟨h0, hh0⟩ : ∃ h0, h0 = h := ⟨_, rfl⟩
  have fx0 : h0 x = some (oO 20 [vN, vN]) := by rw [hh0]; exact fx
  rw [← hh0]
  change G E d 0 0 mX20_init 0 _ [] h0 (iP h0 x (oO 20 [vR a, vR b]))
  clear fx hh0
  obtain ⟨h, hh1⟩ : ∃ h, h = h0 := ⟨_, rfl⟩
  have fx : h x = some (oO 20 [vN, vN]) := by rw [hh1]; exact fx0
  have O1 : ∀ y, y ≠ x → h y = h0 y := by rw [hh1]; exact fun _ _ => rfl
  suffices hsuf : G E d 0 0 mX20_init 0 _ [] h (iP h0 x (oO 20 [vR a, vR b])) by rw [hh1] at hsuf; exact hsuf
  clear hh1
  refine g_aload_n (pc := 0) dX20_init_0 rfl ?_
  refine g_aload_n (pc := 1) dX20_init_1 rfl ?_
  refine g_aload_n (pc := 2) dX20_init_2 rfl ?_
  refine n_init (pc := 3) (M' := mX4_init) (as := [_, _]) i_X20_1 eX4_init dX20_init_3 (k_Two20 (by omega) hro fx a b) (by omega) rfl rfl (Nat.le_of_ble_eq_true rfl) (fun h q9 o9 => ?_)
  replace fx := q9
  replace O1 := fun y hy => (o9 y hy).trans (O1 y hy)
  refine g_return (pc := 6) dX20_init_6 rfl ?_
  exact ⟨rfl, fx, O1⟩
set_option maxHeartbeats 2000000 in
theorem k_Two21 {x : jN} (hd : 2 ≤ d) (hro : x.1 ≠ 0) (fx : h x = some (oO 21 [vN, vN])) (a b : jN) : Ct E d 0 0 mX4_init [vR x, vR a, vR b] h (iP h x (oO 21 [vR a, vR b])) := by
  refine ct_of (by decide) (Nat.le_of_ble_eq_true rfl) rfl ?_
  obtain ⟨h0, hh0⟩ : ∃ h0, h0 = h := ⟨_, rfl⟩
  have fx0 : h0 x = some (oO 21 [vN, vN]) := by rw [hh0]; exact fx
  rw [← hh0]
  change G E d 0 0 mX4_init 0 _ [] h0 (iP h0 x (oO 21 [vR a, vR b]))
  clear fx hh0
  obtain ⟨h, hh1⟩ : ∃ h, h = h0 := ⟨_, rfl⟩
  have fx : h x = some (oO 21 [vN, vN]) := by rw [hh1]; exact fx0
  have O1 : ∀ y, y ≠ x → h y = h0 y := by rw [hh1]; exact fun _ _ => rfl
  suffices hsuf : G E d 0 0 mX4_init 0 _ [] h (iP h0 x (oO 21 [vR a, vR b])) by rw [hh1] at hsuf; exact hsuf
  clear hh1
  refine g_aload_n (pc := 0) dX4_init_0 rfl ?_
  refine g_cIv (pc := 1) (M' := mX3_init) (as := []) i_X4_1 eX3_init dX4_init_1 (k_Term (by omega)) (by omega) rfl rfl (Nat.le_of_ble_eq_true rfl) ?_
  refine g_aload_n (pc := 4) dX4_init_4 rfl ?_
  refine g_aload_n (pc := 5) dX4_init_5 rfl ?_
  refine n_putF (pc := 6) w_X4_7_21 dX4_init_6 fx (Nat.le_of_ble_eq_true rfl) hro (j_fit_obj _ _) rfl rfl (fun h q9 o9 => ?_)
  replace fx := q9
  replace O1 := fun y hy => (o9 y hy).trans (O1 y hy)
  refine g_aload_n (pc := 9) dX4_init_9 rfl ?_
  refine g_aload_n (pc := 10) dX4_init_10 rfl ?_
  refine n_putF (pc := 11) w_X4_13_21 dX4_init_11 fx (Nat.le_of_ble_eq_true rfl) hro (j_fit_obj _ _) rfl rfl (fun h q9 o9 => ?_)
  replace fx := q9
  replace O1 := fun y hy => (o9 y hy).trans (O1 y hy)
  refine g_return (pc := 14) dX4_init_14 rfl ?_
  exact ⟨rfl, fx, O1⟩
set_option maxHeartbeats 2000000 in
theorem k_T21 {x : jN} (hd : 4 ≤ d) (hro : x.1 ≠ 0) (fx : h x = some (oO 21 [vN, vN])) (a b : jN) : Ct E d 0 0 mX21_init [vR x, vR a, vR b] h (iP h x (oO 21 [vR a, vR b])) := by
  refine ct_of (by decide) (Nat.le_of_ble_eq_true rfl) rfl ?_
  obtain ⟨h0, hh0⟩ : ∃ h0, h0 = h := ⟨_, rfl⟩
  have fx0 : h0 x = some (oO 21 [vN, vN]) := by rw [hh0]; exact fx
  rw [← hh0]
  change G E d 0 0 mX21_init 0 _ [] h0 (iP h0 x (oO 21 [vR a, vR b]))
  clear fx hh0
  obtain ⟨h, hh1⟩ : ∃ h, h = h0 := ⟨_, rfl⟩
  have fx : h x = some (oO 21 [vN, vN]) := by rw [hh1]; exact fx0
  have O1 : ∀ y, y ≠ x → h y = h0 y := by rw [hh1]; exact fun _ _ => rfl
  suffices hsuf : G E d 0 0 mX21_init 0 _ [] h (iP h0 x (oO 21 [vR a, vR b])) by rw [hh1] at hsuf; exact hsuf
  clear hh1
  refine g_aload_n (pc := 0) dX21_init_0 rfl ?_
  refine g_aload_n (pc := 1) dX21_init_1 rfl ?_
  refine g_aload_n (pc := 2) dX21_init_2 rfl ?_
  refine n_init (pc := 3) (M' := mX4_init) (as := [_, _]) i_X21_1 eX4_init dX21_init_3 (k_Two21 (by omega) hro fx a b) (by omega) rfl rfl (Nat.le_of_ble_eq_true rfl) (fun h q9 o9 => ?_)
  replace fx := q9
  replace O1 := fun y hy => (o9 y hy).trans (O1 y hy)
  refine g_return (pc := 6) dX21_init_6 rfl ?_
  exact ⟨rfl, fx, O1⟩
set_option maxHeartbeats 2000000 in
theorem k_Relic {x : jN} (hd : 4 ≤ d) (hro : x.1 ≠ 0) (fx : h x = some (oO 15 [vI 0, vI 0, vI 0])) (a b c : Int32) : Ct E d 0 0 mX15_init [vR x, vI a, vI b, vI c] h (iP h x (oO 15 [vI a, vI b, vI c])) := by
  refine ct_of (by decide) (Nat.le_of_ble_eq_true rfl) rfl ?_
  obtain ⟨h0, hh0⟩ : ∃ h0, h0 = h := ⟨_, rfl⟩
  have fx0 : h0 x = some (oO 15 [vI 0, vI 0, vI 0]) := by rw [hh0]; exact fx
  rw [← hh0]
  change G E d 0 0 mX15_init 0 _ [] h0 (iP h0 x (oO 15 [vI a, vI b, vI c]))
  clear fx hh0
  obtain ⟨h, hh1⟩ : ∃ h, h = h0 := ⟨_, rfl⟩
  have fx : h x = some (oO 15 [vI 0, vI 0, vI 0]) := by rw [hh1]; exact fx0
  have O1 : ∀ y, y ≠ x → h y = h0 y := by rw [hh1]; exact fun _ _ => rfl
  suffices hsuf : G E d 0 0 mX15_init 0 _ [] h (iP h0 x (oO 15 [vI a, vI b, vI c])) by rw [hh1] at hsuf; exact hsuf
  clear hh1
  refine g_aload_n (pc := 0) dX15_init_0 rfl ?_
  refine g_obj (pc := 1) q1180 dX15_init_1 (by omega) (Nat.le_of_ble_eq_true rfl) ?_
  refine g_aload_n (pc := 4) dX15_init_4 rfl ?_
  refine g_iload_n (pc := 5) dX15_init_5 rfl ?_
  refine n_putF (pc := 6) w_X15_7_15 dX15_init_6 fx (Nat.le_of_ble_eq_true rfl) hro (j_fit_int _) rfl rfl (fun h q9 o9 => ?_)
  replace fx := q9
  replace O1 := fun y hy => (o9 y hy).trans (O1 y hy)
  refine g_aload_n (pc := 9) dX15_init_9 rfl ?_
  refine g_iload_n (pc := 10) dX15_init_10 rfl ?_
  refine n_putF (pc := 11) w_X15_13_15 dX15_init_11 fx (Nat.le_of_ble_eq_true rfl) hro (j_fit_int _) rfl rfl (fun h q9 o9 => ?_)
  replace fx := q9
  replace O1 := fun y hy => (o9 y hy).trans (O1 y hy)
  refine g_aload_n (pc := 14) dX15_init_14 rfl ?_
  refine g_iload_n (pc := 15) dX15_init_15 rfl ?_
  refine n_putF (pc := 16) w_X15_16_15 dX15_init_16 fx (Nat.le_of_ble_eq_true rfl) hro (j_fit_int _) rfl rfl (fun h q9 o9 => ?_)
  replace fx := q9
  replace O1 := fun y hy => (o9 y hy).trans (O1 y hy)
  refine g_return (pc := 19) dX15_init_19 rfl ?_
  exact ⟨rfl, fx, O1⟩
set_option maxHeartbeats 2000000 in
theorem k_Pilgrim {x : jN} (hd : 4 ≤ d) (hro : x.1 ≠ 0) (fx : h x = some (oO 16 [vI 0, vI 0])) (a b : Int32) : Ct E d 0 0 mX16_init [vR x, vI a, vI b] h (iP h x (oO 16 [vI a, vI b])) := by
  refine ct_of (by decide) (Nat.le_of_ble_eq_true rfl) rfl ?_
  obtain ⟨h0, hh0⟩ : ∃ h0, h0 = h := ⟨_, rfl⟩
  have fx0 : h0 x = some (oO 16 [vI 0, vI 0]) := by rw [hh0]; exact fx
  rw [← hh0]
  change G E d 0 0 mX16_init 0 _ [] h0 (iP h0 x (oO 16 [vI a, vI b]))
  clear fx hh0
  obtain ⟨h, hh1⟩ : ∃ h, h = h0 := ⟨_, rfl⟩
  have fx : h x = some (oO 16 [vI 0, vI 0]) := by rw [hh1]; exact fx0
  have O1 : ∀ y, y ≠ x → h y = h0 y := by rw [hh1]; exact fun _ _ => rfl
  suffices hsuf : G E d 0 0 mX16_init 0 _ [] h (iP h0 x (oO 16 [vI a, vI b])) by rw [hh1] at hsuf; exact hsuf
  clear hh1
  refine g_aload_n (pc := 0) dX16_init_0 rfl ?_
  refine g_obj (pc := 1) q1268 dX16_init_1 (by omega) (Nat.le_of_ble_eq_true rfl) ?_
  refine g_aload_n (pc := 4) dX16_init_4 rfl ?_
  refine g_iload_n (pc := 5) dX16_init_5 rfl ?_
  refine n_putF (pc := 6) w_X16_7_16 dX16_init_6 fx (Nat.le_of_ble_eq_true rfl) hro (j_fit_int _) rfl rfl (fun h q9 o9 => ?_)
  replace fx := q9
  replace O1 := fun y hy => (o9 y hy).trans (O1 y hy)
  refine g_aload_n (pc := 9) dX16_init_9 rfl ?_
  refine g_iload_n (pc := 10) dX16_init_10 rfl ?_
  refine n_putF (pc := 11) w_X16_13_16 dX16_init_11 fx (Nat.le_of_ble_eq_true rfl) hro (j_fit_int _) rfl rfl (fun h q9 o9 => ?_)
  replace fx := q9
  replace O1 := fun y hy => (o9 y hy).trans (O1 y hy)
  refine g_return (pc := 14) dX16_init_14 rfl ?_
  exact ⟨rfl, fx, O1⟩
set_option maxHeartbeats 2000000 in
theorem k_Gives {x : jN} (hd : 4 ≤ d) (hro : x.1 ≠ 0) (fx : h x = some (oO 25 [vI 0])) (v : Int32) : Ct E d 0 0 mX25_init [vR x, vI v] h (iP h x (oO 25 [vI v])) := by
  refine ct_of (by decide) (Nat.le_of_ble_eq_true rfl) rfl ?_
  obtain ⟨h0, hh0⟩ : ∃ h0, h0 = h := ⟨_, rfl⟩
  have fx0 : h0 x = some (oO 25 [vI 0]) := by rw [hh0]; exact fx
  rw [← hh0]
  change G E d 0 0 mX25_init 0 _ [] h0 (iP h0 x (oO 25 [vI v]))
  clear fx hh0
  obtain ⟨h, hh1⟩ : ∃ h, h = h0 := ⟨_, rfl⟩
  have fx : h x = some (oO 25 [vI 0]) := by rw [hh1]; exact fx0
  have O1 : ∀ y, y ≠ x → h y = h0 y := by rw [hh1]; exact fun _ _ => rfl
  suffices hsuf : G E d 0 0 mX25_init 0 _ [] h (iP h0 x (oO 25 [vI v])) by rw [hh1] at hsuf; exact hsuf
  clear hh1
  refine g_aload_n (pc := 0) dX25_init_0 rfl ?_
  refine g_cIv (pc := 1) (M' := mX24_init) (as := []) i_X25_1 eX24_init dX25_init_1 (k_Act (by omega)) (by omega) rfl rfl (Nat.le_of_ble_eq_true rfl) ?_
  refine g_aload_n (pc := 4) dX25_init_4 rfl ?_
  refine g_iload_n (pc := 5) dX25_init_5 rfl ?_
  refine n_putF (pc := 6) w_X25_7_25 dX25_init_6 fx (Nat.le_of_ble_eq_true rfl) hro (j_fit_int _) rfl rfl (fun h q9 o9 => ?_)
  replace fx := q9
  replace O1 := fun y hy => (o9 y hy).trans (O1 y hy)
  refine g_return (pc := 9) dX25_init_9 rfl ?_
  exact ⟨rfl, fx, O1⟩
set_option maxHeartbeats 2000000 in
theorem k_Backs {x : jN} (hd : 4 ≤ d) (hro : x.1 ≠ 0) (fx : h x = some (oO 26 [vI 0])) (v : Int32) : Ct E d 0 0 mX26_init [vR x, vI v] h (iP h x (oO 26 [vI v])) := by
  refine ct_of (by decide) (Nat.le_of_ble_eq_true rfl) rfl ?_
  obtain ⟨h0, hh0⟩ : ∃ h0, h0 = h := ⟨_, rfl⟩
  have fx0 : h0 x = some (oO 26 [vI 0]) := by rw [hh0]; exact fx
  rw [← hh0]
  change G E d 0 0 mX26_init 0 _ [] h0 (iP h0 x (oO 26 [vI v]))
  clear fx hh0
  obtain ⟨h, hh1⟩ : ∃ h, h = h0 := ⟨_, rfl⟩
  have fx : h x = some (oO 26 [vI 0]) := by rw [hh1]; exact fx0
  have O1 : ∀ y, y ≠ x → h y = h0 y := by rw [hh1]; exact fun _ _ => rfl
  suffices hsuf : G E d 0 0 mX26_init 0 _ [] h (iP h0 x (oO 26 [vI v])) by rw [hh1] at hsuf; exact hsuf
  clear hh1
  refine g_aload_n (pc := 0) dX26_init_0 rfl ?_
  refine g_cIv (pc := 1) (M' := mX24_init) (as := []) i_X26_1 eX24_init dX26_init_1 (k_Act (by omega)) (by omega) rfl rfl (Nat.le_of_ble_eq_true rfl) ?_
  refine g_aload_n (pc := 4) dX26_init_4 rfl ?_
  refine g_iload_n (pc := 5) dX26_init_5 rfl ?_
  refine n_putF (pc := 6) w_X26_7_26 dX26_init_6 fx (Nat.le_of_ble_eq_true rfl) hro (j_fit_int _) rfl rfl (fun h q9 o9 => ?_)
  replace fx := q9
  replace O1 := fun y hy => (o9 y hy).trans (O1 y hy)
  refine g_return (pc := 9) dX26_init_9 rfl ?_
  exact ⟨rfl, fx, O1⟩
set_option maxHeartbeats 2000000 in
theorem k_Lapses {x : jN} (hd : 4 ≤ d) (hro : x.1 ≠ 0) (fx : h x = some (oO 27 [vI 0])) (v : Int32) : Ct E d 0 0 mX27_init [vR x, vI v] h (iP h x (oO 27 [vI v])) := by
  refine ct_of (by decide) (Nat.le_of_ble_eq_true rfl) rfl ?_
  obtain ⟨h0, hh0⟩ : ∃ h0, h0 = h := ⟨_, rfl⟩
  have fx0 : h0 x = some (oO 27 [vI 0]) := by rw [hh0]; exact fx
  rw [← hh0]
  change G E d 0 0 mX27_init 0 _ [] h0 (iP h0 x (oO 27 [vI v]))
  clear fx hh0
  obtain ⟨h, hh1⟩ : ∃ h, h = h0 := ⟨_, rfl⟩
  have fx : h x = some (oO 27 [vI 0]) := by rw [hh1]; exact fx0
  have O1 : ∀ y, y ≠ x → h y = h0 y := by rw [hh1]; exact fun _ _ => rfl
  suffices hsuf : G E d 0 0 mX27_init 0 _ [] h (iP h0 x (oO 27 [vI v])) by rw [hh1] at hsuf; exact hsuf
  clear hh1
  refine g_aload_n (pc := 0) dX27_init_0 rfl ?_
  refine g_cIv (pc := 1) (M' := mX24_init) (as := []) i_X27_1 eX24_init dX27_init_1 (k_Act (by omega)) (by omega) rfl rfl (Nat.le_of_ble_eq_true rfl) ?_
  refine g_aload_n (pc := 4) dX27_init_4 rfl ?_
  refine g_iload_n (pc := 5) dX27_init_5 rfl ?_
  refine n_putF (pc := 6) w_X27_7_27 dX27_init_6 fx (Nat.le_of_ble_eq_true rfl) hro (j_fit_int _) rfl rfl (fun h q9 o9 => ?_)
  replace fx := q9
  replace O1 := fun y hy => (o9 y hy).trans (O1 y hy)
  refine g_return (pc := 9) dX27_init_9 rfl ?_
  exact ⟨rfl, fx, O1⟩
set_option maxHeartbeats 2000000 in
theorem k_Dies {x : jN} (hd : 4 ≤ d) (hro : x.1 ≠ 0) (fx : h x = some (oO 29 [vI 0])) (v : Int32) : Ct E d 0 0 mX29_init [vR x, vI v] h (iP h x (oO 29 [vI v])) := by
  refine ct_of (by decide) (Nat.le_of_ble_eq_true rfl) rfl ?_
  obtain ⟨h0, hh0⟩ : ∃ h0, h0 = h := ⟨_, rfl⟩
  have fx0 : h0 x = some (oO 29 [vI 0]) := by rw [hh0]; exact fx
  rw [← hh0]
  change G E d 0 0 mX29_init 0 _ [] h0 (iP h0 x (oO 29 [vI v]))
  clear fx hh0
  obtain ⟨h, hh1⟩ : ∃ h, h = h0 := ⟨_, rfl⟩
  have fx : h x = some (oO 29 [vI 0]) := by rw [hh1]; exact fx0
  have O1 : ∀ y, y ≠ x → h y = h0 y := by rw [hh1]; exact fun _ _ => rfl
  suffices hsuf : G E d 0 0 mX29_init 0 _ [] h (iP h0 x (oO 29 [vI v])) by rw [hh1] at hsuf; exact hsuf
  clear hh1
  refine g_aload_n (pc := 0) dX29_init_0 rfl ?_
  refine g_cIv (pc := 1) (M' := mX24_init) (as := []) i_X29_1 eX24_init dX29_init_1 (k_Act (by omega)) (by omega) rfl rfl (Nat.le_of_ble_eq_true rfl) ?_
  refine g_aload_n (pc := 4) dX29_init_4 rfl ?_
  refine g_iload_n (pc := 5) dX29_init_5 rfl ?_
  refine n_putF (pc := 6) w_X29_7_29 dX29_init_6 fx (Nat.le_of_ble_eq_true rfl) hro (j_fit_int _) rfl rfl (fun h q9 o9 => ?_)
  replace fx := q9
  replace O1 := fun y hy => (o9 y hy).trans (O1 y hy)
  refine g_return (pc := 9) dX29_init_9 rfl ?_
  exact ⟨rfl, fx, O1⟩
set_option maxHeartbeats 2000000 in
theorem k_Cures {x : jN} (hd : 4 ≤ d) (hro : x.1 ≠ 0) (fx : h x = some (oO 28 [vI 0, vI 0])) (a b : Int32) : Ct E d 0 0 mX28_init [vR x, vI a, vI b] h (iP h x (oO 28 [vI a, vI b])) := by
  refine ct_of (by decide) (Nat.le_of_ble_eq_true rfl) rfl ?_
  obtain ⟨h0, hh0⟩ : ∃ h0, h0 = h := ⟨_, rfl⟩
  have fx0 : h0 x = some (oO 28 [vI 0, vI 0]) := by rw [hh0]; exact fx
  rw [← hh0]
  change G E d 0 0 mX28_init 0 _ [] h0 (iP h0 x (oO 28 [vI a, vI b]))
  clear fx hh0
  obtain ⟨h, hh1⟩ : ∃ h, h = h0 := ⟨_, rfl⟩
  have fx : h x = some (oO 28 [vI 0, vI 0]) := by rw [hh1]; exact fx0
  have O1 : ∀ y, y ≠ x → h y = h0 y := by rw [hh1]; exact fun _ _ => rfl
  suffices hsuf : G E d 0 0 mX28_init 0 _ [] h (iP h0 x (oO 28 [vI a, vI b])) by rw [hh1] at hsuf; exact hsuf
  clear hh1
  refine g_aload_n (pc := 0) dX28_init_0 rfl ?_
  refine g_cIv (pc := 1) (M' := mX24_init) (as := []) i_X28_1 eX24_init dX28_init_1 (k_Act (by omega)) (by omega) rfl rfl (Nat.le_of_ble_eq_true rfl) ?_
  refine g_aload_n (pc := 4) dX28_init_4 rfl ?_
  refine g_iload_n (pc := 5) dX28_init_5 rfl ?_
  refine n_putF (pc := 6) w_X28_7_28 dX28_init_6 fx (Nat.le_of_ble_eq_true rfl) hro (j_fit_int _) rfl rfl (fun h q9 o9 => ?_)
  replace fx := q9
  replace O1 := fun y hy => (o9 y hy).trans (O1 y hy)
  refine g_aload_n (pc := 9) dX28_init_9 rfl ?_
  refine g_iload_n (pc := 10) dX28_init_10 rfl ?_
  refine n_putF (pc := 11) w_X28_13_28 dX28_init_11 fx (Nat.le_of_ble_eq_true rfl) hro (j_fit_int _) rfl rfl (fun h q9 o9 => ?_)
  replace fx := q9
  replace O1 := fun y hy => (o9 y hy).trans (O1 y hy)
  refine g_return (pc := 14) dX28_init_14 rfl ?_
  exact ⟨rfl, fx, O1⟩
theorem k_Next {x : jN} (hd : 4 ≤ d) : Ct E d 0 0 mX30_init [vR x] h (qR none h) := by
  refine ct_of (by decide) (Nat.le_of_ble_eq_true rfl) rfl ?_
  refine g_aload_n (pc := 0) dX30_init_0 rfl ?_
  refine g_cIv (pc := 1) (M' := mX24_init) (as := []) i_X30_1 eX24_init dX30_init_1 (k_Act (by omega)) (by omega) rfl rfl (Nat.le_of_ble_eq_true rfl) ?_
  refine g_return (pc := 4) dX30_init_4 rfl ?_
  exact ⟨rfl, rfl⟩
set_option maxHeartbeats 2000000 in
theorem k_Rd13 {x : jN} (hd : 2 ≤ d) (hro : x.1 ≠ 0) (fx : h x = some (oO 13 [vN, vI 0, vI 0, vI 0, vI 0, vN])) (t : jN) (n : Int32) : Ct E d 0 0 mX12_init [vR x, vR t, vI n] h (iP h x (oO 13 [vR t, vI n, vI 0, vI 0, vI 0, vN])) := by
  refine ct_of (by decide) (Nat.le_of_ble_eq_true rfl) rfl ?_
  obtain ⟨h0, hh0⟩ : ∃ h0, h0 = h := ⟨_, rfl⟩
  have fx0 : h0 x = some (oO 13 [vN, vI 0, vI 0, vI 0, vI 0, vN]) := by rw [hh0]; exact fx
  rw [← hh0]
  change G E d 0 0 mX12_init 0 _ [] h0 (iP h0 x (oO 13 [vR t, vI n, vI 0, vI 0, vI 0, vN]))
  clear fx hh0
  obtain ⟨h, hh1⟩ : ∃ h, h = h0 := ⟨_, rfl⟩
  have fx : h x = some (oO 13 [vN, vI 0, vI 0, vI 0, vI 0, vN]) := by rw [hh1]; exact fx0
  have O1 : ∀ y, y ≠ x → h y = h0 y := by rw [hh1]; exact fun _ _ => rfl
  suffices hsuf : G E d 0 0 mX12_init 0 _ [] h (iP h0 x (oO 13 [vR t, vI n, vI 0, vI 0, vI 0, vN])) by rw [hh1] at hsuf; exact hsuf
  clear hh1
  refine g_aload_n (pc := 0) dX12_init_0 rfl ?_
  refine g_obj (pc := 1) q958 dX12_init_1 (by omega) (Nat.le_of_ble_eq_true rfl) ?_
  refine g_aload_n (pc := 4) dX12_init_4 rfl ?_
  refine g_aload_n (pc := 5) dX12_init_5 rfl ?_
  refine n_putF (pc := 6) w_X12_9_13 dX12_init_6 fx (Nat.le_of_ble_eq_true rfl) hro (j_fit_arr _ _) rfl rfl (fun h q9 o9 => ?_)
  replace fx := q9
  replace O1 := fun y hy => (o9 y hy).trans (O1 y hy)
  refine g_aload_n (pc := 9) dX12_init_9 rfl ?_
  refine g_iload_n (pc := 10) dX12_init_10 rfl ?_
  refine n_putF (pc := 11) w_X12_15_13 dX12_init_11 fx (Nat.le_of_ble_eq_true rfl) hro (j_fit_int _) rfl rfl (fun h q9 o9 => ?_)
  replace fx := q9
  replace O1 := fun y hy => (o9 y hy).trans (O1 y hy)
  refine g_return (pc := 14) dX12_init_14 rfl ?_
  exact ⟨rfl, fx, O1⟩
set_option maxHeartbeats 2000000 in
theorem k_Rd17 {x : jN} (hd : 2 ≤ d) (hro : x.1 ≠ 0) (fx : h x = some (oO 17 [vN, vI 0, vI 0, vI 0, vI 0])) (t : jN) (n : Int32) : Ct E d 0 0 mX12_init [vR x, vR t, vI n] h (iP h x (oO 17 [vR t, vI n, vI 0, vI 0, vI 0])) := by
  refine ct_of (by decide) (Nat.le_of_ble_eq_true rfl) rfl ?_
  obtain ⟨h0, hh0⟩ : ∃ h0, h0 = h := ⟨_, rfl⟩
  have fx0 : h0 x = some (oO 17 [vN, vI 0, vI 0, vI 0, vI 0]) := by rw [hh0]; exact fx
  rw [← hh0]
  change G E d 0 0 mX12_init 0 _ [] h0 (iP h0 x (oO 17 [vR t, vI n, vI 0, vI 0, vI 0]))
  clear fx hh0
  obtain ⟨h, hh1⟩ : ∃ h, h = h0 := ⟨_, rfl⟩
  have fx : h x = some (oO 17 [vN, vI 0, vI 0, vI 0, vI 0]) := by rw [hh1]; exact fx0
  have O1 : ∀ y, y ≠ x → h y = h0 y := by rw [hh1]; exact fun _ _ => rfl
  suffices hsuf : G E d 0 0 mX12_init 0 _ [] h (iP h0 x (oO 17 [vR t, vI n, vI 0, vI 0, vI 0])) by rw [hh1] at hsuf; exact hsuf
  clear hh1
  refine g_aload_n (pc := 0) dX12_init_0 rfl ?_
  refine g_obj (pc := 1) q958 dX12_init_1 (by omega) (Nat.le_of_ble_eq_true rfl) ?_
  refine g_aload_n (pc := 4) dX12_init_4 rfl ?_
  refine g_aload_n (pc := 5) dX12_init_5 rfl ?_
  refine n_putF (pc := 6) w_X12_9_17 dX12_init_6 fx (Nat.le_of_ble_eq_true rfl) hro (j_fit_arr _ _) rfl rfl (fun h q9 o9 => ?_)
  replace fx := q9
  replace O1 := fun y hy => (o9 y hy).trans (O1 y hy)
  refine g_aload_n (pc := 9) dX12_init_9 rfl ?_
  refine g_iload_n (pc := 10) dX12_init_10 rfl ?_
  refine n_putF (pc := 11) w_X12_15_17 dX12_init_11 fx (Nat.le_of_ble_eq_true rfl) hro (j_fit_int _) rfl rfl (fun h q9 o9 => ?_)
  replace fx := q9
  replace O1 := fun y hy => (o9 y hy).trans (O1 y hy)
  refine g_return (pc := 14) dX12_init_14 rfl ?_
  exact ⟨rfl, fx, O1⟩
set_option maxHeartbeats 2000000 in
theorem k_Rd22 {x : jN} (hd : 2 ≤ d) (hro : x.1 ≠ 0) (fx : h x = some (oO 22 [vN, vI 0, vI 0, vI 0, vI 0, vN])) (t : jN) (n : Int32) : Ct E d 0 0 mX12_init [vR x, vR t, vI n] h (iP h x (oO 22 [vR t, vI n, vI 0, vI 0, vI 0, vN])) := by
  refine ct_of (by decide) (Nat.le_of_ble_eq_true rfl) rfl ?_
  obtain ⟨h0, hh0⟩ : ∃ h0, h0 = h := ⟨_, rfl⟩
  have fx0 : h0 x = some (oO 22 [vN, vI 0, vI 0, vI 0, vI 0, vN]) := by rw [hh0]; exact fx
  rw [← hh0]
  change G E d 0 0 mX12_init 0 _ [] h0 (iP h0 x (oO 22 [vR t, vI n, vI 0, vI 0, vI 0, vN]))
  clear fx hh0
  obtain ⟨h, hh1⟩ : ∃ h, h = h0 := ⟨_, rfl⟩
  have fx : h x = some (oO 22 [vN, vI 0, vI 0, vI 0, vI 0, vN]) := by rw [hh1]; exact fx0
  have O1 : ∀ y, y ≠ x → h y = h0 y := by rw [hh1]; exact fun _ _ => rfl
  suffices hsuf : G E d 0 0 mX12_init 0 _ [] h (iP h0 x (oO 22 [vR t, vI n, vI 0, vI 0, vI 0, vN])) by rw [hh1] at hsuf; exact hsuf
  clear hh1
  refine g_aload_n (pc := 0) dX12_init_0 rfl ?_
  refine g_obj (pc := 1) q958 dX12_init_1 (by omega) (Nat.le_of_ble_eq_true rfl) ?_
  refine g_aload_n (pc := 4) dX12_init_4 rfl ?_
  refine g_aload_n (pc := 5) dX12_init_5 rfl ?_
  refine n_putF (pc := 6) w_X12_9_22 dX12_init_6 fx (Nat.le_of_ble_eq_true rfl) hro (j_fit_arr _ _) rfl rfl (fun h q9 o9 => ?_)
  replace fx := q9
  replace O1 := fun y hy => (o9 y hy).trans (O1 y hy)
  refine g_aload_n (pc := 9) dX12_init_9 rfl ?_
  refine g_iload_n (pc := 10) dX12_init_10 rfl ?_
  refine n_putF (pc := 11) w_X12_15_22 dX12_init_11 fx (Nat.le_of_ble_eq_true rfl) hro (j_fit_int _) rfl rfl (fun h q9 o9 => ?_)
  replace fx := q9
  replace O1 := fun y hy => (o9 y hy).trans (O1 y hy)
  refine g_return (pc := 14) dX12_init_14 rfl ?_
  exact ⟨rfl, fx, O1⟩
set_option maxHeartbeats 2000000 in
theorem k_Rd32 {x : jN} (hd : 2 ≤ d) (hro : x.1 ≠ 0) (fx : h x = some (oO 32 [vN, vI 0, vI 0, vI 0, vI 0, vI 0, vN, vI 0])) (t : jN) (n : Int32) : Ct E d 0 0 mX12_init [vR x, vR t, vI n] h (iP h x (oO 32 [vR t, vI n, vI 0, vI 0, vI 0, vI 0, vN, vI 0])) := by
  refine ct_of (by decide) (Nat.le_of_ble_eq_true rfl) rfl ?_
  obtain ⟨h0, hh0⟩ : ∃ h0, h0 = h := ⟨_, rfl⟩
  have fx0 : h0 x = some (oO 32 [vN, vI 0, vI 0, vI 0, vI 0, vI 0, vN, vI 0]) := by rw [hh0]; exact fx
  rw [← hh0]
  change G E d 0 0 mX12_init 0 _ [] h0 (iP h0 x (oO 32 [vR t, vI n, vI 0, vI 0, vI 0, vI 0, vN, vI 0]))
  clear fx hh0
  obtain ⟨h, hh1⟩ : ∃ h, h = h0 := ⟨_, rfl⟩
  have fx : h x = some (oO 32 [vN, vI 0, vI 0, vI 0, vI 0, vI 0, vN, vI 0]) := by rw [hh1]; exact fx0
  have O1 : ∀ y, y ≠ x → h y = h0 y := by rw [hh1]; exact fun _ _ => rfl
  suffices hsuf : G E d 0 0 mX12_init 0 _ [] h (iP h0 x (oO 32 [vR t, vI n, vI 0, vI 0, vI 0, vI 0, vN, vI 0])) by rw [hh1] at hsuf; exact hsuf
  clear hh1
  refine g_aload_n (pc := 0) dX12_init_0 rfl ?_
  refine g_obj (pc := 1) q958 dX12_init_1 (by omega) (Nat.le_of_ble_eq_true rfl) ?_
  refine g_aload_n (pc := 4) dX12_init_4 rfl ?_
  refine g_aload_n (pc := 5) dX12_init_5 rfl ?_
  refine n_putF (pc := 6) w_X12_9_32 dX12_init_6 fx (Nat.le_of_ble_eq_true rfl) hro (j_fit_arr _ _) rfl rfl (fun h q9 o9 => ?_)
  replace fx := q9
  replace O1 := fun y hy => (o9 y hy).trans (O1 y hy)
  refine g_aload_n (pc := 9) dX12_init_9 rfl ?_
  refine g_iload_n (pc := 10) dX12_init_10 rfl ?_
  refine n_putF (pc := 11) w_X12_15_32 dX12_init_11 fx (Nat.le_of_ble_eq_true rfl) hro (j_fit_int _) rfl rfl (fun h q9 o9 => ?_)
  replace fx := q9
  replace O1 := fun y hy => (o9 y hy).trans (O1 y hy)
  refine g_return (pc := 14) dX12_init_14 rfl ?_
  exact ⟨rfl, fx, O1⟩
set_option maxHeartbeats 2000000 in
theorem k_LawReader {x : jN} (hd : 4 ≤ d) (hro : x.1 ≠ 0) (fx : h x = some (oO 17 [vN, vI 0, vI 0, vI 0, vI 0])) (t : jN) (n : Int32) : Ct E d 0 0 mX17_init [vR x, vR t, vI n] h (iP h x (oO 17 [vR t, vI n, vI 0, vI 0, vI 0])) := by
  refine ct_of (by decide) (Nat.le_of_ble_eq_true rfl) rfl ?_
  obtain ⟨h0, hh0⟩ : ∃ h0, h0 = h := ⟨_, rfl⟩
  have fx0 : h0 x = some (oO 17 [vN, vI 0, vI 0, vI 0, vI 0]) := by rw [hh0]; exact fx
  rw [← hh0]
  change G E d 0 0 mX17_init 0 _ [] h0 (iP h0 x (oO 17 [vR t, vI n, vI 0, vI 0, vI 0]))
  clear fx hh0
  obtain ⟨h, hh1⟩ : ∃ h, h = h0 := ⟨_, rfl⟩
  have fx : h x = some (oO 17 [vN, vI 0, vI 0, vI 0, vI 0]) := by rw [hh1]; exact fx0
  have O1 : ∀ y, y ≠ x → h y = h0 y := by rw [hh1]; exact fun _ _ => rfl
  suffices hsuf : G E d 0 0 mX17_init 0 _ [] h (iP h0 x (oO 17 [vR t, vI n, vI 0, vI 0, vI 0])) by rw [hh1] at hsuf; exact hsuf
  clear hh1
  refine g_aload_n (pc := 0) dX17_init_0 rfl ?_
  refine g_aload_n (pc := 1) dX17_init_1 rfl ?_
  refine g_iload_n (pc := 2) dX17_init_2 rfl ?_
  refine n_init (pc := 3) (M' := mX12_init) (as := [_, _]) i_X17_3 eX12_init dX17_init_3 (k_Rd17 (by omega) hro fx t n) (by omega) rfl rfl (Nat.le_of_ble_eq_true rfl) (fun h q9 o9 => ?_)
  replace fx := q9
  replace O1 := fun y hy => (o9 y hy).trans (O1 y hy)
  refine g_return (pc := 6) dX17_init_6 rfl ?_
  exact ⟨rfl, fx, O1⟩
set_option maxHeartbeats 2000000 in
theorem k_WorkReader {x : jN} (hd : 4 ≤ d) (hro : x.1 ≠ 0) (fx : h x = some (oO 22 [vN, vI 0, vI 0, vI 0, vI 0, vN])) (t u : jN) (n : Int32) : Ct E d 0 0 mX22_init [vR x, vR t, vI n, vR u] h (iP h x (oO 22 [vR t, vI n, vI 0, vI 0, vI 0, vR u])) := by
  refine ct_of (by decide) (Nat.le_of_ble_eq_true rfl) rfl ?_
  obtain ⟨h0, hh0⟩ : ∃ h0, h0 = h := ⟨_, rfl⟩
  have fx0 : h0 x = some (oO 22 [vN, vI 0, vI 0, vI 0, vI 0, vN]) := by rw [hh0]; exact fx
  rw [← hh0]
  change G E d 0 0 mX22_init 0 _ [] h0 (iP h0 x (oO 22 [vR t, vI n, vI 0, vI 0, vI 0, vR u]))
  clear fx hh0
  obtain ⟨h, hh1⟩ : ∃ h, h = h0 := ⟨_, rfl⟩
  have fx : h x = some (oO 22 [vN, vI 0, vI 0, vI 0, vI 0, vN]) := by rw [hh1]; exact fx0
  have O1 : ∀ y, y ≠ x → h y = h0 y := by rw [hh1]; exact fun _ _ => rfl
  suffices hsuf : G E d 0 0 mX22_init 0 _ [] h (iP h0 x (oO 22 [vR t, vI n, vI 0, vI 0, vI 0, vR u])) by rw [hh1] at hsuf; exact hsuf
  clear hh1
  refine g_aload_n (pc := 0) dX22_init_0 rfl ?_
  refine g_aload_n (pc := 1) dX22_init_1 rfl ?_
  refine g_iload_n (pc := 2) dX22_init_2 rfl ?_
  refine n_init (pc := 3) (M' := mX12_init) (as := [_, _]) i_X22_3 eX12_init dX22_init_3 (k_Rd22 (by omega) hro fx t n) (by omega) rfl rfl (Nat.le_of_ble_eq_true rfl) (fun h q9 o9 => ?_)
  replace fx := q9
  replace O1 := fun y hy => (o9 y hy).trans (O1 y hy)
  refine g_aload_n (pc := 6) dX22_init_6 rfl ?_
  refine g_aload_n (pc := 7) dX22_init_7 rfl ?_
  refine n_putF (pc := 8) w_X22_9_22 dX22_init_8 fx (Nat.le_of_ble_eq_true rfl) hro (j_fit_obj _ _) rfl rfl (fun h q9 o9 => ?_)
  replace fx := q9
  replace O1 := fun y hy => (o9 y hy).trans (O1 y hy)
  refine g_return (pc := 11) dX22_init_11 rfl ?_
  exact ⟨rfl, fx, O1⟩
set_option maxHeartbeats 2000000 in
theorem k_J1 {x : jN} (hd : 2 ≤ d) (hro : x.1 ≠ 0) (fx : h x = some (oO 33 [vI 0, vN, vI 0]))  : Ct E d 0 0 mJ1_init [vR x] h (iP h x (oO 33 [vI 0, vN, vI 0])) := by
  refine ct_of (by decide) (Nat.le_of_ble_eq_true rfl) rfl ?_
  obtain ⟨h0, hh0⟩ : ∃ h0, h0 = h := ⟨_, rfl⟩
  have fx0 : h0 x = some (oO 33 [vI 0, vN, vI 0]) := by rw [hh0]; exact fx
  rw [← hh0]
  change G E d 0 0 mJ1_init 0 _ [] h0 (iP h0 x (oO 33 [vI 0, vN, vI 0]))
  clear fx hh0
  obtain ⟨h, hh1⟩ : ∃ h, h = h0 := ⟨_, rfl⟩
  have fx : h x = some (oO 33 [vI 0, vN, vI 0]) := by rw [hh1]; exact fx0
  have O1 : ∀ y, y ≠ x → h y = h0 y := by rw [hh1]; exact fun _ _ => rfl
  suffices hsuf : G E d 0 0 mJ1_init 0 _ [] h (iP h0 x (oO 33 [vI 0, vN, vI 0])) by rw [hh1] at hsuf; exact hsuf
  clear hh1
  refine g_aload_n (pc := 0) dJ1_init_0 rfl ?_
  refine g_cIv (pc := 1) (M' := mJ0_init) (as := []) i_J1_1 eJ0_init dJ1_init_1 (k_J0 (by omega)) (by omega) rfl rfl (Nat.le_of_ble_eq_true rfl) ?_
  refine g_aload_n (pc := 4) dJ1_init_4 rfl ?_
  refine g_iconst (pc := 5) (v := 0) dJ1_init_5 (by decide) ?_
  refine n_put (pc := 6) w_J1_7_33 dJ1_init_6 fx (Nat.le_of_ble_eq_true rfl) hro (j_fit_int _) rfl (fun h q9 o9 => ?_)
  replace fx := q9
  replace O1 := fun y hy => (o9 y hy).trans (O1 y hy)
  refine g_return (pc := 9) dJ1_init_9 rfl ?_
  exact ⟨rfl, fx, O1⟩
set_option maxHeartbeats 2000000 in
theorem k_List {x : jN} {c : Nat} (kd : Nat) (hd : 6 ≤ d) (hro : x.1 ≠ 0) (fx : h x = some (oO 33 [vI 0, vN, vI 0])) (h1 : 1 ≤ c) (hc : c ≤ 100) : Ct E d 1 c mJ2_init [vR x, vI (nI c)] h (fun r h' => r = .inl none ∧ ∃ e : Nat, h' x = some (oO 33 [vI 0, vR (kd, e), vI 0]) ∧ h' (kd, e) = some (rA 3 c (fun _ => none)) ∧ (∀ k, h (k, e) = none) ∧ ∀ y, y ≠ x → y ≠ (kd, e) → h' y = h y) := by
  refine ct_of (by decide) (Nat.le_of_ble_eq_true rfl) rfl ?_
  obtain ⟨h0, hh0⟩ : ∃ h0, h0 = h := ⟨_, rfl⟩
  have fx0 : h0 x = some (oO 33 [vI 0, vN, vI 0]) := by rw [hh0]; exact fx
  rw [← hh0]
  change G E d 1 c mJ2_init 0 _ [] h0 (fun r h' => r = .inl none ∧ ∃ e : Nat, h' x = some (oO 33 [vI 0, vR (kd, e), vI 0]) ∧ h' (kd, e) = some (rA 3 c (fun _ => none)) ∧ (∀ k, h0 (k, e) = none) ∧ ∀ y, y ≠ x → y ≠ (kd, e) → h' y = h0 y)
  clear fx hh0
  obtain ⟨h, hh1⟩ : ∃ h, h = h0 := ⟨_, rfl⟩
  have fx : h x = some (oO 33 [vI 0, vN, vI 0]) := by rw [hh1]; exact fx0
  have O1 : ∀ y, y ≠ x → h y = h0 y := by rw [hh1]; exact fun _ _ => rfl
  suffices hsuf : G E d 1 c mJ2_init 0 _ [] h (fun r h' => r = .inl none ∧ ∃ e : Nat, h' x = some (oO 33 [vI 0, vR (kd, e), vI 0]) ∧ h' (kd, e) = some (rA 3 c (fun _ => none)) ∧ (∀ k, h0 (k, e) = none) ∧ ∀ y, y ≠ x → y ≠ (kd, e) → h' y = h0 y) by rw [hh1] at hsuf; exact hsuf
  clear hh1
  refine g_aload_n (pc := 0) dJ2_init_0 rfl ?_
  refine n_init (pc := 1) (M' := mJ1_init) (as := []) i_J2_1 eJ1_init dJ2_init_1 (k_J1 (by omega) hro fx) (by omega) rfl rfl (Nat.le_of_ble_eq_true rfl) (fun h q9 o9 => ?_)
  replace fx := q9
  replace O1 := fun y hy => (o9 y hy).trans (O1 y hy)
  refine g_iload_n (pc := 4) dJ2_init_4 rfl ?_
  refine g_if_le (pc := 5) 19 dJ2_init_5 (by decide) (fun c_5 => absurd c_5 (by intro w; have := (nI_leI (a := c) (b := 0) (by omega) (by decide)).mp w; omega)) (fun c_5 => ?_)
  refine g_aload_n (pc := 8) dJ2_init_8 rfl ?_
  refine g_iload_n (pc := 9) dJ2_init_9 rfl ?_
  have O2 := O1
  refine n_arrR (pc := 10) (t := 3) (N := c) kd rfl q179 q180 dJ2_init_10 rfl (by omega) (by decide) (Nat.le_refl _) (fun e h q9 n9 o9 => ?_)
  have ne_fx_A := ne_new (kd := kd) fx n9
  have n0 : ∀ k, h0 (k, e) = none := fun k => by rw [← O1 _ (fun z => ne_new (kd := k) fx n9 z.symm)]; exact n9 k
  replace fx := (o9 _ ne_fx_A).trans fx
  replace O2 : ∀ y, y ≠ x → y ≠ (kd, e) → h y = h0 y := fun y h1 h2 => (o9 y h2).trans (O1 y h1)
  refine n_put (pc := 13) w_J2_9_33 dJ2_init_13 fx (Nat.le_of_ble_eq_true rfl) hro (j_fit_arr _ _) rfl (fun h q8 o8 => ?_)
  replace O2 : ∀ y, y ≠ x → y ≠ (kd, e) → h y = h0 y := fun y h1 h2 => (o8 y h1).trans (O2 y h1 h2)
  have q7 := (o8 _ (fun z => ne_fx_A z.symm)).trans q9
  refine g_goto (pc := 16) 60 dJ2_init_16 (by decide) ?_
  refine g_return (pc := 60) dJ2_init_60 rfl ?_
  exact ⟨rfl, e, q8, q7, n0, O2⟩
/-- a new Told -/
def tdQ (h : jH) (x : jN) : jR → jH → Prop := fun r h' => r = .inl none ∧ ∃ a0 a1 a2 a3 e2 e3 : Nat, h' x = some (oO 2 [vR (51, a0), vR (52, a1), vR (53, a2), vR (54, a3), vI 0, vI 0]) ∧ h' (51, a0) = some (iA 8 (fun _ => 0)) ∧ h' (52, a1) = some (iA 8 (fun _ => -1)) ∧ h' (53, a2) = some (oO 33 [vI 0, vR (55, e2), vI 0]) ∧ h' (55, e2) = some (rA 3 4 (fun _ => none)) ∧ h' (54, a3) = some (oO 33 [vI 0, vR (56, e3), vI 0]) ∧ h' (56, e3) = some (rA 3 4 (fun _ => none)) ∧ (∀ y o, y ≠ x → h y = some o → h' y = some o) ∧ cFr h h'
set_option maxHeartbeats 2000000 in
theorem l_Told {bc bs : Nat} {Q : jR → jH → Prop} {x a1 : jN} {l0 l2 l3 : jV} (hro : a1.1 ≠ 0) (hne : x ≠ a1) : ∀ (m r : Nat) (h : jH) (f : Nat → Int32), 8 - r = m → r ≤ 8 → h x = some (oO 2 [l0, vR a1, l2, l3, vI 0, vI 0]) → h a1 = some (iA 8 f) → (∀ j, j < r → f j = -1) → (∀ (h' : jH) (f : Nat → Int32), h' a1 = some (iA 8 f) → (∀ j, j < 8 → f j = -1) → (∀ y, y ≠ a1 → h' y = h y) → G E d bc bs mX2_init 65 [some (vR x), some (vI (nI 8))] [] h' Q) → G E d bc bs mX2_init 46 [some (vR x), some (vI (nI r))] [] h Q := by
  intro m
  induction m with
  | zero =>
    intro r h f hm hr fx fa hf kk
    have e : r = 8 := by omega
    subst e
    refine g_iload_n (pc := 46) dX2_init_46 rfl ?_
    refine g_bipush (pc := 47) (v := 8) dX2_init_47 (by decide) ?_
    refine g_icmp_ge (pc := 49) 65 dX2_init_49 (by decide) (fun c_49 => ?_) (fun c_49 => absurd (by decide) c_49)
    exact kk h f fa hf (fun _ _ => rfl)
  | succ m ih =>
    intro r h f hm hr fx fa hf kk
    refine g_iload_n (pc := 46) dX2_init_46 rfl ?_
    refine g_bipush (pc := 47) (v := 8) dX2_init_47 (by decide) ?_
    refine g_icmp_ge (pc := 49) 65 dX2_init_49 (by decide) (fun c_49 => absurd c_49 (by intro w; have := (nI_leI (a := 8) (by decide) (by omega)).mp w; omega)) (fun c_49 => ?_)
    refine g_aload_n (pc := 52) dX2_init_52 rfl ?_
    refine g_getfield (pc := 53) f_X2_15_2 dX2_init_53 fx rfl ?_
    refine g_iload_n (pc := 56) dX2_init_56 rfl ?_
    refine g_iconst (pc := 57) (v := -1) dX2_init_57 (by decide) ?_
    refine n_ast (pc := 58) dX2_init_58 fa hro (j := r) rfl (by omega) (by decide) (fun h' q9 o9 => ?_)
    refine g_iinc (pc := 59) (ls' := [_, _]) dX2_init_59 rfl (by first | exact nI_1 _ | exact rfl) (by decide) rfl rfl ?_
    refine g_goto (pc := 62) 46 dX2_init_62 (by decide) ?_
    exact ih (r + 1) h' _ (by omega) (by omega) ((o9 _ hne).trans fx) q9 (fun j hj => by
      unfold j_up
      by_cases w : j = r
      · rw [if_pos w]
      · rw [if_neg w]; exact hf j (by omega)) (fun h2 f2 k1 k2 k3 => kk h2 f2 k1 k2 (fun y hy => (k3 y hy).trans (o9 y hy)))
set_option maxHeartbeats 2000000 in
theorem k_Told {x : jN} (hd : 8 ≤ d) (hro : x.1 ≠ 0) (hx9 : x.1 < 900) (fx : h x = some (oO 2 [vN, vN, vN, vN, vI 0, vI 0])) : Ct E d 6 30 mX2_init [vR x] h (tdQ h x) := by
  refine ct_of (by decide) (Nat.le_of_ble_eq_true rfl) rfl ?_
  obtain ⟨h0, hh0⟩ : ∃ h0, h0 = h := ⟨_, rfl⟩
  have fx0 : h0 x = some (oO 2 [vN, vN, vN, vN, vI 0, vI 0]) := by rw [hh0]; exact fx
  rw [← hh0]
  change G E d 6 30 mX2_init 0 _ [] h0 (tdQ h0 x)
  clear fx hh0
  obtain ⟨h, hh1⟩ : ∃ h, h = h0 := ⟨_, rfl⟩
  have fx : h x = some (oO 2 [vN, vN, vN, vN, vI 0, vI 0]) := by rw [hh1]; exact fx0
  have E1 : ∀ y o, y ≠ x → h0 y = some o → h y = some o := by rw [hh1]; exact fun _ _ _ q => q
  have C1 : cFr h0 h := by rw [hh1]; exact cFr.rf
  suffices hsuf : G E d 6 30 mX2_init 0 _ [] h (tdQ h0 x) by rw [hh1] at hsuf; exact hsuf
  clear hh1
  refine g_aload_n (pc := 0) dX2_init_0 rfl ?_
  refine g_obj (pc := 1) q166 dX2_init_1 (by omega) (Nat.le_of_ble_eq_true rfl) ?_
  refine g_aload_n (pc := 4) dX2_init_4 rfl ?_
  refine g_bipush (pc := 5) (v := 8) dX2_init_5 (by decide) ?_
  refine n_arrI (pc := 7) (N := 8) 51 dX2_init_7 (by decide) (by first | decide | omega) (by first | decide | omega) (by first | decide | omega) (fun a_A0 h q9 n9 o9 => ?_)
  have ne_fx_A0 := ne_new (kd := 51) fx n9
  have n0x := fun k => ne_new (kd := k) fx n9
  have n0_A0 := fun k => n0_ofx E1 n9 (n0x k) (k := k)
  replace E1 := fun y o hy k => (o9 y (ne_new (E1 y o hy k) n9)).trans (E1 y o hy k)
  replace C1 := cFr.tr C1 (cFr.at (by show 51 < 900; omega) o9)
  replace fx := (o9 _ ne_fx_A0).trans fx
  have A0 := q9
  refine n_putF (pc := 9) w_X2_9_2 dX2_init_9 fx (Nat.le_of_ble_eq_true rfl) hro (j_fit_arr _ _) rfl rfl (fun h q9 o9 => ?_)
  replace A0 := (o9 _ ne_fx_A0.symm).trans A0
  replace fx := q9
  replace C1 := cFr.tr C1 (cFr.at hx9 o9)
  replace E1 := fun y o hy k => (o9 y hy).trans (E1 y o hy k)
  refine g_aload_n (pc := 12) dX2_init_12 rfl ?_
  refine g_bipush (pc := 13) (v := 8) dX2_init_13 (by decide) ?_
  refine n_arrI (pc := 15) (N := 8) 52 dX2_init_15 (by decide) (by first | decide | omega) (by first | decide | omega) (by first | decide | omega) (fun a_A1 h q9 n9 o9 => ?_)
  have ne_fx_A1 := ne_new (kd := 52) fx n9
  have ne_A0_A1 := ne_new (kd := 52) A0 n9
  have n0x := fun k => ne_new (kd := k) fx n9
  have n0_A1 := fun k => n0_ofx E1 n9 (n0x k) (k := k)
  replace E1 := fun y o hy k => (o9 y (ne_new (E1 y o hy k) n9)).trans (E1 y o hy k)
  replace C1 := cFr.tr C1 (cFr.at (by show 52 < 900; omega) o9)
  replace fx := (o9 _ ne_fx_A1).trans fx
  replace A0 := (o9 _ ne_A0_A1).trans A0
  have A1 := q9
  refine n_putF (pc := 17) w_X2_15_2 dX2_init_17 fx (Nat.le_of_ble_eq_true rfl) hro (j_fit_arr _ _) rfl rfl (fun h q9 o9 => ?_)
  replace A0 := (o9 _ ne_fx_A0.symm).trans A0
  replace A1 := (o9 _ ne_fx_A1.symm).trans A1
  replace fx := q9
  replace C1 := cFr.tr C1 (cFr.at hx9 o9)
  replace E1 := fun y o hy k => (o9 y hy).trans (E1 y o hy k)
  refine g_aload_n (pc := 20) dX2_init_20 rfl ?_
  refine n_new (pc := 21) (fs := [vI 0, vN, vI 0]) 53 k_J2 q167 q168 q104 dX2_init_21 (fun j hj => by match j, hj with | 0, _ => rfl | 1, _ => rfl | 2, _ => rfl | j + 3, hj => exact absurd hj (by omega)) (by first | decide | omega) (by first | decide | omega) (fun a_A2 h q9 n9 o9 => ?_)
  have ne_fx_A2 := ne_new (kd := 53) fx n9
  have ne_A0_A2 := ne_new (kd := 53) A0 n9
  have ne_A1_A2 := ne_new (kd := 53) A1 n9
  have n0x := fun k => ne_new (kd := k) fx n9
  have n0_A2 := fun k => n0_ofx E1 n9 (n0x k) (k := k)
  replace E1 := fun y o hy k => (o9 y (ne_new (E1 y o hy k) n9)).trans (E1 y o hy k)
  replace C1 := cFr.tr C1 (cFr.at (by show 53 < 900; omega) o9)
  replace fx := (o9 _ ne_fx_A2).trans fx
  replace A0 := (o9 _ ne_A0_A2).trans A0
  replace A1 := (o9 _ ne_A1_A2).trans A1
  have A2 := q9
  refine g_dup (pc := 24) dX2_init_24 rfl ?_
  refine g_iconst (pc := 25) (v := 4) dX2_init_25 (by decide) ?_
  refine n_list (pc := 26) (M' := mJ2_init) (as := [_]) i_X2_20 eJ2_init dX2_init_26 (k_List (c := 4) 55 (by omega) (by show 53 ≠ 0; decide) A2 (by decide) (by decide)) (by omega) rfl rfl (Nat.le_of_ble_eq_true rfl) (by first | decide | omega) (by first | decide | omega) (fun a_E2 h q9 q8 n9 o9 => ?_)
  have ne_fx_E2 := ne_new (kd := 55) fx n9
  have ne_A0_E2 := ne_new (kd := 55) A0 n9
  have ne_A1_E2 := ne_new (kd := 55) A1 n9
  have ne_A2_E2 := ne_new (kd := 55) A2 n9
  have n0_E2 := fun k => n0_ofx E1 n9 (ne_new (kd := k) fx n9) (k := k)
  replace E1 := fun y o hy k => (o9 y (fun e => by rw [e, n0_A2] at k; cases k) (ne_new (E1 y o hy k) n9)).trans (E1 y o hy k)
  replace C1 := cFr.tr C1 (cFr.at2 (x := (53, a_A2)) (by show 53 < 900; omega) (by show 55 < 900; omega) o9)
  replace fx := (o9 _ ne_fx_A2 ne_fx_E2).trans fx
  replace A0 := (o9 _ ne_A0_A2 ne_A0_E2).trans A0
  replace A1 := (o9 _ ne_A1_A2 ne_A1_E2).trans A1
  replace A2 := q9
  have E2 := q8
  refine n_putF (pc := 29) w_X2_23_2 dX2_init_29 fx (Nat.le_of_ble_eq_true rfl) hro (j_fit_obj _ _) rfl rfl (fun h q9 o9 => ?_)
  replace A0 := (o9 _ ne_fx_A0.symm).trans A0
  replace A1 := (o9 _ ne_fx_A1.symm).trans A1
  replace A2 := (o9 _ ne_fx_A2.symm).trans A2
  replace E2 := (o9 _ ne_fx_E2.symm).trans E2
  replace fx := q9
  replace C1 := cFr.tr C1 (cFr.at hx9 o9)
  replace E1 := fun y o hy k => (o9 y hy).trans (E1 y o hy k)
  refine g_aload_n (pc := 32) dX2_init_32 rfl ?_
  refine n_new (pc := 33) (fs := [vI 0, vN, vI 0]) 54 k_J2 q167 q168 q104 dX2_init_33 (fun j hj => by match j, hj with | 0, _ => rfl | 1, _ => rfl | 2, _ => rfl | j + 3, hj => exact absurd hj (by omega)) (by first | decide | omega) (by first | decide | omega) (fun a_A3 h q9 n9 o9 => ?_)
  have ne_fx_A3 := ne_new (kd := 54) fx n9
  have ne_A0_A3 := ne_new (kd := 54) A0 n9
  have ne_A1_A3 := ne_new (kd := 54) A1 n9
  have ne_A2_A3 := ne_new (kd := 54) A2 n9
  have ne_E2_A3 := ne_new (kd := 54) E2 n9
  have n0x := fun k => ne_new (kd := k) fx n9
  have n0_A3 := fun k => n0_ofx E1 n9 (n0x k) (k := k)
  replace E1 := fun y o hy k => (o9 y (ne_new (E1 y o hy k) n9)).trans (E1 y o hy k)
  replace C1 := cFr.tr C1 (cFr.at (by show 54 < 900; omega) o9)
  replace fx := (o9 _ ne_fx_A3).trans fx
  replace A0 := (o9 _ ne_A0_A3).trans A0
  replace A1 := (o9 _ ne_A1_A3).trans A1
  replace A2 := (o9 _ ne_A2_A3).trans A2
  replace E2 := (o9 _ ne_E2_A3).trans E2
  have A3 := q9
  refine g_dup (pc := 36) dX2_init_36 rfl ?_
  refine g_iconst (pc := 37) (v := 4) dX2_init_37 (by decide) ?_
  refine n_list (pc := 38) (M' := mJ2_init) (as := [_]) i_X2_20 eJ2_init dX2_init_38 (k_List (c := 4) 56 (by omega) (by show 54 ≠ 0; decide) A3 (by decide) (by decide)) (by omega) rfl rfl (Nat.le_of_ble_eq_true rfl) (by first | decide | omega) (by first | decide | omega) (fun a_E3 h q9 q8 n9 o9 => ?_)
  have ne_fx_E3 := ne_new (kd := 56) fx n9
  have ne_A0_E3 := ne_new (kd := 56) A0 n9
  have ne_A1_E3 := ne_new (kd := 56) A1 n9
  have ne_A2_E3 := ne_new (kd := 56) A2 n9
  have ne_E2_E3 := ne_new (kd := 56) E2 n9
  have ne_A3_E3 := ne_new (kd := 56) A3 n9
  have n0_E3 := fun k => n0_ofx E1 n9 (ne_new (kd := k) fx n9) (k := k)
  replace E1 := fun y o hy k => (o9 y (fun e => by rw [e, n0_A3] at k; cases k) (ne_new (E1 y o hy k) n9)).trans (E1 y o hy k)
  replace C1 := cFr.tr C1 (cFr.at2 (x := (54, a_A3)) (by show 54 < 900; omega) (by show 56 < 900; omega) o9)
  replace fx := (o9 _ ne_fx_A3 ne_fx_E3).trans fx
  replace A0 := (o9 _ ne_A0_A3 ne_A0_E3).trans A0
  replace A1 := (o9 _ ne_A1_A3 ne_A1_E3).trans A1
  replace A2 := (o9 _ ne_A2_A3 ne_A2_E3).trans A2
  replace E2 := (o9 _ ne_E2_A3 ne_E2_E3).trans E2
  replace A3 := q9
  have E3 := q8
  refine n_putF (pc := 41) w_X2_27_2 dX2_init_41 fx (Nat.le_of_ble_eq_true rfl) hro (j_fit_obj _ _) rfl rfl (fun h q9 o9 => ?_)
  replace A0 := (o9 _ ne_fx_A0.symm).trans A0
  replace A1 := (o9 _ ne_fx_A1.symm).trans A1
  replace A2 := (o9 _ ne_fx_A2.symm).trans A2
  replace E2 := (o9 _ ne_fx_E2.symm).trans E2
  replace A3 := (o9 _ ne_fx_A3.symm).trans A3
  replace E3 := (o9 _ ne_fx_E3.symm).trans E3
  replace fx := q9
  replace C1 := cFr.tr C1 (cFr.at hx9 o9)
  replace E1 := fun y o hy k => (o9 y hy).trans (E1 y o hy k)
  refine g_iconst (pc := 44) (v := 0) dX2_init_44 (by decide) ?_
  refine g_istore_n (pc := 45) (ls' := [_, _]) dX2_init_45 (by decide) rfl rfl ?_
  refine l_Told (by show 52 ≠ 0; decide) ne_fx_A1 8 0 h _ rfl (by decide) fx A1 (fun j hj => absurd hj (Nat.not_lt_zero j)) (fun h' f q9 hf o9 => ?_)
  refine n_same q9 (f' := fun _ => -1) hf (fun h'' q8 o8 => ?_)
  have o7 : ∀ y, y ≠ (52, a_A1) → h'' y = h y := fun y hy => (o8 y hy).trans (o9 y hy)
  refine g_return (pc := 65) dX2_init_65 rfl ?_
  refine ⟨rfl, a_A0, a_A1, a_A2, a_A3, a_E2, a_E3, (o7 _ ne_fx_A1).trans fx, (o7 _ ne_A0_A1).trans A0, q8, (o7 _ ne_A1_A2.symm).trans A2, (o7 _ ne_A1_E2.symm).trans E2, (o7 _ ne_A1_A3.symm).trans A3, (o7 _ ne_A1_E3.symm).trans E3, fun y o hy k => (o7 y (fun e => by rw [e, n0_A1] at k; cases k)).trans (E1 y o hy k), cFr.tr C1 (cFr.at (by show 52 < 900; decide) o7)⟩
def srQ (h : jH) (x t : jN) (n k : Int32) : jR → jH → Prop := fun r h' => r = .inl none ∧ ∃ e : Nat, h' x = some (oO 32 [vR t, vI n, vI 0, vI 0, vI 0, vI k, vR (91, e), vI 0]) ∧ h' (91, e) = some (iA 10 (fun _ => 0)) ∧ (∀ k, h (k, e) = none) ∧ (∀ y o, y ≠ x → h y = some o → h' y = some o) ∧ cFr h h'
def agQ (h : jH) (x : jN) (n : Int32) : jR → jH → Prop := fun r h' => r = .inl none ∧ ∃ a e : Nat, h' x = some (oO 31 [vI n, vR (93, a)]) ∧ h' (93, a) = some (oO 33 [vI 0, vR (94, e), vI 0]) ∧ h' (94, e) = some (rA 3 1 (fun _ => none)) ∧ (∀ k, h (k, a) = none) ∧ (∀ k, h (k, e) = none) ∧ (∀ y o, y ≠ x → h y = some o → h' y = some o) ∧ cFr h h'
set_option maxHeartbeats 2000000 in
theorem k_SeenReader {x t : jN} {n k : Int32} (hd : 8 ≤ d) (hro : x.1 ≠ 0) (hx9 : x.1 < 900) (fx : h x = some (oO 32 [vN, vI 0, vI 0, vI 0, vI 0, vI 0, vN, vI 0])) : Ct E d 1 10 mX32_init [vR x, vR t, vI n, vI k] h (srQ h x t n k) := by
  refine ct_of (by decide) (Nat.le_of_ble_eq_true rfl) rfl ?_
  obtain ⟨h0, hh0⟩ : ∃ h0, h0 = h := ⟨_, rfl⟩
  have fx0 : h0 x = some (oO 32 [vN, vI 0, vI 0, vI 0, vI 0, vI 0, vN, vI 0]) := by rw [hh0]; exact fx
  rw [← hh0]
  change G E d 1 10 mX32_init 0 _ [] h0 (srQ h0 x t n k)
  clear fx hh0
  obtain ⟨h, hh1⟩ : ∃ h, h = h0 := ⟨_, rfl⟩
  have fx : h x = some (oO 32 [vN, vI 0, vI 0, vI 0, vI 0, vI 0, vN, vI 0]) := by rw [hh1]; exact fx0
  have E1 : ∀ y o, y ≠ x → h0 y = some o → h y = some o := by rw [hh1]; exact fun _ _ _ q => q
  have C1 : cFr h0 h := by rw [hh1]; exact cFr.rf
  suffices hsuf : G E d 1 10 mX32_init 0 _ [] h (srQ h0 x t n k) by rw [hh1] at hsuf; exact hsuf
  clear hh1
  refine g_aload_n (pc := 0) dX32_init_0 rfl ?_
  refine g_aload_n (pc := 1) dX32_init_1 rfl ?_
  refine g_iload_n (pc := 2) dX32_init_2 rfl ?_
  refine n_init (pc := 3) (M' := mX12_init) (as := [_, _]) i_X32_3 eX12_init dX32_init_3 (k_Rd32 (by omega) hro fx t n) (by omega) rfl rfl (Nat.le_of_ble_eq_true rfl) (fun h q9 o9 => ?_)
  replace fx := q9
  replace C1 := cFr.tr C1 (cFr.at hx9 o9)
  replace E1 := fun y o hy k => (o9 y hy).trans (E1 y o hy k)
  refine g_aload_n (pc := 6) dX32_init_6 rfl ?_
  refine g_bipush (pc := 7) (v := 10) dX32_init_7 (by decide) ?_
  refine n_arrI (pc := 9) (N := 10) 91 dX32_init_9 (by decide) (by first | decide | omega) (by first | decide | omega) (by first | decide | omega) (fun a_A0 h q9 n9 o9 => ?_)
  have ne_fx_A0 := ne_new (kd := 91) fx n9
  have n0x := fun k => ne_new (kd := k) fx n9
  have n0_A0 := fun k => n0_ofx E1 n9 (n0x k) (k := k)
  replace E1 := fun y o hy k => (o9 y (ne_new (E1 y o hy k) n9)).trans (E1 y o hy k)
  replace C1 := cFr.tr C1 (cFr.at (by show 91 < 900; omega) o9)
  replace fx := (o9 _ ne_fx_A0).trans fx
  have A0 := q9
  refine n_putF (pc := 11) w_X32_9_32 dX32_init_11 fx (Nat.le_of_ble_eq_true rfl) hro (j_fit_arr _ _) rfl rfl (fun h q9 o9 => ?_)
  replace A0 := (o9 _ ne_fx_A0.symm).trans A0
  replace fx := q9
  replace C1 := cFr.tr C1 (cFr.at hx9 o9)
  replace E1 := fun y o hy k => (o9 y hy).trans (E1 y o hy k)
  refine g_aload_n (pc := 14) dX32_init_14 rfl ?_
  refine g_iload_n (pc := 15) dX32_init_15 rfl ?_
  refine n_putF (pc := 16) w_X32_15_32 dX32_init_16 fx (Nat.le_of_ble_eq_true rfl) hro (j_fit_int _) rfl rfl (fun h q9 o9 => ?_)
  replace A0 := (o9 _ ne_fx_A0.symm).trans A0
  replace fx := q9
  replace C1 := cFr.tr C1 (cFr.at hx9 o9)
  replace E1 := fun y o hy k => (o9 y hy).trans (E1 y o hy k)
  refine g_return (pc := 19) dX32_init_19 rfl ?_
  exact ⟨rfl, a_A0, fx, A0, n0_A0, E1, C1⟩
set_option maxHeartbeats 2000000 in
theorem k_Again {x : jN} {n : Int32} (hd : 8 ≤ d) (hro : x.1 ≠ 0) (hx9 : x.1 < 900) (fx : h x = some (oO 31 [vI 0, vN])) : Ct E d 2 4 mX31_init [vR x, vI n] h (agQ h x n) := by
  refine ct_of (by decide) (Nat.le_of_ble_eq_true rfl) rfl ?_
  obtain ⟨h0, hh0⟩ : ∃ h0, h0 = h := ⟨_, rfl⟩
  have fx0 : h0 x = some (oO 31 [vI 0, vN]) := by rw [hh0]; exact fx
  rw [← hh0]
  change G E d 2 4 mX31_init 0 _ [] h0 (agQ h0 x n)
  clear fx hh0
  obtain ⟨h, hh1⟩ : ∃ h, h = h0 := ⟨_, rfl⟩
  have fx : h x = some (oO 31 [vI 0, vN]) := by rw [hh1]; exact fx0
  have E1 : ∀ y o, y ≠ x → h0 y = some o → h y = some o := by rw [hh1]; exact fun _ _ _ q => q
  have C1 : cFr h0 h := by rw [hh1]; exact cFr.rf
  suffices hsuf : G E d 2 4 mX31_init 0 _ [] h (agQ h0 x n) by rw [hh1] at hsuf; exact hsuf
  clear hh1
  refine g_aload_n (pc := 0) dX31_init_0 rfl ?_
  refine g_cIv (pc := 1) (M' := mX23_init) (as := []) i_X31_3 eX23_init dX31_init_1 (k_Step (by omega)) (by omega) rfl rfl (Nat.le_of_ble_eq_true rfl) ?_
  refine g_aload_n (pc := 4) dX31_init_4 rfl ?_
  refine n_new (pc := 5) (fs := [vI 0, vN, vI 0]) 93 k_J2 q1556 q168 q104 dX31_init_5 (fun j hj => by match j, hj with | 0, _ => rfl | 1, _ => rfl | 2, _ => rfl | j + 3, hj => exact absurd hj (by omega)) (by first | decide | omega) (by first | decide | omega) (fun a_A0 h q9 n9 o9 => ?_)
  have ne_fx_A0 := ne_new (kd := 93) fx n9
  have n0x := fun k => ne_new (kd := k) fx n9
  have n0_A0 := fun k => n0_ofx E1 n9 (n0x k) (k := k)
  replace E1 := fun y o hy k => (o9 y (ne_new (E1 y o hy k) n9)).trans (E1 y o hy k)
  replace C1 := cFr.tr C1 (cFr.at (by show 93 < 900; omega) o9)
  replace fx := (o9 _ ne_fx_A0).trans fx
  have A0 := q9
  refine g_dup (pc := 8) dX31_init_8 rfl ?_
  refine g_iconst (pc := 9) (v := 1) dX31_init_9 (by decide) ?_
  refine n_list (pc := 10) (M' := mJ2_init) (as := [_]) i_X31_11 eJ2_init dX31_init_10 (k_List (c := 1) 94 (by omega) (by show 93 ≠ 0; decide) A0 (by decide) (by decide)) (by omega) rfl rfl (Nat.le_of_ble_eq_true rfl) (by first | decide | omega) (by first | decide | omega) (fun a_E0 h q9 q8 n9 o9 => ?_)
  have ne_fx_E0 := ne_new (kd := 94) fx n9
  have ne_A0_E0 := ne_new (kd := 94) A0 n9
  have n0_E0 := fun k => n0_ofx E1 n9 (ne_new (kd := k) fx n9) (k := k)
  replace E1 := fun y o hy k => (o9 y (fun e => by rw [e, n0_A0] at k; cases k) (ne_new (E1 y o hy k) n9)).trans (E1 y o hy k)
  replace C1 := cFr.tr C1 (cFr.at2 (x := (93, a_A0)) (by show 93 < 900; omega) (by show 94 < 900; omega) o9)
  replace fx := (o9 _ ne_fx_A0 ne_fx_E0).trans fx
  replace A0 := q9
  have E0 := q8
  refine n_putF (pc := 13) w_X31_14_31 dX31_init_13 fx (Nat.le_of_ble_eq_true rfl) hro (j_fit_obj _ _) rfl rfl (fun h q9 o9 => ?_)
  replace A0 := (o9 _ ne_fx_A0.symm).trans A0
  replace E0 := (o9 _ ne_fx_E0.symm).trans E0
  replace fx := q9
  replace C1 := cFr.tr C1 (cFr.at hx9 o9)
  replace E1 := fun y o hy k => (o9 y hy).trans (E1 y o hy k)
  refine g_aload_n (pc := 16) dX31_init_16 rfl ?_
  refine g_iload_n (pc := 17) dX31_init_17 rfl ?_
  refine n_putF (pc := 18) w_X31_20_31 dX31_init_18 fx (Nat.le_of_ble_eq_true rfl) hro (j_fit_int _) rfl rfl (fun h q9 o9 => ?_)
  replace A0 := (o9 _ ne_fx_A0.symm).trans A0
  replace E0 := (o9 _ ne_fx_E0.symm).trans E0
  replace fx := q9
  replace C1 := cFr.tr C1 (cFr.at hx9 o9)
  replace E1 := fun y o hy k => (o9 y hy).trans (E1 y o hy k)
  refine g_return (pc := 21) dX31_init_21 rfl ?_
  exact ⟨rfl, a_A0, a_E0, fx, A0, E0, n0_A0, n0_E0, E1, C1⟩
def hrQ (h : jH) (x t : jN) (n : Int32) : jR → jH → Prop := fun r h' => r = .inl none ∧ ∃ a a0 a1 a2 a3 e2 e3 : Nat, h' x = some (oO 13 [vR t, vI n, vI 0, vI 0, vI 0, vR (50, a)]) ∧ h' (50, a) = some (oO 2 [vR (51, a0), vR (52, a1), vR (53, a2), vR (54, a3), vI 0, vI 0]) ∧ h' (51, a0) = some (iA 8 (fun _ => 0)) ∧ h' (52, a1) = some (iA 8 (fun _ => -1)) ∧ h' (53, a2) = some (oO 33 [vI 0, vR (55, e2), vI 0]) ∧ h' (55, e2) = some (rA 3 4 (fun _ => none)) ∧ h' (54, a3) = some (oO 33 [vI 0, vR (56, e3), vI 0]) ∧ h' (56, e3) = some (rA 3 4 (fun _ => none)) ∧ (∀ y o, y ≠ x → h y = some o → h' y = some o) ∧ cFr h h'
set_option maxHeartbeats 2000000 in
theorem k_HouseReader {x t : jN} {n : Int32} (hd : 10 ≤ d) (hro : x.1 ≠ 0) (hx9 : x.1 < 900) (hx5 : ¬ (51 ≤ x.1 ∧ x.1 ≤ 56)) (fx : h x = some (oO 13 [vN, vI 0, vI 0, vI 0, vI 0, vN])) : Ct E d 7 36 mX13_init [vR x, vR t, vI n] h (hrQ h x t n) := by
  refine ct_of (by decide) (Nat.le_of_ble_eq_true rfl) rfl ?_
  obtain ⟨h0, hh0⟩ : ∃ h0, h0 = h := ⟨_, rfl⟩
  have fx0 : h0 x = some (oO 13 [vN, vI 0, vI 0, vI 0, vI 0, vN]) := by rw [hh0]; exact fx
  rw [← hh0]
  change G E d 7 36 mX13_init 0 _ [] h0 (hrQ h0 x t n)
  clear fx hh0
  obtain ⟨h, hh1⟩ : ∃ h, h = h0 := ⟨_, rfl⟩
  have fx : h x = some (oO 13 [vN, vI 0, vI 0, vI 0, vI 0, vN]) := by rw [hh1]; exact fx0
  have E1 : ∀ y o, y ≠ x → h0 y = some o → h y = some o := by rw [hh1]; exact fun _ _ _ q => q
  have C1 : cFr h0 h := by rw [hh1]; exact cFr.rf
  suffices hsuf : G E d 7 36 mX13_init 0 _ [] h (hrQ h0 x t n) by rw [hh1] at hsuf; exact hsuf
  clear hh1
  refine g_aload_n (pc := 0) dX13_init_0 rfl ?_
  refine g_aload_n (pc := 1) dX13_init_1 rfl ?_
  refine g_iload_n (pc := 2) dX13_init_2 rfl ?_
  refine n_init (pc := 3) (M' := mX12_init) (as := [_, _]) i_X13_3 eX12_init dX13_init_3 (k_Rd13 (by omega) hro fx t n) (by omega) rfl rfl (Nat.le_of_ble_eq_true rfl) (fun h q9 o9 => ?_)
  replace fx := q9
  replace C1 := cFr.tr C1 (cFr.at hx9 o9)
  replace E1 := fun y o hy k => (o9 y hy).trans (E1 y o hy k)
  refine g_aload_n (pc := 6) dX13_init_6 rfl ?_
  refine n_new (pc := 7) (fs := [vN, vN, vN, vN, vI 0, vI 0]) 50 k_X2 q959 q162 q101 dX13_init_7 (fun j hj => by match j, hj with | 0, _ => rfl | 1, _ => rfl | 2, _ => rfl | 3, _ => rfl | 4, _ => rfl | 5, _ => rfl | j + 6, hj => exact absurd hj (by omega)) (by first | decide | omega) (by first | decide | omega) (fun a_A h q9 n9 o9 => ?_)
  have ne_fx_A := ne_new (kd := 50) fx n9
  have n0x := fun k => ne_new (kd := k) fx n9
  have n0_A := fun k => n0_ofx E1 n9 (n0x k) (k := k)
  replace E1 := fun y o hy k => (o9 y (ne_new (E1 y o hy k) n9)).trans (E1 y o hy k)
  replace C1 := cFr.tr C1 (cFr.at (by show 50 < 900; omega) o9)
  replace fx := (o9 _ ne_fx_A).trans fx
  have A := q9
  refine g_dup (pc := 10) dX13_init_10 rfl ?_
  refine g_callI (pc := 11) (M' := mX2_init) (as := []) i_X13_11 eX2_init dX13_init_11 (k_Told (by omega) (by show 50 ≠ 0; decide) (by show 50 < 900; decide) A) (by omega) rfl rfl (Nat.le_of_ble_eq_true rfl) (by omega) (by omega) (fun C9 x9 h9 q9 => ?_) (fun r9 h9 q9 => ?_)
  · cases q9.1
  obtain ⟨e9, a0, a1, a2, a3, e2, e3, q1, q2, q3, q4, q5, q6, q7, E9, C9⟩ := q9
  cases e9
  replace fx := E9 _ _ ne_fx_A fx
  replace E1 := fun y o hy k => E9 y o (fun e => by rw [e, n0_A] at k; cases k) (E1 y o hy k)
  replace C1 := cFr.tr C1 C9
  refine n_putF (pc := 14) w_X13_14_13 dX13_init_14 fx (Nat.le_of_ble_eq_true rfl) hro (j_fit_obj _ _) rfl rfl (fun h q0 o9 => ?_)
  have nx : ∀ r v, (51 ≤ r ∧ r ≤ 56) → ((r, v) : jN) ≠ x := fun r v hr e => hx5 (by rw [← e]; exact hr)
  refine g_return (pc := 17) dX13_init_17 rfl ?_
  exact ⟨rfl, a_A, a0, a1, a2, a3, e2, e3, q0, (o9 _ ne_fx_A.symm).trans q1, (o9 _ (nx _ _ (by decide))).trans q2, (o9 _ (nx _ _ (by decide))).trans q3, (o9 _ (nx _ _ (by decide))).trans q4, (o9 _ (nx _ _ (by decide))).trans q5, (o9 _ (nx _ _ (by decide))).trans q6, (o9 _ (nx _ _ (by decide))).trans q7, fun y o hy k => (o9 y hy).trans (E1 y o hy k), cFr.tr C1 (cFr.at hx9 o9)⟩
end
