/-! THE COMPONENT: Wrong; signs, what is needed. Printed by m_c23.py -/
set_option maxRecDepth 100000
/-- a byte as Java reads it -/
def cb (k : Nat) : Int32 := (nI k).toInt8.toInt32
theorem cbF : ∀ k : Fin 256, (cb k.1).toInt = if k.1 < 128 then (k.1 : Int) else (k.1 : Int) - 256 := by decide +kernel
theorem cbT {k : Nat} (hk : k < 256) : (cb k).toInt = if k < 128 then (k : Int) else (k : Int) - 256 := cbF ⟨k, hk⟩
theorem cb_eq {k c : Nat} (hk : k < 256) (hc : c < 128) : cb k = nI c ↔ k = c := by
  rw [← Int32.toInt_inj, cbT hk, nI_toInt (by omega)]
  split <;> omega
theorem cb_le {k c : Nat} (hk : k < 256) (hc : c < 128) : nI c ≤ cb k ↔ c ≤ k ∧ k < 128 := by
  rw [Int32.le_iff_toInt_le, cbT hk, nI_toInt (by omega)]
  split <;> omega
theorem cb_lt {k c : Nat} (hk : k < 256) (hc : c < 128) : cb k < nI c ↔ k < c ∨ 128 ≤ k := by
  rw [Int32.lt_iff_toInt_lt, cbT hk, nI_toInt (by omega)]
  split <;> omega
theorem cb_gt {k c : Nat} (hk : k < 256) (hc : c < 128) : nI c < cb k ↔ c < k ∧ k < 128 := by
  rw [Int32.lt_iff_toInt_lt, cbT hk, nI_toInt (by omega)]
  split <;> omega
theorem cb_n {k : Nat} (hk : k < 128) : cb k = nI k := (cb_eq (by omega) hk).mpr rfl
/-- the letter behind blanks -/
def sgC (t : Nat → Nat) (n a : Nat) : Int32 := if bl t n a < n then cb (t (bl t n a)) else 0
theorem sg_eq {t : Nat → Nat} {n a k : Nat} (h1 : 1 ≤ k) (hk : k < 128) (hn : n ≤ 600) (ht : ∀ k, k < 600 → t k < 256) : sgC t n a = nI k ↔ sgI t n a = nI k := by
  unfold sgC sgI bN
  by_cases q : bl t n a < n
  · rw [if_pos q, if_pos q, cb_eq (ht _ (by omega)) hk, nI_eq (by have := ht (bl t n a) (by omega); omega) (by omega)]
  · rw [if_neg q, if_neg q]
    constructor
    · intro e
      exact absurd ((nI_eq (a := 0) (b := k) (by omega) (by omega)).mp e) (by omega)
    · intro e
      exact absurd e.symm (nI_nm (by omega))
abbrev rdO (c : Nat) (tp : jN) (n a : Nat) (fr op : Int32) (rest : List jV) : jO := oO c ([vR tp, vI (nI n), vI (nI a), vI fr, vI op] ++ rest)
/-- what a reading may change: P -/
def kp (P : jN → Prop) (h h' : jH) : Prop := (∀ y o, ¬ P y → h y = some o → h' y = some o) ∧ cFr h h'
theorem kp.rf {P : jN → Prop} {h : jH} : kp P h h := ⟨fun _ _ _ q => q, cFr.rf⟩
theorem kp.tr {P : jN → Prop} {a b c : jH} (h : kp P a b) (k : kp P b c) : kp P a c := ⟨fun y o p q => k.1 y o p (h.1 y o p q), cFr.tr h.2 k.2⟩
theorem kp.at {P : jN → Prop} {h h' : jH} {x : jN} (hp : P x) (hx : x.1 < 900) (o : ∀ y, y ≠ x → h' y = h y) : kp P h h' := ⟨fun y w p q => (o y (fun e => p (by rw [e]; exact hp))).trans q, cFr.at hx o⟩
theorem kp.ex {P : jN → Prop} {h h' : jH} (e : ∀ y o, h y = some o → h' y = some o) (c : cFr h h') : kp P h h' := ⟨fun y o _ q => e y o q, c⟩
/-- all but P is known -/
def cxt (P : jN → Prop) (h : jH) : Prop := ∀ y, ¬ P y → ∃ o, h y = some o
theorem cxt.kp {P : jN → Prop} {h h' : jH} (c : cxt P h) (k : kp P h h') : cxt P h' := fun y p => (c y p).imp (fun o q => k.1 y o p q)
abbrev wrO (k p : Int32) : jO := oO 14 [vN, vN, vN, vN, vN, vI 0, vI k, vI p]
abbrev nmWr : String := "RelicHouse$Wrong"
/-- thrown: a Wrong -/
def wrX (P : jN → Prop) (h : jH) (e : Nat × Nat) : jR → jH → Prop := fun r h' => ∃ b : Nat, r = .inr (nmWr, (92, b)) ∧ h' (92, b) = some (wrO (nI e.1) (nI e.2)) ∧ kp P h h'
def rqQ (h : jH) (x : jN) (o : jO) (v : Option jV) : jR → jH → Prop := fun r h' => r = .inl v ∧ h' x = some o ∧ ∀ y, y ≠ x → h' y = h y
/-- the tape as it is read -/
def RH (x tp : jN) (n : Nat) (T : Nat → Int32) (t : Nat → Nat) : Prop := x.1 ≠ 0 ∧ x.1 < 900 ∧ x ≠ tp ∧ n ≤ 600 ∧ ∀ k, k < 600 → T k = cb (t k) ∧ t k < 256
theorem RH.t {x tp : jN} {n : Nat} {T : Nat → Int32} {t : Nat → Nat} (h : RH x tp n T t) : ∀ k, k < 600 → t k < 256 := fun k hk => (h.2.2.2.2 k hk).2
section
variable {E : jE} {d : Nat} {h : jH} {t : Nat → Nat} {n a : Nat} {T : Nat → Int32} {tp x : jN} {fr op : Int32} {rest : List jV} {P : jN → Prop}
set_option maxHeartbeats 2000000 in
theorem k_th3 {x : jN} (hd : 1 ≤ d) (hro : x.1 ≠ 0) (fx : h x = some (oO 14 [vN, vN, vN, vN, vN, vI 0, vI 0, vI 0]))  : Ct E d 0 0 mJ3_init_3 [vR x, vN, vN, vI 0, vI 0] h (iP h x (oO 14 [vN, vN, vN, vN, vN, vI 0, vI 0, vI 0])) := by
  refine ct_of (by decide) (Nat.le_of_ble_eq_true rfl) rfl ?_
  obtain ⟨h0, hh0⟩ : ∃ h0, h0 = h := ⟨_, rfl⟩
  have fx0 : h0 x = some (oO 14 [vN, vN, vN, vN, vN, vI 0, vI 0, vI 0]) := by rw [hh0]; exact fx
  rw [← hh0]
  change G E d 0 0 mJ3_init_3 0 _ [] h0 (iP h0 x (oO 14 [vN, vN, vN, vN, vN, vI 0, vI 0, vI 0]))
  clear fx hh0
  obtain ⟨h, hh1⟩ : ∃ h, h = h0 := ⟨_, rfl⟩
  have fx : h x = some (oO 14 [vN, vN, vN, vN, vN, vI 0, vI 0, vI 0]) := by rw [hh1]; exact fx0
  have O1 : ∀ y, y ≠ x → h y = h0 y := by rw [hh1]; exact fun _ _ => rfl
  suffices hsuf : G E d 0 0 mJ3_init_3 0 _ [] h (iP h0 x (oO 14 [vN, vN, vN, vN, vN, vI 0, vI 0, vI 0])) by rw [hh1] at hsuf; exact hsuf
  clear hh1
  refine g_aload_n (pc := 0) dJ3_init_3_0 rfl ?_
  refine g_obj (pc := 1) q208 dJ3_init_3_1 (by omega) (Nat.le_of_ble_eq_true rfl) ?_
  refine g_aload_n (pc := 4) dJ3_init_3_4 rfl ?_
  refine g_aload_n (pc := 5) dJ3_init_3_5 rfl ?_
  refine n_put (pc := 6) w_J3_7_14 dJ3_init_3_6 fx (Nat.le_of_ble_eq_true rfl) hro (j_fit_obj _ _) rfl (fun h q9 o9 => ?_)
  replace fx := q9
  replace O1 := fun y hy => (o9 y hy).trans (O1 y hy)
  refine g_aload_n (pc := 9) dJ3_init_3_9 rfl ?_
  refine g_getstaticQ (pc := 10) q209 (Or.inl rfl) (fun K => (zZ K).1.1) dJ3_init_3_10 (fun _ => ?_)
  refine n_put (pc := 13) w_J3_17_14 dJ3_init_3_13 fx (Nat.le_of_ble_eq_true rfl) hro (j_fit_arr _ _) rfl (fun h q9 o9 => ?_)
  replace fx := q9
  replace O1 := fun y hy => (o9 y hy).trans (O1 y hy)
  refine g_aload_n (pc := 16) dJ3_init_3_16 rfl ?_
  refine g_getstaticQ (pc := 17) q211 (Or.inl rfl) (fun K => (zZ K).2.1) dJ3_init_3_17 (fun _ => ?_)
  refine n_put (pc := 20) w_J3_24_14 dJ3_init_3_20 fx (Nat.le_of_ble_eq_true rfl) hro (j_fit_obj _ _) rfl (fun h q9 o9 => ?_)
  replace fx := q9
  replace O1 := fun y hy => (o9 y hy).trans (O1 y hy)
  refine g_iload (pc := 23) dJ3_init_3_23 rfl ?_
  refine g_if_eq (pc := 25) 36 dJ3_init_3_25 (by decide) (fun c_25 => ?_) (fun c_25 => absurd rfl c_25)
  refine g_aload_n (pc := 36) dJ3_init_3_36 rfl ?_
  refine g_null (pc := 37) dJ3_init_3_37 ?_
  refine n_put (pc := 38) w_J3_17_14 dJ3_init_3_38 fx (Nat.le_of_ble_eq_true rfl) hro (j_fit_arr _ _) rfl (fun h q9 o9 => ?_)
  replace fx := q9
  replace O1 := fun y hy => (o9 y hy).trans (O1 y hy)
  refine g_aload_n (pc := 41) dJ3_init_3_41 rfl ?_
  refine g_aload_n (pc := 42) dJ3_init_3_42 rfl ?_
  refine n_put (pc := 43) w_J3_31_14 dJ3_init_3_43 fx (Nat.le_of_ble_eq_true rfl) hro (j_fit_obj _ _) rfl (fun h q9 o9 => ?_)
  replace fx := q9
  replace O1 := fun y hy => (o9 y hy).trans (O1 y hy)
  refine g_aload_n (pc := 46) dJ3_init_3_46 rfl ?_
  refine g_aload_n (pc := 47) dJ3_init_3_47 rfl ?_
  refine n_put (pc := 48) w_J3_7_14 dJ3_init_3_48 fx (Nat.le_of_ble_eq_true rfl) hro (j_fit_obj _ _) rfl (fun h q9 o9 => ?_)
  replace fx := q9
  replace O1 := fun y hy => (o9 y hy).trans (O1 y hy)
  refine g_iload_n (pc := 51) dJ3_init_3_51 rfl ?_
  refine g_if_ne (pc := 52) 60 dJ3_init_3_52 (by decide) (fun c_52 => absurd c_52 (by decide)) (fun c_52 => ?_)
  refine g_aload_n (pc := 55) dJ3_init_3_55 rfl ?_
  refine g_null (pc := 56) dJ3_init_3_56 ?_
  refine n_put (pc := 57) w_J3_24_14 dJ3_init_3_57 fx (Nat.le_of_ble_eq_true rfl) hro (j_fit_obj _ _) rfl (fun h q9 o9 => ?_)
  replace fx := q9
  replace O1 := fun y hy => (o9 y hy).trans (O1 y hy)
  refine g_return (pc := 60) dJ3_init_3_60 rfl ?_
  exact ⟨rfl, fx, O1⟩
set_option maxHeartbeats 2000000 in
theorem k_ex3 {x : jN} (hd : 2 ≤ d) (hro : x.1 ≠ 0) (fx : h x = some (oO 14 [vN, vN, vN, vN, vN, vI 0, vI 0, vI 0]))  : Ct E d 0 0 mJ4_init_3 [vR x, vN, vN, vI 0, vI 0] h (iP h x (oO 14 [vN, vN, vN, vN, vN, vI 0, vI 0, vI 0])) := by
  refine ct_of (by decide) (Nat.le_of_ble_eq_true rfl) rfl ?_
  obtain ⟨h0, hh0⟩ : ∃ h0, h0 = h := ⟨_, rfl⟩
  have fx0 : h0 x = some (oO 14 [vN, vN, vN, vN, vN, vI 0, vI 0, vI 0]) := by rw [hh0]; exact fx
  rw [← hh0]
  change G E d 0 0 mJ4_init_3 0 _ [] h0 (iP h0 x (oO 14 [vN, vN, vN, vN, vN, vI 0, vI 0, vI 0]))
  clear fx hh0
  obtain ⟨h, hh1⟩ : ∃ h, h = h0 := ⟨_, rfl⟩
  have fx : h x = some (oO 14 [vN, vN, vN, vN, vN, vI 0, vI 0, vI 0]) := by rw [hh1]; exact fx0
  have O1 : ∀ y, y ≠ x → h y = h0 y := by rw [hh1]; exact fun _ _ => rfl
  suffices hsuf : G E d 0 0 mJ4_init_3 0 _ [] h (iP h0 x (oO 14 [vN, vN, vN, vN, vN, vI 0, vI 0, vI 0])) by rw [hh1] at hsuf; exact hsuf
  clear hh1
  refine g_aload_n (pc := 0) dJ4_init_3_0 rfl ?_
  refine g_aload_n (pc := 1) dJ4_init_3_1 rfl ?_
  refine g_aload_n (pc := 2) dJ4_init_3_2 rfl ?_
  refine g_iload_n (pc := 3) dJ4_init_3_3 rfl ?_
  refine g_iload (pc := 4) dJ4_init_3_4 rfl ?_
  refine n_init (pc := 6) (M' := mJ3_init_3) (as := [_, _, _, _]) i_J4_16 eJ3_init_3 dJ4_init_3_6 (k_th3 (by omega) hro fx) (by omega) rfl rfl (Nat.le_of_ble_eq_true rfl) (fun h q9 o9 => ?_)
  replace fx := q9
  replace O1 := fun y hy => (o9 y hy).trans (O1 y hy)
  refine g_return (pc := 9) dJ4_init_3_9 rfl ?_
  exact ⟨rfl, fx, O1⟩
set_option maxHeartbeats 2000000 in
theorem k_Wrong {x : jN} (hd : 3 ≤ d) (hro : x.1 ≠ 0) (fx : h x = some (oO 14 [vN, vN, vN, vN, vN, vI 0, vI 0, vI 0])) (k p : Int32) : Ct E d 0 0 mX14_init [vR x, vI k, vI p] h (iP h x (oO 14 [vN, vN, vN, vN, vN, vI 0, vI k, vI p])) := by
  refine ct_of (by decide) (Nat.le_of_ble_eq_true rfl) rfl ?_
  obtain ⟨h0, hh0⟩ : ∃ h0, h0 = h := ⟨_, rfl⟩
  have fx0 : h0 x = some (oO 14 [vN, vN, vN, vN, vN, vI 0, vI 0, vI 0]) := by rw [hh0]; exact fx
  rw [← hh0]
  change G E d 0 0 mX14_init 0 _ [] h0 (iP h0 x (oO 14 [vN, vN, vN, vN, vN, vI 0, vI k, vI p]))
  clear fx hh0
  obtain ⟨h, hh1⟩ : ∃ h, h = h0 := ⟨_, rfl⟩
  have fx : h x = some (oO 14 [vN, vN, vN, vN, vN, vI 0, vI 0, vI 0]) := by rw [hh1]; exact fx0
  have O1 : ∀ y, y ≠ x → h y = h0 y := by rw [hh1]; exact fun _ _ => rfl
  suffices hsuf : G E d 0 0 mX14_init 0 _ [] h (iP h0 x (oO 14 [vN, vN, vN, vN, vN, vI 0, vI k, vI p])) by rw [hh1] at hsuf; exact hsuf
  clear hh1
  refine g_aload_n (pc := 0) dX14_init_0 rfl ?_
  refine g_null (pc := 1) dX14_init_1 ?_
  refine g_null (pc := 2) dX14_init_2 ?_
  refine g_iconst (pc := 3) (v := 0) dX14_init_3 (by decide) ?_
  refine g_iconst (pc := 4) (v := 0) dX14_init_4 (by decide) ?_
  refine n_init (pc := 5) (M' := mJ4_init_3) (as := [_, _, _, _]) i_X14_1 eJ4_init_3 dX14_init_5 (k_ex3 (by omega) hro fx) (by omega) rfl rfl (Nat.le_of_ble_eq_true rfl) (fun h q9 o9 => ?_)
  replace fx := q9
  replace O1 := fun y hy => (o9 y hy).trans (O1 y hy)
  refine g_aload_n (pc := 8) dX14_init_8 rfl ?_
  refine g_iload_n (pc := 9) dX14_init_9 rfl ?_
  refine n_putF (pc := 10) w_X14_7_14 dX14_init_10 fx (Nat.le_of_ble_eq_true rfl) hro (j_fit_int _) rfl rfl (fun h q9 o9 => ?_)
  replace fx := q9
  replace O1 := fun y hy => (o9 y hy).trans (O1 y hy)
  refine g_aload_n (pc := 13) dX14_init_13 rfl ?_
  refine g_iload_n (pc := 14) dX14_init_14 rfl ?_
  refine n_putF (pc := 15) w_X14_13_14 dX14_init_15 fx (Nat.le_of_ble_eq_true rfl) hro (j_fit_int _) rfl rfl (fun h q9 o9 => ?_)
  replace fx := q9
  replace O1 := fun y hy => (o9 y hy).trans (O1 y hy)
  refine g_return (pc := 18) dX14_init_18 rfl ?_
  exact ⟨rfl, fx, O1⟩
end
section
variable {E : jE} {d : Nat} {h : jH} {t : Nat → Nat} {n a : Nat} {T : Nat → Int32} {tp x : jN} {fr op : Int32} {rest : List jV} {P : jN → Prop}
set_option maxHeartbeats 2000000 in
theorem l_sign13 {bc bs : Nat} {h0 : jH} (hR : RH x tp n T t) : ∀ (m a : Nat) (h : jH), n - a = m → a ≤ n → h x = some (rdO 13 tp n a fr op rest) → h tp = some (bA 600 T) → (∀ y, y ≠ x → h y = h0 y) → G E d bc bs mX12_sign 0 [some (vR x)] [] h (rqQ h0 x (rdO 13 tp n (blF t m a) fr op rest) (some (vI (if blF t m a < n then cb (t (blF t m a)) else 0)))) := by
  obtain ⟨hx, hx9, hxt, hn, hT⟩ := id hR
  intro m
  induction m with
  | zero =>
    intro a h hm ha fx ft O1
    have e : a = n := by omega
    subst e
    refine g_aload_n (pc := 0) dX12_sign_0 rfl ?_
    refine g_getfield (pc := 1) f_X12_19_13 dX12_sign_1 fx rfl ?_
    refine g_aload_n (pc := 4) dX12_sign_4 rfl ?_
    refine g_getfield (pc := 5) f_X12_15_13 dX12_sign_5 fx rfl ?_
    refine g_icmp_ge (pc := 8) 38 dX12_sign_8 (by decide) (fun c_8 => ?_) (fun c_8 => absurd (nI_le (Nat.le_refl _) (by omega)) c_8)
    refine g_aload_n (pc := 38) dX12_sign_38 rfl ?_
    refine g_getfield (pc := 39) f_X12_19_13 dX12_sign_39 fx rfl ?_
    refine g_aload_n (pc := 42) dX12_sign_42 rfl ?_
    refine g_getfield (pc := 43) f_X12_15_13 dX12_sign_43 fx rfl ?_
    refine g_icmp_ge (pc := 46) 61 dX12_sign_46 (by decide) (fun c_46 => ?_) (fun c_46 => absurd (nI_le (Nat.le_refl _) (by omega)) c_46)
    refine g_iconst (pc := 61) (v := 0) dX12_sign_61 (by decide) ?_
    refine g_ireturn (pc := 62) dX12_sign_62 rfl (by first | exact rfl | exact j_nb _) ?_
    exact ⟨by rw [if_neg (show ¬ blF t 0 a < a from Nat.lt_irrefl a)], fx, O1⟩
  | succ m ih =>
    intro a h hm ha fx ft O1
    have hl : ¬ nI n ≤ nI a := fun w => by have := (nI_leI (by omega) (by omega)).mp w; omega
    have h256 := (hT a (by omega)).2
    refine g_aload_n (pc := 0) dX12_sign_0 rfl ?_
    refine g_getfield (pc := 1) f_X12_19_13 dX12_sign_1 fx rfl ?_
    refine g_aload_n (pc := 4) dX12_sign_4 rfl ?_
    refine g_getfield (pc := 5) f_X12_15_13 dX12_sign_5 fx rfl ?_
    refine g_icmp_ge (pc := 8) 38 dX12_sign_8 (by decide) (fun c_8 => absurd c_8 hl) (fun c_8 => ?_)
    refine g_aload_n (pc := 11) dX12_sign_11 rfl ?_
    refine g_getfield (pc := 12) f_X12_9_13 dX12_sign_12 fx rfl ?_
    refine g_aload_n (pc := 15) dX12_sign_15 rfl ?_
    refine g_getfield (pc := 16) f_X12_19_13 dX12_sign_16 fx rfl ?_
    refine g_baload (pc := 19) dX12_sign_19 ft (j := a) rfl (by omega) (by first | decide | omega) rfl ?_
    rw [(hT a (by omega)).1]
    refine g_bipush (pc := 20) (v := 32) dX12_sign_20 (by decide) ?_
    refine g_icmp_ne (pc := 22) 38 dX12_sign_22 (by decide) (fun c_22 => ?_) (fun c_22 => ?_)
    · refine g_aload_n (pc := 38) dX12_sign_38 rfl ?_
      refine g_getfield (pc := 39) f_X12_19_13 dX12_sign_39 fx rfl ?_
      refine g_aload_n (pc := 42) dX12_sign_42 rfl ?_
      refine g_getfield (pc := 43) f_X12_15_13 dX12_sign_43 fx rfl ?_
      refine g_icmp_ge (pc := 46) 61 dX12_sign_46 (by decide) (fun c_46 => absurd c_46 hl) (fun c_46 => ?_)
      refine g_aload_n (pc := 49) dX12_sign_49 rfl ?_
      refine g_getfield (pc := 50) f_X12_9_13 dX12_sign_50 fx rfl ?_
      refine g_aload_n (pc := 53) dX12_sign_53 rfl ?_
      refine g_getfield (pc := 54) f_X12_19_13 dX12_sign_54 fx rfl ?_
      refine g_baload (pc := 57) dX12_sign_57 ft (j := a) rfl (by omega) (by first | decide | omega) rfl ?_
      rw [(hT a (by omega)).1]
      refine g_goto (pc := 58) 62 dX12_sign_58 (by decide) ?_
      refine g_ireturn (pc := 62) dX12_sign_62 rfl (by first | exact rfl | exact j_nb _) ?_
      have e : blF t (m + 1) a = a := if_neg (fun w => c_22 ((cb_eq h256 (c := 32) (by decide)).mpr w))
      rw [e]
      exact ⟨by rw [if_pos (by omega)], fx, O1⟩
    · refine g_aload_n (pc := 25) dX12_sign_25 rfl ?_
      refine g_dup (pc := 26) dX12_sign_26 rfl ?_
      refine g_getfield (pc := 27) f_X12_19_13 dX12_sign_27 fx rfl ?_
      refine g_iconst (pc := 30) (v := 1) dX12_sign_30 (by decide) ?_
      refine g_iadd (pc := 31) dX12_sign_31 ?_
      rw [nI_1]
      refine n_put (pc := 32) w_X12_19_13 dX12_sign_32 fx (Nat.le_of_ble_eq_true rfl) hx (j_fit_int _) rfl (fun h q9 o9 => ?_)
      replace ft := (o9 _ (hxt).symm).trans ft
      replace fx := q9
      replace O1 := fun y hy => (o9 y hy).trans (O1 y hy)
      refine g_goto (pc := 35) 0 dX12_sign_35 (by decide) ?_
      have e : blF t (m + 1) a = blF t m (a + 1) := if_pos ((cb_eq h256 (c := 32) (by decide)).mp c_22)
      rw [e]
      exact ih (a + 1) h (by omega) (by omega) fx ft O1
theorem k_sign13 (hR : RH x tp n T t) (ha : a ≤ n) (fx : h x = some (rdO 13 tp n a fr op rest)) (ft : h tp = some (bA 600 T)) : Ct E d 0 0 mX12_sign [vR x] h (rqQ h x (rdO 13 tp n (bl t n a) fr op rest) (some (vI (sgC t n a)))) := by
  refine ct_of (by decide) (Nat.le_of_ble_eq_true rfl) rfl ?_
  exact l_sign13 hR (n - a) a h rfl ha fx ft (fun _ _ => rfl)
def wgQ13 (h : jH) (a : Nat) : jR → jH → Prop := fun r h' => ∃ b : Nat, r = .inl (some (vR (92, b))) ∧ h' (92, b) = some (wrO 1 (nI a)) ∧ (∀ k, h (k, b) = none) ∧ (∀ y o, h y = some o → h' y = some o) ∧ cFr h h'
set_option maxHeartbeats 2000000 in
theorem k_wrong13 (hd : 5 ≤ d) (fx : h x = some (rdO 13 tp n a fr op rest)) : Ct E d 1 8 mX12_wrong [vR x] h (wgQ13 h a) := by
  refine ct_of (by decide) (Nat.le_of_ble_eq_true rfl) rfl ?_
  refine n_new (pc := 0) (fs := [vN, vN, vN, vN, vN, vI 0, vI 0, vI 0]) 92 k_X14 q1126 q1127 q132 dX12_wrong_0 (fun j hj => by match j, hj with | 0, _ => rfl | 1, _ => rfl | 2, _ => rfl | 3, _ => rfl | 4, _ => rfl | 5, _ => rfl | 6, _ => rfl | 7, _ => rfl | j + 8, hj => exact absurd hj (by omega)) (by omega) (by omega) (fun b9 h9 q8 n9 o8 => ?_)
  refine g_dup (pc := 3) dX12_wrong_3 rfl ?_
  refine g_iconst (pc := 4) (v := 1) dX12_wrong_4 (by decide) ?_
  refine g_aload_n (pc := 5) dX12_wrong_5 rfl ?_
  refine g_getfield (pc := 6) f_X12_19_13 dX12_wrong_6 ((o8 _ (ne_new fx n9)).trans fx) rfl ?_
  refine n_init (pc := 9) (M' := mX14_init) (as := [_, _]) i_X12_42 eX14_init dX12_wrong_9 (k_Wrong (x := (92, b9)) (by omega) (by show 92 ≠ 0; decide) q8 _ _) (by omega) rfl rfl (Nat.le_of_ble_eq_true rfl) (fun h2 q9 o9 => ?_)
  refine g_areturn (pc := 12) dX12_wrong_12 rfl (by first | exact Or.inl ⟨_, rfl⟩ | exact Or.inr ⟨_, rfl⟩) ?_
  exact ⟨b9, rfl, q9, n9, fun y o k => (o9 _ (ne_new k n9)).trans ((o8 _ (ne_new k n9)).trans k), cFr.tr (cFr.at (by show 92 < 900; decide) o8) (cFr.at (by show 92 < 900; decide) o9)⟩
def ndQ13 (P : jN → Prop) (h : jH) (x tp : jN) (n : Nat) (fr op : Int32) (rest : List jV) (q : pR Unit) : jR → jH → Prop := fun r h' => match q with
  | .inl e => wrX P h e r h'
  | .inr p => rqQ h x (rdO 13 tp n p.1 fr op rest) none r h'
set_option maxHeartbeats 2000000 in
theorem k_need13 {k : Nat} (hd : 7 ≤ d) (hR : RH x tp n T t) (hP : P x) (h1 : 1 ≤ k) (hk : k < 128) (ha : a ≤ n) (fx : h x = some (rdO 13 tp n a fr op rest)) (ft : h tp = some (bA 600 T)) : Ct E d 1 8 mX12_need [vR x, vI (nI k)] h (ndQ13 P h x tp n fr op rest (sgP t n (nI k) a)) := by
  refine ct_of (by decide) (Nat.le_of_ble_eq_true rfl) rfl ?_
  obtain ⟨hx, hx9, hxt, hn, hT⟩ := id hR
  have O1 : ∀ y, y ≠ x → h y = h y := fun _ _ => rfl
  obtain ⟨h0, hh0⟩ : ∃ h0, h0 = h := ⟨_, rfl⟩
  have O1 : ∀ y, y ≠ x → h y = h0 y := fun y _ => by rw [hh0]
  suffices hsuf : G E d 1 8 mX12_need 0 _ [] h (ndQ13 P h0 x tp n fr op rest (sgP t n (nI k) a)) by rw [hh0] at hsuf; exact hsuf
  clear hh0
  refine g_aload_n (pc := 0) dX12_need_0 rfl ?_
  refine g_callV (pc := 1) (M' := mX12_sign) (as := []) (ci := 13) rfl i_X12_22_13 eX12_sign dX12_need_1 fx (k_sign13 hR ha fx ft) (by omega) rfl rfl (Nat.le_of_ble_eq_true rfl) (by omega) (by omega) (fun C9 x9 h9 q9 => ?_) (fun r9 h9 q9 => ?_)
  · cases q9.1
  obtain ⟨e9, fx', o9⟩ := q9
  cases e9
  replace ft := (o9 _ hxt.symm).trans ft
  replace fx := fx'
  replace O1 := fun y hy => (o9 y hy).trans (O1 y hy)
  refine g_iload_n (pc := 4) dX12_need_4 rfl ?_
  refine g_icmp_eq (pc := 5) 13 dX12_need_5 (by decide) (fun c_5 => ?_) (fun c_5 => ?_)
  · refine g_aload_n (pc := 13) dX12_need_13 rfl ?_
    refine g_dup (pc := 14) dX12_need_14 rfl ?_
    refine g_getfield (pc := 15) f_X12_19_13 dX12_need_15 fx rfl ?_
    refine g_iconst (pc := 18) (v := 1) dX12_need_18 (by decide) ?_
    refine g_iadd (pc := 19) dX12_need_19 ?_
    rw [nI_1]
    refine n_put (pc := 20) w_X12_19_13 dX12_need_20 fx (Nat.le_of_ble_eq_true rfl) hx (j_fit_int _) rfl (fun h q9 o9 => ?_)
    replace ft := (o9 _ (hxt).symm).trans ft
    replace fx := q9
    replace O1 := fun y hy => (o9 y hy).trans (O1 y hy)
    refine g_return (pc := 23) dX12_need_23 rfl ?_
    have e : sgP t n (nI k) a = .inr (bl t n a + 1, ()) := if_pos ((sg_eq h1 hk hn hR.t).mp c_5)
    rw [e]
    exact ⟨rfl, fx, O1⟩
  · refine g_aload_n (pc := 8) dX12_need_8 rfl ?_
    refine g_callV (pc := 9) (M' := mX12_wrong) (as := []) (ci := 13) rfl i_X12_45_13 eX12_wrong dX12_need_9 fx (k_wrong13 (by omega) fx) (by omega) rfl rfl (Nat.le_of_ble_eq_true rfl) (by omega) (by omega) (fun C9 x9 h9 q9 => ?_) (fun r9 h9 q9 => ?_)
    · obtain ⟨b9, e9, -⟩ := q9
      cases e9
    obtain ⟨b9, e9, w9, n9, E9, C9⟩ := q9
    cases e9
    refine g_athrow (pc := 12) (ci := 14) rfl dX12_need_12 w9 (gx_out (fun z hz => absurd hz List.not_mem_nil) ?_)
    have e : sgP t n (nI k) a = .inl (1, bl t n a) := if_neg (fun w => c_5 ((sg_eq h1 hk hn hR.t).mpr w))
    rw [e]
    exact ⟨b9, rfl, w9, (kp.at hP hx9 O1).tr (kp.ex E9 C9)⟩
end
section
variable {E : jE} {d : Nat} {h : jH} {t : Nat → Nat} {n a : Nat} {T : Nat → Int32} {tp x : jN} {fr op : Int32} {rest : List jV} {P : jN → Prop}
set_option maxHeartbeats 2000000 in
theorem l_sign17 {bc bs : Nat} {h0 : jH} (hR : RH x tp n T t) : ∀ (m a : Nat) (h : jH), n - a = m → a ≤ n → h x = some (rdO 17 tp n a fr op rest) → h tp = some (bA 600 T) → (∀ y, y ≠ x → h y = h0 y) → G E d bc bs mX12_sign 0 [some (vR x)] [] h (rqQ h0 x (rdO 17 tp n (blF t m a) fr op rest) (some (vI (if blF t m a < n then cb (t (blF t m a)) else 0)))) := by
  obtain ⟨hx, hx9, hxt, hn, hT⟩ := id hR
  intro m
  induction m with
  | zero =>
    intro a h hm ha fx ft O1
    have e : a = n := by omega
    subst e
    refine g_aload_n (pc := 0) dX12_sign_0 rfl ?_
    refine g_getfield (pc := 1) f_X12_19_17 dX12_sign_1 fx rfl ?_
    refine g_aload_n (pc := 4) dX12_sign_4 rfl ?_
    refine g_getfield (pc := 5) f_X12_15_17 dX12_sign_5 fx rfl ?_
    refine g_icmp_ge (pc := 8) 38 dX12_sign_8 (by decide) (fun c_8 => ?_) (fun c_8 => absurd (nI_le (Nat.le_refl _) (by omega)) c_8)
    refine g_aload_n (pc := 38) dX12_sign_38 rfl ?_
    refine g_getfield (pc := 39) f_X12_19_17 dX12_sign_39 fx rfl ?_
    refine g_aload_n (pc := 42) dX12_sign_42 rfl ?_
    refine g_getfield (pc := 43) f_X12_15_17 dX12_sign_43 fx rfl ?_
    refine g_icmp_ge (pc := 46) 61 dX12_sign_46 (by decide) (fun c_46 => ?_) (fun c_46 => absurd (nI_le (Nat.le_refl _) (by omega)) c_46)
    refine g_iconst (pc := 61) (v := 0) dX12_sign_61 (by decide) ?_
    refine g_ireturn (pc := 62) dX12_sign_62 rfl (by first | exact rfl | exact j_nb _) ?_
    exact ⟨by rw [if_neg (show ¬ blF t 0 a < a from Nat.lt_irrefl a)], fx, O1⟩
  | succ m ih =>
    intro a h hm ha fx ft O1
    have hl : ¬ nI n ≤ nI a := fun w => by have := (nI_leI (by omega) (by omega)).mp w; omega
    have h256 := (hT a (by omega)).2
    refine g_aload_n (pc := 0) dX12_sign_0 rfl ?_
    refine g_getfield (pc := 1) f_X12_19_17 dX12_sign_1 fx rfl ?_
    refine g_aload_n (pc := 4) dX12_sign_4 rfl ?_
    refine g_getfield (pc := 5) f_X12_15_17 dX12_sign_5 fx rfl ?_
    refine g_icmp_ge (pc := 8) 38 dX12_sign_8 (by decide) (fun c_8 => absurd c_8 hl) (fun c_8 => ?_)
    refine g_aload_n (pc := 11) dX12_sign_11 rfl ?_
    refine g_getfield (pc := 12) f_X12_9_17 dX12_sign_12 fx rfl ?_
    refine g_aload_n (pc := 15) dX12_sign_15 rfl ?_
    refine g_getfield (pc := 16) f_X12_19_17 dX12_sign_16 fx rfl ?_
    refine g_baload (pc := 19) dX12_sign_19 ft (j := a) rfl (by omega) (by first | decide | omega) rfl ?_
    rw [(hT a (by omega)).1]
    refine g_bipush (pc := 20) (v := 32) dX12_sign_20 (by decide) ?_
    refine g_icmp_ne (pc := 22) 38 dX12_sign_22 (by decide) (fun c_22 => ?_) (fun c_22 => ?_)
    · refine g_aload_n (pc := 38) dX12_sign_38 rfl ?_
      refine g_getfield (pc := 39) f_X12_19_17 dX12_sign_39 fx rfl ?_
      refine g_aload_n (pc := 42) dX12_sign_42 rfl ?_
      refine g_getfield (pc := 43) f_X12_15_17 dX12_sign_43 fx rfl ?_
      refine g_icmp_ge (pc := 46) 61 dX12_sign_46 (by decide) (fun c_46 => absurd c_46 hl) (fun c_46 => ?_)
      refine g_aload_n (pc := 49) dX12_sign_49 rfl ?_
      refine g_getfield (pc := 50) f_X12_9_17 dX12_sign_50 fx rfl ?_
      refine g_aload_n (pc := 53) dX12_sign_53 rfl ?_
      refine g_getfield (pc := 54) f_X12_19_17 dX12_sign_54 fx rfl ?_
      refine g_baload (pc := 57) dX12_sign_57 ft (j := a) rfl (by omega) (by first | decide | omega) rfl ?_
      rw [(hT a (by omega)).1]
      refine g_goto (pc := 58) 62 dX12_sign_58 (by decide) ?_
      refine g_ireturn (pc := 62) dX12_sign_62 rfl (by first | exact rfl | exact j_nb _) ?_
      have e : blF t (m + 1) a = a := if_neg (fun w => c_22 ((cb_eq h256 (c := 32) (by decide)).mpr w))
      rw [e]
      exact ⟨by rw [if_pos (by omega)], fx, O1⟩
    · refine g_aload_n (pc := 25) dX12_sign_25 rfl ?_
      refine g_dup (pc := 26) dX12_sign_26 rfl ?_
      refine g_getfield (pc := 27) f_X12_19_17 dX12_sign_27 fx rfl ?_
      refine g_iconst (pc := 30) (v := 1) dX12_sign_30 (by decide) ?_
      refine g_iadd (pc := 31) dX12_sign_31 ?_
      rw [nI_1]
      refine n_put (pc := 32) w_X12_19_17 dX12_sign_32 fx (Nat.le_of_ble_eq_true rfl) hx (j_fit_int _) rfl (fun h q9 o9 => ?_)
      replace ft := (o9 _ (hxt).symm).trans ft
      replace fx := q9
      replace O1 := fun y hy => (o9 y hy).trans (O1 y hy)
      refine g_goto (pc := 35) 0 dX12_sign_35 (by decide) ?_
      have e : blF t (m + 1) a = blF t m (a + 1) := if_pos ((cb_eq h256 (c := 32) (by decide)).mp c_22)
      rw [e]
      exact ih (a + 1) h (by omega) (by omega) fx ft O1
theorem k_sign17 (hR : RH x tp n T t) (ha : a ≤ n) (fx : h x = some (rdO 17 tp n a fr op rest)) (ft : h tp = some (bA 600 T)) : Ct E d 0 0 mX12_sign [vR x] h (rqQ h x (rdO 17 tp n (bl t n a) fr op rest) (some (vI (sgC t n a)))) := by
  refine ct_of (by decide) (Nat.le_of_ble_eq_true rfl) rfl ?_
  exact l_sign17 hR (n - a) a h rfl ha fx ft (fun _ _ => rfl)
def wgQ17 (h : jH) (a : Nat) : jR → jH → Prop := fun r h' => ∃ b : Nat, r = .inl (some (vR (92, b))) ∧ h' (92, b) = some (wrO 1 (nI a)) ∧ (∀ k, h (k, b) = none) ∧ (∀ y o, h y = some o → h' y = some o) ∧ cFr h h'
set_option maxHeartbeats 2000000 in
theorem k_wrong17 (hd : 5 ≤ d) (fx : h x = some (rdO 17 tp n a fr op rest)) : Ct E d 1 8 mX12_wrong [vR x] h (wgQ17 h a) := by
  refine ct_of (by decide) (Nat.le_of_ble_eq_true rfl) rfl ?_
  refine n_new (pc := 0) (fs := [vN, vN, vN, vN, vN, vI 0, vI 0, vI 0]) 92 k_X14 q1126 q1127 q132 dX12_wrong_0 (fun j hj => by match j, hj with | 0, _ => rfl | 1, _ => rfl | 2, _ => rfl | 3, _ => rfl | 4, _ => rfl | 5, _ => rfl | 6, _ => rfl | 7, _ => rfl | j + 8, hj => exact absurd hj (by omega)) (by omega) (by omega) (fun b9 h9 q8 n9 o8 => ?_)
  refine g_dup (pc := 3) dX12_wrong_3 rfl ?_
  refine g_iconst (pc := 4) (v := 1) dX12_wrong_4 (by decide) ?_
  refine g_aload_n (pc := 5) dX12_wrong_5 rfl ?_
  refine g_getfield (pc := 6) f_X12_19_17 dX12_wrong_6 ((o8 _ (ne_new fx n9)).trans fx) rfl ?_
  refine n_init (pc := 9) (M' := mX14_init) (as := [_, _]) i_X12_42 eX14_init dX12_wrong_9 (k_Wrong (x := (92, b9)) (by omega) (by show 92 ≠ 0; decide) q8 _ _) (by omega) rfl rfl (Nat.le_of_ble_eq_true rfl) (fun h2 q9 o9 => ?_)
  refine g_areturn (pc := 12) dX12_wrong_12 rfl (by first | exact Or.inl ⟨_, rfl⟩ | exact Or.inr ⟨_, rfl⟩) ?_
  exact ⟨b9, rfl, q9, n9, fun y o k => (o9 _ (ne_new k n9)).trans ((o8 _ (ne_new k n9)).trans k), cFr.tr (cFr.at (by show 92 < 900; decide) o8) (cFr.at (by show 92 < 900; decide) o9)⟩
def ndQ17 (P : jN → Prop) (h : jH) (x tp : jN) (n : Nat) (fr op : Int32) (rest : List jV) (q : pR Unit) : jR → jH → Prop := fun r h' => match q with
  | .inl e => wrX P h e r h'
  | .inr p => rqQ h x (rdO 17 tp n p.1 fr op rest) none r h'
set_option maxHeartbeats 2000000 in
theorem k_need17 {k : Nat} (hd : 7 ≤ d) (hR : RH x tp n T t) (hP : P x) (h1 : 1 ≤ k) (hk : k < 128) (ha : a ≤ n) (fx : h x = some (rdO 17 tp n a fr op rest)) (ft : h tp = some (bA 600 T)) : Ct E d 1 8 mX12_need [vR x, vI (nI k)] h (ndQ17 P h x tp n fr op rest (sgP t n (nI k) a)) := by
  refine ct_of (by decide) (Nat.le_of_ble_eq_true rfl) rfl ?_
  obtain ⟨hx, hx9, hxt, hn, hT⟩ := id hR
  have O1 : ∀ y, y ≠ x → h y = h y := fun _ _ => rfl
  obtain ⟨h0, hh0⟩ : ∃ h0, h0 = h := ⟨_, rfl⟩
  have O1 : ∀ y, y ≠ x → h y = h0 y := fun y _ => by rw [hh0]
  suffices hsuf : G E d 1 8 mX12_need 0 _ [] h (ndQ17 P h0 x tp n fr op rest (sgP t n (nI k) a)) by rw [hh0] at hsuf; exact hsuf
  clear hh0
  refine g_aload_n (pc := 0) dX12_need_0 rfl ?_
  refine g_callV (pc := 1) (M' := mX12_sign) (as := []) (ci := 17) rfl i_X12_22_17 eX12_sign dX12_need_1 fx (k_sign17 hR ha fx ft) (by omega) rfl rfl (Nat.le_of_ble_eq_true rfl) (by omega) (by omega) (fun C9 x9 h9 q9 => ?_) (fun r9 h9 q9 => ?_)
  · cases q9.1
  obtain ⟨e9, fx', o9⟩ := q9
  cases e9
  replace ft := (o9 _ hxt.symm).trans ft
  replace fx := fx'
  replace O1 := fun y hy => (o9 y hy).trans (O1 y hy)
  refine g_iload_n (pc := 4) dX12_need_4 rfl ?_
  refine g_icmp_eq (pc := 5) 13 dX12_need_5 (by decide) (fun c_5 => ?_) (fun c_5 => ?_)
  · refine g_aload_n (pc := 13) dX12_need_13 rfl ?_
    refine g_dup (pc := 14) dX12_need_14 rfl ?_
    refine g_getfield (pc := 15) f_X12_19_17 dX12_need_15 fx rfl ?_
    refine g_iconst (pc := 18) (v := 1) dX12_need_18 (by decide) ?_
    refine g_iadd (pc := 19) dX12_need_19 ?_
    rw [nI_1]
    refine n_put (pc := 20) w_X12_19_17 dX12_need_20 fx (Nat.le_of_ble_eq_true rfl) hx (j_fit_int _) rfl (fun h q9 o9 => ?_)
    replace ft := (o9 _ (hxt).symm).trans ft
    replace fx := q9
    replace O1 := fun y hy => (o9 y hy).trans (O1 y hy)
    refine g_return (pc := 23) dX12_need_23 rfl ?_
    have e : sgP t n (nI k) a = .inr (bl t n a + 1, ()) := if_pos ((sg_eq h1 hk hn hR.t).mp c_5)
    rw [e]
    exact ⟨rfl, fx, O1⟩
  · refine g_aload_n (pc := 8) dX12_need_8 rfl ?_
    refine g_callV (pc := 9) (M' := mX12_wrong) (as := []) (ci := 17) rfl i_X12_45_17 eX12_wrong dX12_need_9 fx (k_wrong17 (by omega) fx) (by omega) rfl rfl (Nat.le_of_ble_eq_true rfl) (by omega) (by omega) (fun C9 x9 h9 q9 => ?_) (fun r9 h9 q9 => ?_)
    · obtain ⟨b9, e9, -⟩ := q9
      cases e9
    obtain ⟨b9, e9, w9, n9, E9, C9⟩ := q9
    cases e9
    refine g_athrow (pc := 12) (ci := 14) rfl dX12_need_12 w9 (gx_out (fun z hz => absurd hz List.not_mem_nil) ?_)
    have e : sgP t n (nI k) a = .inl (1, bl t n a) := if_neg (fun w => c_5 ((sg_eq h1 hk hn hR.t).mpr w))
    rw [e]
    exact ⟨b9, rfl, w9, (kp.at hP hx9 O1).tr (kp.ex E9 C9)⟩
end
section
variable {E : jE} {d : Nat} {h : jH} {t : Nat → Nat} {n a : Nat} {T : Nat → Int32} {tp x : jN} {fr op : Int32} {rest : List jV} {P : jN → Prop}
set_option maxHeartbeats 2000000 in
theorem l_sign22 {bc bs : Nat} {h0 : jH} (hR : RH x tp n T t) : ∀ (m a : Nat) (h : jH), n - a = m → a ≤ n → h x = some (rdO 22 tp n a fr op rest) → h tp = some (bA 600 T) → (∀ y, y ≠ x → h y = h0 y) → G E d bc bs mX12_sign 0 [some (vR x)] [] h (rqQ h0 x (rdO 22 tp n (blF t m a) fr op rest) (some (vI (if blF t m a < n then cb (t (blF t m a)) else 0)))) := by
  obtain ⟨hx, hx9, hxt, hn, hT⟩ := id hR
  intro m
  induction m with
  | zero =>
    intro a h hm ha fx ft O1
    have e : a = n := by omega
    subst e
    refine g_aload_n (pc := 0) dX12_sign_0 rfl ?_
    refine g_getfield (pc := 1) f_X12_19_22 dX12_sign_1 fx rfl ?_
    refine g_aload_n (pc := 4) dX12_sign_4 rfl ?_
    refine g_getfield (pc := 5) f_X12_15_22 dX12_sign_5 fx rfl ?_
    refine g_icmp_ge (pc := 8) 38 dX12_sign_8 (by decide) (fun c_8 => ?_) (fun c_8 => absurd (nI_le (Nat.le_refl _) (by omega)) c_8)
    refine g_aload_n (pc := 38) dX12_sign_38 rfl ?_
    refine g_getfield (pc := 39) f_X12_19_22 dX12_sign_39 fx rfl ?_
    refine g_aload_n (pc := 42) dX12_sign_42 rfl ?_
    refine g_getfield (pc := 43) f_X12_15_22 dX12_sign_43 fx rfl ?_
    refine g_icmp_ge (pc := 46) 61 dX12_sign_46 (by decide) (fun c_46 => ?_) (fun c_46 => absurd (nI_le (Nat.le_refl _) (by omega)) c_46)
    refine g_iconst (pc := 61) (v := 0) dX12_sign_61 (by decide) ?_
    refine g_ireturn (pc := 62) dX12_sign_62 rfl (by first | exact rfl | exact j_nb _) ?_
    exact ⟨by rw [if_neg (show ¬ blF t 0 a < a from Nat.lt_irrefl a)], fx, O1⟩
  | succ m ih =>
    intro a h hm ha fx ft O1
    have hl : ¬ nI n ≤ nI a := fun w => by have := (nI_leI (by omega) (by omega)).mp w; omega
    have h256 := (hT a (by omega)).2
    refine g_aload_n (pc := 0) dX12_sign_0 rfl ?_
    refine g_getfield (pc := 1) f_X12_19_22 dX12_sign_1 fx rfl ?_
    refine g_aload_n (pc := 4) dX12_sign_4 rfl ?_
    refine g_getfield (pc := 5) f_X12_15_22 dX12_sign_5 fx rfl ?_
    refine g_icmp_ge (pc := 8) 38 dX12_sign_8 (by decide) (fun c_8 => absurd c_8 hl) (fun c_8 => ?_)
    refine g_aload_n (pc := 11) dX12_sign_11 rfl ?_
    refine g_getfield (pc := 12) f_X12_9_22 dX12_sign_12 fx rfl ?_
    refine g_aload_n (pc := 15) dX12_sign_15 rfl ?_
    refine g_getfield (pc := 16) f_X12_19_22 dX12_sign_16 fx rfl ?_
    refine g_baload (pc := 19) dX12_sign_19 ft (j := a) rfl (by omega) (by first | decide | omega) rfl ?_
    rw [(hT a (by omega)).1]
    refine g_bipush (pc := 20) (v := 32) dX12_sign_20 (by decide) ?_
    refine g_icmp_ne (pc := 22) 38 dX12_sign_22 (by decide) (fun c_22 => ?_) (fun c_22 => ?_)
    · refine g_aload_n (pc := 38) dX12_sign_38 rfl ?_
      refine g_getfield (pc := 39) f_X12_19_22 dX12_sign_39 fx rfl ?_
      refine g_aload_n (pc := 42) dX12_sign_42 rfl ?_
      refine g_getfield (pc := 43) f_X12_15_22 dX12_sign_43 fx rfl ?_
      refine g_icmp_ge (pc := 46) 61 dX12_sign_46 (by decide) (fun c_46 => absurd c_46 hl) (fun c_46 => ?_)
      refine g_aload_n (pc := 49) dX12_sign_49 rfl ?_
      refine g_getfield (pc := 50) f_X12_9_22 dX12_sign_50 fx rfl ?_
      refine g_aload_n (pc := 53) dX12_sign_53 rfl ?_
      refine g_getfield (pc := 54) f_X12_19_22 dX12_sign_54 fx rfl ?_
      refine g_baload (pc := 57) dX12_sign_57 ft (j := a) rfl (by omega) (by first | decide | omega) rfl ?_
      rw [(hT a (by omega)).1]
      refine g_goto (pc := 58) 62 dX12_sign_58 (by decide) ?_
      refine g_ireturn (pc := 62) dX12_sign_62 rfl (by first | exact rfl | exact j_nb _) ?_
      have e : blF t (m + 1) a = a := if_neg (fun w => c_22 ((cb_eq h256 (c := 32) (by decide)).mpr w))
      rw [e]
      exact ⟨by rw [if_pos (by omega)], fx, O1⟩
    · refine g_aload_n (pc := 25) dX12_sign_25 rfl ?_
      refine g_dup (pc := 26) dX12_sign_26 rfl ?_
      refine g_getfield (pc := 27) f_X12_19_22 dX12_sign_27 fx rfl ?_
      refine g_iconst (pc := 30) (v := 1) dX12_sign_30 (by decide) ?_
      refine g_iadd (pc := 31) dX12_sign_31 ?_
      rw [nI_1]
      refine n_put (pc := 32) w_X12_19_22 dX12_sign_32 fx (Nat.le_of_ble_eq_true rfl) hx (j_fit_int _) rfl (fun h q9 o9 => ?_)
      replace ft := (o9 _ (hxt).symm).trans ft
      replace fx := q9
      replace O1 := fun y hy => (o9 y hy).trans (O1 y hy)
      refine g_goto (pc := 35) 0 dX12_sign_35 (by decide) ?_
      have e : blF t (m + 1) a = blF t m (a + 1) := if_pos ((cb_eq h256 (c := 32) (by decide)).mp c_22)
      rw [e]
      exact ih (a + 1) h (by omega) (by omega) fx ft O1
theorem k_sign22 (hR : RH x tp n T t) (ha : a ≤ n) (fx : h x = some (rdO 22 tp n a fr op rest)) (ft : h tp = some (bA 600 T)) : Ct E d 0 0 mX12_sign [vR x] h (rqQ h x (rdO 22 tp n (bl t n a) fr op rest) (some (vI (sgC t n a)))) := by
  refine ct_of (by decide) (Nat.le_of_ble_eq_true rfl) rfl ?_
  exact l_sign22 hR (n - a) a h rfl ha fx ft (fun _ _ => rfl)
def wgQ22 (h : jH) (a : Nat) : jR → jH → Prop := fun r h' => ∃ b : Nat, r = .inl (some (vR (92, b))) ∧ h' (92, b) = some (wrO 1 (nI a)) ∧ (∀ k, h (k, b) = none) ∧ (∀ y o, h y = some o → h' y = some o) ∧ cFr h h'
set_option maxHeartbeats 2000000 in
theorem k_wrong22 (hd : 5 ≤ d) (fx : h x = some (rdO 22 tp n a fr op rest)) : Ct E d 1 8 mX12_wrong [vR x] h (wgQ22 h a) := by
  refine ct_of (by decide) (Nat.le_of_ble_eq_true rfl) rfl ?_
  refine n_new (pc := 0) (fs := [vN, vN, vN, vN, vN, vI 0, vI 0, vI 0]) 92 k_X14 q1126 q1127 q132 dX12_wrong_0 (fun j hj => by match j, hj with | 0, _ => rfl | 1, _ => rfl | 2, _ => rfl | 3, _ => rfl | 4, _ => rfl | 5, _ => rfl | 6, _ => rfl | 7, _ => rfl | j + 8, hj => exact absurd hj (by omega)) (by omega) (by omega) (fun b9 h9 q8 n9 o8 => ?_)
  refine g_dup (pc := 3) dX12_wrong_3 rfl ?_
  refine g_iconst (pc := 4) (v := 1) dX12_wrong_4 (by decide) ?_
  refine g_aload_n (pc := 5) dX12_wrong_5 rfl ?_
  refine g_getfield (pc := 6) f_X12_19_22 dX12_wrong_6 ((o8 _ (ne_new fx n9)).trans fx) rfl ?_
  refine n_init (pc := 9) (M' := mX14_init) (as := [_, _]) i_X12_42 eX14_init dX12_wrong_9 (k_Wrong (x := (92, b9)) (by omega) (by show 92 ≠ 0; decide) q8 _ _) (by omega) rfl rfl (Nat.le_of_ble_eq_true rfl) (fun h2 q9 o9 => ?_)
  refine g_areturn (pc := 12) dX12_wrong_12 rfl (by first | exact Or.inl ⟨_, rfl⟩ | exact Or.inr ⟨_, rfl⟩) ?_
  exact ⟨b9, rfl, q9, n9, fun y o k => (o9 _ (ne_new k n9)).trans ((o8 _ (ne_new k n9)).trans k), cFr.tr (cFr.at (by show 92 < 900; decide) o8) (cFr.at (by show 92 < 900; decide) o9)⟩
def ndQ22 (P : jN → Prop) (h : jH) (x tp : jN) (n : Nat) (fr op : Int32) (rest : List jV) (q : pR Unit) : jR → jH → Prop := fun r h' => match q with
  | .inl e => wrX P h e r h'
  | .inr p => rqQ h x (rdO 22 tp n p.1 fr op rest) none r h'
set_option maxHeartbeats 2000000 in
theorem k_need22 {k : Nat} (hd : 7 ≤ d) (hR : RH x tp n T t) (hP : P x) (h1 : 1 ≤ k) (hk : k < 128) (ha : a ≤ n) (fx : h x = some (rdO 22 tp n a fr op rest)) (ft : h tp = some (bA 600 T)) : Ct E d 1 8 mX12_need [vR x, vI (nI k)] h (ndQ22 P h x tp n fr op rest (sgP t n (nI k) a)) := by
  refine ct_of (by decide) (Nat.le_of_ble_eq_true rfl) rfl ?_
  obtain ⟨hx, hx9, hxt, hn, hT⟩ := id hR
  have O1 : ∀ y, y ≠ x → h y = h y := fun _ _ => rfl
  obtain ⟨h0, hh0⟩ : ∃ h0, h0 = h := ⟨_, rfl⟩
  have O1 : ∀ y, y ≠ x → h y = h0 y := fun y _ => by rw [hh0]
  suffices hsuf : G E d 1 8 mX12_need 0 _ [] h (ndQ22 P h0 x tp n fr op rest (sgP t n (nI k) a)) by rw [hh0] at hsuf; exact hsuf
  clear hh0
  refine g_aload_n (pc := 0) dX12_need_0 rfl ?_
  refine g_callV (pc := 1) (M' := mX12_sign) (as := []) (ci := 22) rfl i_X12_22_22 eX12_sign dX12_need_1 fx (k_sign22 hR ha fx ft) (by omega) rfl rfl (Nat.le_of_ble_eq_true rfl) (by omega) (by omega) (fun C9 x9 h9 q9 => ?_) (fun r9 h9 q9 => ?_)
  · cases q9.1
  obtain ⟨e9, fx', o9⟩ := q9
  cases e9
  replace ft := (o9 _ hxt.symm).trans ft
  replace fx := fx'
  replace O1 := fun y hy => (o9 y hy).trans (O1 y hy)
  refine g_iload_n (pc := 4) dX12_need_4 rfl ?_
  refine g_icmp_eq (pc := 5) 13 dX12_need_5 (by decide) (fun c_5 => ?_) (fun c_5 => ?_)
  · refine g_aload_n (pc := 13) dX12_need_13 rfl ?_
    refine g_dup (pc := 14) dX12_need_14 rfl ?_
    refine g_getfield (pc := 15) f_X12_19_22 dX12_need_15 fx rfl ?_
    refine g_iconst (pc := 18) (v := 1) dX12_need_18 (by decide) ?_
    refine g_iadd (pc := 19) dX12_need_19 ?_
    rw [nI_1]
    refine n_put (pc := 20) w_X12_19_22 dX12_need_20 fx (Nat.le_of_ble_eq_true rfl) hx (j_fit_int _) rfl (fun h q9 o9 => ?_)
    replace ft := (o9 _ (hxt).symm).trans ft
    replace fx := q9
    replace O1 := fun y hy => (o9 y hy).trans (O1 y hy)
    refine g_return (pc := 23) dX12_need_23 rfl ?_
    have e : sgP t n (nI k) a = .inr (bl t n a + 1, ()) := if_pos ((sg_eq h1 hk hn hR.t).mp c_5)
    rw [e]
    exact ⟨rfl, fx, O1⟩
  · refine g_aload_n (pc := 8) dX12_need_8 rfl ?_
    refine g_callV (pc := 9) (M' := mX12_wrong) (as := []) (ci := 22) rfl i_X12_45_22 eX12_wrong dX12_need_9 fx (k_wrong22 (by omega) fx) (by omega) rfl rfl (Nat.le_of_ble_eq_true rfl) (by omega) (by omega) (fun C9 x9 h9 q9 => ?_) (fun r9 h9 q9 => ?_)
    · obtain ⟨b9, e9, -⟩ := q9
      cases e9
    obtain ⟨b9, e9, w9, n9, E9, C9⟩ := q9
    cases e9
    refine g_athrow (pc := 12) (ci := 14) rfl dX12_need_12 w9 (gx_out (fun z hz => absurd hz List.not_mem_nil) ?_)
    have e : sgP t n (nI k) a = .inl (1, bl t n a) := if_neg (fun w => c_5 ((sg_eq h1 hk hn hR.t).mpr w))
    rw [e]
    exact ⟨b9, rfl, w9, (kp.at hP hx9 O1).tr (kp.ex E9 C9)⟩
end
section
variable {E : jE} {d : Nat} {h : jH} {t : Nat → Nat} {n a : Nat} {T : Nat → Int32} {tp x : jN} {fr op : Int32} {rest : List jV} {P : jN → Prop}
set_option maxHeartbeats 2000000 in
theorem l_sign32 {bc bs : Nat} {h0 : jH} (hR : RH x tp n T t) : ∀ (m a : Nat) (h : jH), n - a = m → a ≤ n → h x = some (rdO 32 tp n a fr op rest) → h tp = some (bA 600 T) → (∀ y, y ≠ x → h y = h0 y) → G E d bc bs mX12_sign 0 [some (vR x)] [] h (rqQ h0 x (rdO 32 tp n (blF t m a) fr op rest) (some (vI (if blF t m a < n then cb (t (blF t m a)) else 0)))) := by
  obtain ⟨hx, hx9, hxt, hn, hT⟩ := id hR
  intro m
  induction m with
  | zero =>
    intro a h hm ha fx ft O1
    have e : a = n := by omega
    subst e
    refine g_aload_n (pc := 0) dX12_sign_0 rfl ?_
    refine g_getfield (pc := 1) f_X12_19_32 dX12_sign_1 fx rfl ?_
    refine g_aload_n (pc := 4) dX12_sign_4 rfl ?_
    refine g_getfield (pc := 5) f_X12_15_32 dX12_sign_5 fx rfl ?_
    refine g_icmp_ge (pc := 8) 38 dX12_sign_8 (by decide) (fun c_8 => ?_) (fun c_8 => absurd (nI_le (Nat.le_refl _) (by omega)) c_8)
    refine g_aload_n (pc := 38) dX12_sign_38 rfl ?_
    refine g_getfield (pc := 39) f_X12_19_32 dX12_sign_39 fx rfl ?_
    refine g_aload_n (pc := 42) dX12_sign_42 rfl ?_
    refine g_getfield (pc := 43) f_X12_15_32 dX12_sign_43 fx rfl ?_
    refine g_icmp_ge (pc := 46) 61 dX12_sign_46 (by decide) (fun c_46 => ?_) (fun c_46 => absurd (nI_le (Nat.le_refl _) (by omega)) c_46)
    refine g_iconst (pc := 61) (v := 0) dX12_sign_61 (by decide) ?_
    refine g_ireturn (pc := 62) dX12_sign_62 rfl (by first | exact rfl | exact j_nb _) ?_
    exact ⟨by rw [if_neg (show ¬ blF t 0 a < a from Nat.lt_irrefl a)], fx, O1⟩
  | succ m ih =>
    intro a h hm ha fx ft O1
    have hl : ¬ nI n ≤ nI a := fun w => by have := (nI_leI (by omega) (by omega)).mp w; omega
    have h256 := (hT a (by omega)).2
    refine g_aload_n (pc := 0) dX12_sign_0 rfl ?_
    refine g_getfield (pc := 1) f_X12_19_32 dX12_sign_1 fx rfl ?_
    refine g_aload_n (pc := 4) dX12_sign_4 rfl ?_
    refine g_getfield (pc := 5) f_X12_15_32 dX12_sign_5 fx rfl ?_
    refine g_icmp_ge (pc := 8) 38 dX12_sign_8 (by decide) (fun c_8 => absurd c_8 hl) (fun c_8 => ?_)
    refine g_aload_n (pc := 11) dX12_sign_11 rfl ?_
    refine g_getfield (pc := 12) f_X12_9_32 dX12_sign_12 fx rfl ?_
    refine g_aload_n (pc := 15) dX12_sign_15 rfl ?_
    refine g_getfield (pc := 16) f_X12_19_32 dX12_sign_16 fx rfl ?_
    refine g_baload (pc := 19) dX12_sign_19 ft (j := a) rfl (by omega) (by first | decide | omega) rfl ?_
    rw [(hT a (by omega)).1]
    refine g_bipush (pc := 20) (v := 32) dX12_sign_20 (by decide) ?_
    refine g_icmp_ne (pc := 22) 38 dX12_sign_22 (by decide) (fun c_22 => ?_) (fun c_22 => ?_)
    · refine g_aload_n (pc := 38) dX12_sign_38 rfl ?_
      refine g_getfield (pc := 39) f_X12_19_32 dX12_sign_39 fx rfl ?_
      refine g_aload_n (pc := 42) dX12_sign_42 rfl ?_
      refine g_getfield (pc := 43) f_X12_15_32 dX12_sign_43 fx rfl ?_
      refine g_icmp_ge (pc := 46) 61 dX12_sign_46 (by decide) (fun c_46 => absurd c_46 hl) (fun c_46 => ?_)
      refine g_aload_n (pc := 49) dX12_sign_49 rfl ?_
      refine g_getfield (pc := 50) f_X12_9_32 dX12_sign_50 fx rfl ?_
      refine g_aload_n (pc := 53) dX12_sign_53 rfl ?_
      refine g_getfield (pc := 54) f_X12_19_32 dX12_sign_54 fx rfl ?_
      refine g_baload (pc := 57) dX12_sign_57 ft (j := a) rfl (by omega) (by first | decide | omega) rfl ?_
      rw [(hT a (by omega)).1]
      refine g_goto (pc := 58) 62 dX12_sign_58 (by decide) ?_
      refine g_ireturn (pc := 62) dX12_sign_62 rfl (by first | exact rfl | exact j_nb _) ?_
      have e : blF t (m + 1) a = a := if_neg (fun w => c_22 ((cb_eq h256 (c := 32) (by decide)).mpr w))
      rw [e]
      exact ⟨by rw [if_pos (by omega)], fx, O1⟩
    · refine g_aload_n (pc := 25) dX12_sign_25 rfl ?_
      refine g_dup (pc := 26) dX12_sign_26 rfl ?_
      refine g_getfield (pc := 27) f_X12_19_32 dX12_sign_27 fx rfl ?_
      refine g_iconst (pc := 30) (v := 1) dX12_sign_30 (by decide) ?_
      refine g_iadd (pc := 31) dX12_sign_31 ?_
      rw [nI_1]
      refine n_put (pc := 32) w_X12_19_32 dX12_sign_32 fx (Nat.le_of_ble_eq_true rfl) hx (j_fit_int _) rfl (fun h q9 o9 => ?_)
      replace ft := (o9 _ (hxt).symm).trans ft
      replace fx := q9
      replace O1 := fun y hy => (o9 y hy).trans (O1 y hy)
      refine g_goto (pc := 35) 0 dX12_sign_35 (by decide) ?_
      have e : blF t (m + 1) a = blF t m (a + 1) := if_pos ((cb_eq h256 (c := 32) (by decide)).mp c_22)
      rw [e]
      exact ih (a + 1) h (by omega) (by omega) fx ft O1
theorem k_sign32 (hR : RH x tp n T t) (ha : a ≤ n) (fx : h x = some (rdO 32 tp n a fr op rest)) (ft : h tp = some (bA 600 T)) : Ct E d 0 0 mX12_sign [vR x] h (rqQ h x (rdO 32 tp n (bl t n a) fr op rest) (some (vI (sgC t n a)))) := by
  refine ct_of (by decide) (Nat.le_of_ble_eq_true rfl) rfl ?_
  exact l_sign32 hR (n - a) a h rfl ha fx ft (fun _ _ => rfl)
def wgQ32 (h : jH) (a : Nat) : jR → jH → Prop := fun r h' => ∃ b : Nat, r = .inl (some (vR (92, b))) ∧ h' (92, b) = some (wrO 1 (nI a)) ∧ (∀ k, h (k, b) = none) ∧ (∀ y o, h y = some o → h' y = some o) ∧ cFr h h'
set_option maxHeartbeats 2000000 in
theorem k_wrong32 (hd : 5 ≤ d) (fx : h x = some (rdO 32 tp n a fr op rest)) : Ct E d 1 8 mX12_wrong [vR x] h (wgQ32 h a) := by
  refine ct_of (by decide) (Nat.le_of_ble_eq_true rfl) rfl ?_
  refine n_new (pc := 0) (fs := [vN, vN, vN, vN, vN, vI 0, vI 0, vI 0]) 92 k_X14 q1126 q1127 q132 dX12_wrong_0 (fun j hj => by match j, hj with | 0, _ => rfl | 1, _ => rfl | 2, _ => rfl | 3, _ => rfl | 4, _ => rfl | 5, _ => rfl | 6, _ => rfl | 7, _ => rfl | j + 8, hj => exact absurd hj (by omega)) (by omega) (by omega) (fun b9 h9 q8 n9 o8 => ?_)
  refine g_dup (pc := 3) dX12_wrong_3 rfl ?_
  refine g_iconst (pc := 4) (v := 1) dX12_wrong_4 (by decide) ?_
  refine g_aload_n (pc := 5) dX12_wrong_5 rfl ?_
  refine g_getfield (pc := 6) f_X12_19_32 dX12_wrong_6 ((o8 _ (ne_new fx n9)).trans fx) rfl ?_
  refine n_init (pc := 9) (M' := mX14_init) (as := [_, _]) i_X12_42 eX14_init dX12_wrong_9 (k_Wrong (x := (92, b9)) (by omega) (by show 92 ≠ 0; decide) q8 _ _) (by omega) rfl rfl (Nat.le_of_ble_eq_true rfl) (fun h2 q9 o9 => ?_)
  refine g_areturn (pc := 12) dX12_wrong_12 rfl (by first | exact Or.inl ⟨_, rfl⟩ | exact Or.inr ⟨_, rfl⟩) ?_
  exact ⟨b9, rfl, q9, n9, fun y o k => (o9 _ (ne_new k n9)).trans ((o8 _ (ne_new k n9)).trans k), cFr.tr (cFr.at (by show 92 < 900; decide) o8) (cFr.at (by show 92 < 900; decide) o9)⟩
def ndQ32 (P : jN → Prop) (h : jH) (x tp : jN) (n : Nat) (fr op : Int32) (rest : List jV) (q : pR Unit) : jR → jH → Prop := fun r h' => match q with
  | .inl e => wrX P h e r h'
  | .inr p => rqQ h x (rdO 32 tp n p.1 fr op rest) none r h'
set_option maxHeartbeats 2000000 in
theorem k_need32 {k : Nat} (hd : 7 ≤ d) (hR : RH x tp n T t) (hP : P x) (h1 : 1 ≤ k) (hk : k < 128) (ha : a ≤ n) (fx : h x = some (rdO 32 tp n a fr op rest)) (ft : h tp = some (bA 600 T)) : Ct E d 1 8 mX12_need [vR x, vI (nI k)] h (ndQ32 P h x tp n fr op rest (sgP t n (nI k) a)) := by
  refine ct_of (by decide) (Nat.le_of_ble_eq_true rfl) rfl ?_
  obtain ⟨hx, hx9, hxt, hn, hT⟩ := id hR
  have O1 : ∀ y, y ≠ x → h y = h y := fun _ _ => rfl
  obtain ⟨h0, hh0⟩ : ∃ h0, h0 = h := ⟨_, rfl⟩
  have O1 : ∀ y, y ≠ x → h y = h0 y := fun y _ => by rw [hh0]
  suffices hsuf : G E d 1 8 mX12_need 0 _ [] h (ndQ32 P h0 x tp n fr op rest (sgP t n (nI k) a)) by rw [hh0] at hsuf; exact hsuf
  clear hh0
  refine g_aload_n (pc := 0) dX12_need_0 rfl ?_
  refine g_callV (pc := 1) (M' := mX12_sign) (as := []) (ci := 32) rfl i_X12_22_32 eX12_sign dX12_need_1 fx (k_sign32 hR ha fx ft) (by omega) rfl rfl (Nat.le_of_ble_eq_true rfl) (by omega) (by omega) (fun C9 x9 h9 q9 => ?_) (fun r9 h9 q9 => ?_)
  · cases q9.1
  obtain ⟨e9, fx', o9⟩ := q9
  cases e9
  replace ft := (o9 _ hxt.symm).trans ft
  replace fx := fx'
  replace O1 := fun y hy => (o9 y hy).trans (O1 y hy)
  refine g_iload_n (pc := 4) dX12_need_4 rfl ?_
  refine g_icmp_eq (pc := 5) 13 dX12_need_5 (by decide) (fun c_5 => ?_) (fun c_5 => ?_)
  · refine g_aload_n (pc := 13) dX12_need_13 rfl ?_
    refine g_dup (pc := 14) dX12_need_14 rfl ?_
    refine g_getfield (pc := 15) f_X12_19_32 dX12_need_15 fx rfl ?_
    refine g_iconst (pc := 18) (v := 1) dX12_need_18 (by decide) ?_
    refine g_iadd (pc := 19) dX12_need_19 ?_
    rw [nI_1]
    refine n_put (pc := 20) w_X12_19_32 dX12_need_20 fx (Nat.le_of_ble_eq_true rfl) hx (j_fit_int _) rfl (fun h q9 o9 => ?_)
    replace ft := (o9 _ (hxt).symm).trans ft
    replace fx := q9
    replace O1 := fun y hy => (o9 y hy).trans (O1 y hy)
    refine g_return (pc := 23) dX12_need_23 rfl ?_
    have e : sgP t n (nI k) a = .inr (bl t n a + 1, ()) := if_pos ((sg_eq h1 hk hn hR.t).mp c_5)
    rw [e]
    exact ⟨rfl, fx, O1⟩
  · refine g_aload_n (pc := 8) dX12_need_8 rfl ?_
    refine g_callV (pc := 9) (M' := mX12_wrong) (as := []) (ci := 32) rfl i_X12_45_32 eX12_wrong dX12_need_9 fx (k_wrong32 (by omega) fx) (by omega) rfl rfl (Nat.le_of_ble_eq_true rfl) (by omega) (by omega) (fun C9 x9 h9 q9 => ?_) (fun r9 h9 q9 => ?_)
    · obtain ⟨b9, e9, -⟩ := q9
      cases e9
    obtain ⟨b9, e9, w9, n9, E9, C9⟩ := q9
    cases e9
    refine g_athrow (pc := 12) (ci := 14) rfl dX12_need_12 w9 (gx_out (fun z hz => absurd hz List.not_mem_nil) ?_)
    have e : sgP t n (nI k) a = .inl (1, bl t n a) := if_neg (fun w => c_5 ((sg_eq h1 hk hn hR.t).mpr w))
    rw [e]
    exact ⟨b9, rfl, w9, (kp.at hP hx9 O1).tr (kp.ex E9 C9)⟩
end
