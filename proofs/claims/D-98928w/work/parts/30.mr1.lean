/-! THE REFERENCE: words. Printed by m_r1.py -/
set_option maxRecDepth 100000
abbrev W_sister : List Nat := [19, 9, 19, 20, 5, 18]
abbrev W_relic : List Nat := [18, 5, 12, 9, 3]
abbrev W_pilgrim : List Nat := [16, 9, 12, 7, 18, 9, 13]
abbrev W_vow : List Nat := [22, 15, 23]
abbrev W_worth : List Nat := [23, 15, 18, 20, 8]
abbrev W_days : List Nat := [4, 1, 25, 19]
abbrev W_lapses : List Nat := [12, 1, 16, 19, 5, 19]
abbrev W_tempted : List Nat := [20, 5, 13, 16, 20, 5, 4]
abbrev W_ill : List Nat := [9, 12, 12]
abbrev W_others : List Nat := [15, 20, 8, 5, 18, 19]
abbrev W_day : List Nat := [4, 1, 25]
abbrev W_least : List Nat := [12, 5, 1, 19, 20]
abbrev W_most : List Nat := [13, 15, 19, 20]
abbrev W_give : List Nat := [7, 9, 22, 5]
abbrev W_back : List Nat := [2, 1, 3, 11]
abbrev W_lapse : List Nat := [12, 1, 16, 19, 5]
abbrev W_cure : List Nat := [3, 21, 18, 5]
abbrev W_die : List Nat := [4, 9, 5]
abbrev W_again : List Nat := [1, 7, 1, 9, 14]
def vlF (f : Nat → Nat) : Nat → Nat
  | 0 => 0
  | k + 1 => 27 * vlF f k + f k
theorem wv_vl (t : Nat → Nat) (a : Nat) : ∀ k, wv t a k = vlF (fun i => t (a + i) - 96) k
  | 0 => rfl
  | k + 1 => by
    show 27 * wv t a k + (t (a + k) - 96) = _
    rw [wv_vl t a k]
    rfl
theorem vl_lt {f : Nat → Nat} : ∀ k, (∀ i, i < k → f i ≤ 26) → vlF f k < 27 ^ k
  | 0, _ => by simp [vlF]
  | k + 1, h => by
    have ih := vl_lt k (fun i hi => h i (by omega))
    have h1 := h k (by omega)
    show 27 * vlF f k + f k < _
    rw [Nat.pow_succ]
    omega
theorem vl_inj {f g : Nat → Nat} : ∀ k k', (∀ i, i < k → 1 ≤ f i ∧ f i ≤ 26) → (∀ i, i < k' → 1 ≤ g i ∧ g i ≤ 26) → vlF f k = vlF g k' → k = k' ∧ ∀ i, i < k → f i = g i
  | 0, 0, _, _, _ => ⟨rfl, fun i hi => absurd hi (Nat.not_lt_zero i)⟩
  | 0, k' + 1, _, hg, e => by
    have h1 := hg k' (by omega)
    have e2 : 0 = 27 * vlF g k' + g k' := e
    omega
  | k + 1, 0, hf, _, e => by
    have h1 := hf k (by omega)
    have e2 : 27 * vlF f k + f k = 0 := e
    omega
  | k + 1, k' + 1, hf, hg, e => by
    have h1 := hf k (by omega)
    have h2 := hg k' (by omega)
    have e2 : 27 * vlF f k + f k = 27 * vlF g k' + g k' := e
    have e3 : f k = g k' := by omega
    have e4 : vlF f k = vlF g k' := by omega
    obtain ⟨e5, e6⟩ := vl_inj k k' (fun i hi => hf i (by omega)) (fun i hi => hg i (by omega)) e4
    subst e5
    refine ⟨rfl, fun i hi => ?_⟩
    by_cases w : i = k
    · rw [w]; exact e3
    · exact e6 i (by omega)
theorem vl_congr {f g : Nat → Nat} : ∀ k, (∀ i, i < k → f i = g i) → vlF f k = vlF g k
  | 0, _ => rfl
  | k + 1, h => by
    show 27 * vlF f k + f k = 27 * vlF g k + g k
    rw [vl_congr k (fun i hi => h i (by omega)), h k (by omega)]
theorem wlF_let {t : Nat → Nat} : ∀ m a i, i < wlF t m a → 97 ≤ t (a + i) ∧ t (a + i) ≤ 122
  | 0, _, i, h => absurd h (Nat.not_lt_zero i)
  | m + 1, a, i, h => by
    unfold wlF at h
    by_cases q : 97 ≤ t a ∧ t a ≤ 122
    · rw [if_pos q] at h
      cases i with
      | zero => exact q
      | succ i =>
        have := wlF_let (t := t) m (a + 1) i (by omega)
        rw [show a + (i + 1) = a + 1 + i by omega]
        exact this
    · rw [if_neg q] at h
      exact absurd h (Nat.not_lt_zero i)
theorem wl_let {t : Nat → Nat} {n a i : Nat} (h : i < wl t n a) : 97 ≤ t (a + i) ∧ t (a + i) ≤ 122 := wlF_let _ _ i h
/-- the word at a is L -/
def wdB (t : Nat → Nat) (n a : Nat) (L : List Nat) : Bool := decide (wl t n a = L.length ∧ ∀ i, i < L.length → t (a + i) = 96 + L.getD i 0)
theorem wH_is {t : Nat → Nat} {n a : Nat} {L : List Nat} (hL : L.length ≤ 6) (hd : ∀ i, i < L.length → 1 ≤ L.getD i 0 ∧ L.getD i 0 ≤ 26) : decide (wH t n a = nI (vlF (fun i => L.getD i 0) L.length)) = wdB t n a L := by
  have hb : vlF (fun i => L.getD i 0) L.length < 387420489 := Nat.lt_of_lt_of_le (vl_lt _ (fun i hi => (hd i hi).2)) (Nat.le_trans (Nat.pow_le_pow_right (by decide) hL) (by decide))
  unfold wdB wH
  by_cases q : wl t n a ≤ 6
  · rw [if_pos q]
    have hd2 : ∀ i, i < wl t n a → 1 ≤ t (a + i) - 96 ∧ t (a + i) - 96 ≤ 26 := fun i hi => by have := wl_let hi; omega
    have hb2 : wv t a (wl t n a) < 387420489 := by
      rw [wv_vl]
      exact Nat.lt_of_lt_of_le (vl_lt _ (fun i hi => (hd2 i hi).2)) (Nat.le_trans (Nat.pow_le_pow_right (by decide) q) (by decide))
    apply decide_eq_decide.mpr
    rw [nI_eq (by omega) (by omega), wv_vl]
    constructor
    · intro e
      obtain ⟨e1, e2⟩ := vl_inj _ _ hd2 hd e
      refine ⟨e1, fun i hi => ?_⟩
      have h1 := e2 i (by omega)
      have h2 := wl_let (t := t) (n := n) (a := a) (i := i) (by omega)
      omega
    · rintro ⟨e1, e2⟩
      rw [e1]
      exact vl_congr _ (fun i hi => by rw [e2 i hi, Nat.add_sub_cancel_left])
  · rw [if_neg q]
    rw [decide_eq_false, decide_eq_false (p := wl t n a = L.length ∧ _)]
    · rintro ⟨e1, -⟩
      omega
    · intro e
      have : (-1 : Int32).toInt = (nI (vlF (fun i => L.getD i 0) L.length)).toInt := by rw [← e]
      rw [nI_toInt (by omega)] at this
      have h1 : (-1 : Int32).toInt = -1 := by decide
      omega
theorem wd7 {t : Nat → Nat} {n a : Nat} {L : List Nat} (hL : L.length = 7) (hd : ∀ i, i < 7 → 1 ≤ L.getD i 0 ∧ L.getD i 0 ≤ 26) : wdB t n a L = (decide (wl t n a = 7) && (decide (wv t a 6 = vlF (fun i => L.getD i 0) 6) && decide (t (a + 6) = 96 + L.getD 6 0))) := by
  unfold wdB
  rw [hL, ← Bool.decide_and, ← Bool.decide_and]
  apply decide_eq_decide.mpr
  constructor
  · rintro ⟨e1, e2⟩
    refine ⟨e1, ?_, e2 6 (by decide)⟩
    rw [wv_vl]
    exact vl_congr _ (fun i hi => by rw [e2 i (by omega), Nat.add_sub_cancel_left])
  · rintro ⟨e1, e2, e3⟩
    refine ⟨e1, fun i hi => ?_⟩
    rw [wv_vl] at e2
    have hl : ∀ i, i < 7 → 97 ≤ t (a + i) ∧ t (a + i) ≤ 122 := fun i hi => wl_let (n := n) (by omega)
    obtain ⟨-, e5⟩ := vl_inj 6 6 (fun i hi => by have := hl i (by omega); omega) (fun i hi => hd i (by omega)) e2
    by_cases w : i = 6
    · rw [w]; exact e3
    · have h1 := e5 i (by omega)
      have h2 := hl i hi
      omega
section
variable {E : jE} {d : Nat} {h : jH} {am : Nat → Nat} {V : mV} {t : Nat → Nat} {n a : Nat}
theorem c_w_sister (hd : 3 ≤ d) (hI : InvM am V h) (hp : PS V t n a) (hf : V 0 5 = 0) : Ct E d 0 0 mX11_isWord [vR (nMo am), vI 19, vI 9, vI 19, vI 20, vI 5, vI 18] h (mQ am (sv V 0 4 (nI (bl t n a))) h (some (vI (bI (wdB t n (bl t n a) W_sister))))) := by
  rw [← wH_is (L := W_sister) (by decide) (by decide)]
  exact c_isWord hd hI hp hf 19 9 19 20 5 18
theorem c_w_relic (hd : 3 ≤ d) (hI : InvM am V h) (hp : PS V t n a) (hf : V 0 5 = 0) : Ct E d 0 0 mX11_isWord [vR (nMo am), vI 18, vI 5, vI 12, vI 9, vI 3, vI 0] h (mQ am (sv V 0 4 (nI (bl t n a))) h (some (vI (bI (wdB t n (bl t n a) W_relic))))) := by
  rw [← wH_is (L := W_relic) (by decide) (by decide)]
  exact c_isWord hd hI hp hf 18 5 12 9 3 0
theorem c_w_vow (hd : 3 ≤ d) (hI : InvM am V h) (hp : PS V t n a) (hf : V 0 5 = 0) : Ct E d 0 0 mX11_isWord [vR (nMo am), vI 22, vI 15, vI 23, vI 0, vI 0, vI 0] h (mQ am (sv V 0 4 (nI (bl t n a))) h (some (vI (bI (wdB t n (bl t n a) W_vow))))) := by
  rw [← wH_is (L := W_vow) (by decide) (by decide)]
  exact c_isWord hd hI hp hf 22 15 23 0 0 0
theorem c_w_worth (hd : 3 ≤ d) (hI : InvM am V h) (hp : PS V t n a) (hf : V 0 5 = 0) : Ct E d 0 0 mX11_isWord [vR (nMo am), vI 23, vI 15, vI 18, vI 20, vI 8, vI 0] h (mQ am (sv V 0 4 (nI (bl t n a))) h (some (vI (bI (wdB t n (bl t n a) W_worth))))) := by
  rw [← wH_is (L := W_worth) (by decide) (by decide)]
  exact c_isWord hd hI hp hf 23 15 18 20 8 0
theorem c_w_days (hd : 3 ≤ d) (hI : InvM am V h) (hp : PS V t n a) (hf : V 0 5 = 0) : Ct E d 0 0 mX11_isWord [vR (nMo am), vI 4, vI 1, vI 25, vI 19, vI 0, vI 0] h (mQ am (sv V 0 4 (nI (bl t n a))) h (some (vI (bI (wdB t n (bl t n a) W_days))))) := by
  rw [← wH_is (L := W_days) (by decide) (by decide)]
  exact c_isWord hd hI hp hf 4 1 25 19 0 0
theorem c_w_lapses (hd : 3 ≤ d) (hI : InvM am V h) (hp : PS V t n a) (hf : V 0 5 = 0) : Ct E d 0 0 mX11_isWord [vR (nMo am), vI 12, vI 1, vI 16, vI 19, vI 5, vI 19] h (mQ am (sv V 0 4 (nI (bl t n a))) h (some (vI (bI (wdB t n (bl t n a) W_lapses))))) := by
  rw [← wH_is (L := W_lapses) (by decide) (by decide)]
  exact c_isWord hd hI hp hf 12 1 16 19 5 19
theorem c_w_ill (hd : 3 ≤ d) (hI : InvM am V h) (hp : PS V t n a) (hf : V 0 5 = 0) : Ct E d 0 0 mX11_isWord [vR (nMo am), vI 9, vI 12, vI 12, vI 0, vI 0, vI 0] h (mQ am (sv V 0 4 (nI (bl t n a))) h (some (vI (bI (wdB t n (bl t n a) W_ill))))) := by
  rw [← wH_is (L := W_ill) (by decide) (by decide)]
  exact c_isWord hd hI hp hf 9 12 12 0 0 0
theorem c_w_others (hd : 3 ≤ d) (hI : InvM am V h) (hp : PS V t n a) (hf : V 0 5 = 0) : Ct E d 0 0 mX11_isWord [vR (nMo am), vI 15, vI 20, vI 8, vI 5, vI 18, vI 19] h (mQ am (sv V 0 4 (nI (bl t n a))) h (some (vI (bI (wdB t n (bl t n a) W_others))))) := by
  rw [← wH_is (L := W_others) (by decide) (by decide)]
  exact c_isWord hd hI hp hf 15 20 8 5 18 19
theorem c_w_day (hd : 3 ≤ d) (hI : InvM am V h) (hp : PS V t n a) (hf : V 0 5 = 0) : Ct E d 0 0 mX11_isWord [vR (nMo am), vI 4, vI 1, vI 25, vI 0, vI 0, vI 0] h (mQ am (sv V 0 4 (nI (bl t n a))) h (some (vI (bI (wdB t n (bl t n a) W_day))))) := by
  rw [← wH_is (L := W_day) (by decide) (by decide)]
  exact c_isWord hd hI hp hf 4 1 25 0 0 0
theorem c_w_least (hd : 3 ≤ d) (hI : InvM am V h) (hp : PS V t n a) (hf : V 0 5 = 0) : Ct E d 0 0 mX11_isWord [vR (nMo am), vI 12, vI 5, vI 1, vI 19, vI 20, vI 0] h (mQ am (sv V 0 4 (nI (bl t n a))) h (some (vI (bI (wdB t n (bl t n a) W_least))))) := by
  rw [← wH_is (L := W_least) (by decide) (by decide)]
  exact c_isWord hd hI hp hf 12 5 1 19 20 0
theorem c_w_most (hd : 3 ≤ d) (hI : InvM am V h) (hp : PS V t n a) (hf : V 0 5 = 0) : Ct E d 0 0 mX11_isWord [vR (nMo am), vI 13, vI 15, vI 19, vI 20, vI 0, vI 0] h (mQ am (sv V 0 4 (nI (bl t n a))) h (some (vI (bI (wdB t n (bl t n a) W_most))))) := by
  rw [← wH_is (L := W_most) (by decide) (by decide)]
  exact c_isWord hd hI hp hf 13 15 19 20 0 0
theorem c_w_give (hd : 3 ≤ d) (hI : InvM am V h) (hp : PS V t n a) (hf : V 0 5 = 0) : Ct E d 0 0 mX11_isWord [vR (nMo am), vI 7, vI 9, vI 22, vI 5, vI 0, vI 0] h (mQ am (sv V 0 4 (nI (bl t n a))) h (some (vI (bI (wdB t n (bl t n a) W_give))))) := by
  rw [← wH_is (L := W_give) (by decide) (by decide)]
  exact c_isWord hd hI hp hf 7 9 22 5 0 0
theorem c_w_back (hd : 3 ≤ d) (hI : InvM am V h) (hp : PS V t n a) (hf : V 0 5 = 0) : Ct E d 0 0 mX11_isWord [vR (nMo am), vI 2, vI 1, vI 3, vI 11, vI 0, vI 0] h (mQ am (sv V 0 4 (nI (bl t n a))) h (some (vI (bI (wdB t n (bl t n a) W_back))))) := by
  rw [← wH_is (L := W_back) (by decide) (by decide)]
  exact c_isWord hd hI hp hf 2 1 3 11 0 0
theorem c_w_lapse (hd : 3 ≤ d) (hI : InvM am V h) (hp : PS V t n a) (hf : V 0 5 = 0) : Ct E d 0 0 mX11_isWord [vR (nMo am), vI 12, vI 1, vI 16, vI 19, vI 5, vI 0] h (mQ am (sv V 0 4 (nI (bl t n a))) h (some (vI (bI (wdB t n (bl t n a) W_lapse))))) := by
  rw [← wH_is (L := W_lapse) (by decide) (by decide)]
  exact c_isWord hd hI hp hf 12 1 16 19 5 0
theorem c_w_cure (hd : 3 ≤ d) (hI : InvM am V h) (hp : PS V t n a) (hf : V 0 5 = 0) : Ct E d 0 0 mX11_isWord [vR (nMo am), vI 3, vI 21, vI 18, vI 5, vI 0, vI 0] h (mQ am (sv V 0 4 (nI (bl t n a))) h (some (vI (bI (wdB t n (bl t n a) W_cure))))) := by
  rw [← wH_is (L := W_cure) (by decide) (by decide)]
  exact c_isWord hd hI hp hf 3 21 18 5 0 0
theorem c_w_die (hd : 3 ≤ d) (hI : InvM am V h) (hp : PS V t n a) (hf : V 0 5 = 0) : Ct E d 0 0 mX11_isWord [vR (nMo am), vI 4, vI 9, vI 5, vI 0, vI 0, vI 0] h (mQ am (sv V 0 4 (nI (bl t n a))) h (some (vI (bI (wdB t n (bl t n a) W_die))))) := by
  rw [← wH_is (L := W_die) (by decide) (by decide)]
  exact c_isWord hd hI hp hf 4 9 5 0 0 0
theorem c_w_again (hd : 3 ≤ d) (hI : InvM am V h) (hp : PS V t n a) (hf : V 0 5 = 0) : Ct E d 0 0 mX11_isWord [vR (nMo am), vI 1, vI 7, vI 1, vI 9, vI 14, vI 0] h (mQ am (sv V 0 4 (nI (bl t n a))) h (some (vI (bI (wdB t n (bl t n a) W_again))))) := by
  rw [← wH_is (L := W_again) (by decide) (by decide)]
  exact c_isWord hd hI hp hf 1 7 1 9 14 0
set_option maxHeartbeats 2000000 in
theorem l_X11_isTempted {bc bs : Nat} {Q : jR → jH → Prop} (hd : 1 ≤ d) (hI : InvM am V h) (hp : PS V t n a) : ∀ (m k : Nat), n - (a + k) = m → k ≤ 600 → G E d bc bs mX11_isTempted 70 [some (vR (nMo am)), some (vI (nI (wv t a (min (k + wlF t m (a + k)) 6)))), some (vI (nI (k + wlF t m (a + k)))), none] [] h Q → G E d bc bs mX11_isTempted 17 [some (vR (nMo am)), some (vI (nI (wv t a (min k 6)))), some (vI (nI k)), none] [] h Q := by
  intro m
  induction m with
  | zero =>
    intro k hm hk kk
    refine g_aload_n (pc := 17) dX11_isTempted_17 rfl ?_
    refine g_aload_n (pc := 18) dX11_isTempted_18 rfl ?_
    refine g_getfield (pc := 19) f_X11_112_11 dX11_isTempted_19 hI.1 mf_4 ?_
    refine g_iload_n (pc := 22) dX11_isTempted_22 rfl ?_
    rw [hp.2.2.2.1]
    refine g_iadd (pc := 23) dX11_isTempted_23 ?_
    rw [nI_add]
    refine m_cP (pc := 24) (M' := mX11_byteAt) (as := [_]) i_X11_115_11 eX11_byteAt hI dX11_isTempted_24 (cP_byteAt hI hp (by have := hp.2.2; omega)) (by omega) rfl rfl (Nat.le_of_ble_eq_true rfl) ?_
    refine g_cS (pc := 27) (M' := mX11_isSmall) (as := [_]) i_X11_141 eX11_isSmall dX11_isTempted_27 (c_isSmall _) (by omega) rfl rfl (Nat.le_of_ble_eq_true rfl) ?_
    refine g_ifB_eq (pc := 30) 70 dX11_isTempted_30 (by decide) (fun c_30 => ?_) (fun c_30 => absurd c_30 (by rw [sm_bN (fun q => hp.byte q)]; unfold isL; simp; omega))
    exact kk
  | succ m ih =>
    intro k hm hk kk
    refine g_aload_n (pc := 17) dX11_isTempted_17 rfl ?_
    refine g_aload_n (pc := 18) dX11_isTempted_18 rfl ?_
    refine g_getfield (pc := 19) f_X11_112_11 dX11_isTempted_19 hI.1 mf_4 ?_
    refine g_iload_n (pc := 22) dX11_isTempted_22 rfl ?_
    rw [hp.2.2.2.1]
    refine g_iadd (pc := 23) dX11_isTempted_23 ?_
    rw [nI_add]
    refine m_cP (pc := 24) (M' := mX11_byteAt) (as := [_]) i_X11_115_11 eX11_byteAt hI dX11_isTempted_24 (cP_byteAt hI hp (by have := hp.2.2; omega)) (by omega) rfl rfl (Nat.le_of_ble_eq_true rfl) ?_
    refine g_cS (pc := 27) (M' := mX11_isSmall) (as := [_]) i_X11_141 eX11_isSmall dX11_isTempted_27 (c_isSmall _) (by omega) rfl rfl (Nat.le_of_ble_eq_true rfl) ?_
    refine g_ifB_eq (pc := 30) 70 dX11_isTempted_30 (by decide) (fun c_30 => ?_) (fun c_30 => ?_)
    · have q := c_30
      rw [sm_bN (fun q => hp.byte q)] at q
      have ew : wlF t (m + 1) (a + k) = 0 := by
        show (if _ then _ else _) = _
        rw [if_neg]
        intro w
        have : isL t n (a + k) = true := decide_eq_true ⟨by omega, w⟩
        rw [this] at q
        cases q
      rw [ew] at kk
      exact kk
    · have q := c_30
      rw [sm_bN (fun q => hp.byte q)] at q
      have q' : a + k < n ∧ 97 ≤ t (a + k) ∧ t (a + k) ≤ 122 := by simpa [isL] using q
      have hn6 := hp.2.2.1
      have ew : wlF t (m + 1) (a + k) = wlF t m (a + k + 1) + 1 := by
        show (if _ then _ else _) = _
        rw [if_pos q'.2]
      rw [ew, show k + (wlF t m (a + k + 1) + 1) = (k + 1) + wlF t m (a + (k + 1)) by rw [Nat.add_assoc a k 1]; omega] at kk
      refine g_iload_n (pc := 33) dX11_isTempted_33 rfl ?_
      refine g_bipush (pc := 34) (v := 6) dX11_isTempted_34 (by decide) ?_
      refine g_icmp_ge (pc := 36) 62 dX11_isTempted_36 (by decide) (fun c_36 => ?_) (fun c_36 => ?_)
      · have k6 : ¬ k < 6 := fun w => k2_nle (nI_lt (b := 6) w (by decide)) c_36
        rw [show min k 6 = min (k + 1) 6 by omega]
        refine g_iload_n (pc := 62) dX11_isTempted_62 rfl ?_
        refine g_istore_n (pc := 63) (ls' := [_, _, _, _]) dX11_isTempted_63 (by decide) rfl rfl ?_
        refine g_iinc (pc := 64) (ls' := [_, _, _, _]) dX11_isTempted_64 rfl (by first | exact nI_1 _ | exact rfl) (by decide) rfl rfl ?_
        refine g_goto (pc := 67) 17 dX11_isTempted_67 (by decide) ?_
        exact ih (k + 1) (by omega) (by omega) kk
      · refine g_bipush (pc := 39) (v := 27) dX11_isTempted_39 (by decide) ?_
        refine g_iload_n (pc := 41) dX11_isTempted_41 rfl ?_
        refine g_imul (pc := 42) dX11_isTempted_42 ?_
        refine g_aload_n (pc := 43) dX11_isTempted_43 rfl ?_
        refine g_aload_n (pc := 44) dX11_isTempted_44 rfl ?_
        refine g_getfield (pc := 45) f_X11_112_11 dX11_isTempted_45 hI.1 mf_4 ?_
        refine g_iload_n (pc := 48) dX11_isTempted_48 rfl ?_
        rw [hp.2.2.2.1]
        refine g_iadd (pc := 49) dX11_isTempted_49 ?_
        rw [nI_add]
        refine m_cP (pc := 50) (M' := mX11_byteAt) (as := [_]) i_X11_115_11 eX11_byteAt hI dX11_isTempted_50 (cP_byteAt hI hp (by have := hp.2.2; omega)) (by omega) rfl rfl (Nat.le_of_ble_eq_true rfl) ?_
        rw [show bN t n (a + k) = nI (t (a + k)) by unfold bN; rw [if_pos q'.1]]
        refine g_iadd (pc := 53) dX11_isTempted_53 ?_
        refine g_bipush (pc := 54) (v := 97) dX11_isTempted_54 (by decide) ?_
        refine g_isub (pc := 56) dX11_isTempted_56 ?_
        refine g_iconst (pc := 57) (v := 1) dX11_isTempted_57 (by decide) ?_
        refine g_iadd (pc := 58) dX11_isTempted_58 ?_
        rw [w_step q'.2.1]
        have k6 : k < 6 := (nI_ltI (b := 6) (by omega) (by decide)).mp (k2_lt c_36)
        rw [show min k 6 = k by omega, show 27 * wv t a k + (t (a + k) - 96) = wv t a (min (k + 1) 6) by rw [show min (k + 1) 6 = k + 1 by omega]; rfl]
        refine g_goto (pc := 59) 63 dX11_isTempted_59 (by decide) ?_
        refine g_istore_n (pc := 63) (ls' := [_, _, _, _]) dX11_isTempted_63 (by decide) rfl rfl ?_
        refine g_iinc (pc := 64) (ls' := [_, _, _, _]) dX11_isTempted_64 rfl (by first | exact nI_1 _ | exact rfl) (by decide) rfl rfl ?_
        refine g_goto (pc := 67) 17 dX11_isTempted_67 (by decide) ?_
        exact ih (k + 1) (by omega) (by omega) kk
theorem nI_ne {x y : Nat} (hx : x < 2 ^ 31) (hy : y < 2 ^ 31) (h : ¬ nI x = nI y) : ¬ x = y := fun e => h (by rw [e])
set_option maxHeartbeats 2000000 in
theorem c_isPilgrim (hd : 2 ≤ d) (hI : InvM am V h) (hp : PS V t n a) : Ct E d 0 0 mX11_isPilgrim [vR (nMo am)] h (mQ am (sv V 0 4 (nI (bl t n a))) h (some (vI (bI (wdB t n (bl t n a) W_pilgrim))))) := by
  refine ct_of (by decide) (Nat.le_of_ble_eq_true rfl) rfl ?_
  have hF : mFr h h := mFr.rf
  have hb := bl_le (t := t) hp.2.2.2.2
  refine g_aload_n (pc := 0) dX11_isPilgrim_0 rfl ?_
  refine m_cVv (pc := 1) (M' := mX11_blanks) (as := []) i_X11_125_11 eX11_blanks hI dX11_isPilgrim_1 (cP_blanks (by omega) hI hp) (by omega) rfl rfl (Nat.le_of_ble_eq_true rfl) (fun h hI fr => ?_)
  replace hF := mFr.tr hF fr
  replace hp := hp.at hb.2
  refine g_iconst (pc := 4) (v := 0) dX11_isPilgrim_4 (by decide) ?_
  refine g_istore_n (pc := 5) (ls' := [_, _, _]) dX11_isPilgrim_5 (by decide) rfl rfl ?_
  refine g_iconst (pc := 6) (v := 0) dX11_isPilgrim_6 (by decide) ?_
  refine g_istore_n (pc := 7) (ls' := [_, _, _]) dX11_isPilgrim_7 (by decide) rfl rfl ?_
  refine l_X11_isPilgrim (by omega) hI hp _ 0 rfl (by decide) ?_
  rw [Nat.zero_add, show wlF t (n - (bl t n a + 0)) (bl t n a + 0) = wl t n (bl t n a) from rfl]
  have hw := wl_le (t := t) (n := n) (a := bl t n a)
  have hn6 := hp.2.2.1
  refine g_iload_n (pc := 61) dX11_isPilgrim_61 rfl ?_
  refine g_bipush (pc := 62) (v := 7) dX11_isPilgrim_62 (by decide) ?_
  refine g_icmp_ne (pc := 64) 106 dX11_isPilgrim_64 (by decide) (fun c_64 => ?_) (fun c_64 => ?_)
  · refine g_iconst (pc := 106) (v := 0) dX11_isPilgrim_106 (by decide) ?_
    refine g_ireturn (pc := 107) dX11_isPilgrim_107 rfl (by first | exact rfl | exact j_nb _) ?_
    have e7 := wd7 (t := t) (n := n) (a := bl t n a) (L := W_pilgrim) rfl (by decide)
    rw [decide_eq_false (fun e => c_64 (by rw [e]; rfl)), Bool.false_and] at e7
    rw [e7]
    exact ⟨rfl, hI, hF⟩
  · refine g_iload_n (pc := 67) dX11_isPilgrim_67 rfl ?_
    refine g_bipush (pc := 68) (v := 16) dX11_isPilgrim_68 (by decide) ?_
    refine g_bipush (pc := 70) (v := 9) dX11_isPilgrim_70 (by decide) ?_
    refine g_bipush (pc := 72) (v := 12) dX11_isPilgrim_72 (by decide) ?_
    refine g_bipush (pc := 74) (v := 7) dX11_isPilgrim_74 (by decide) ?_
    refine g_bipush (pc := 76) (v := 18) dX11_isPilgrim_76 (by decide) ?_
    refine g_bipush (pc := 78) (v := 9) dX11_isPilgrim_78 (by decide) ?_
    refine g_cS (pc := 80) (M' := mX11_six) (as := [_, _, _, _, _, _]) i_X11_148 eX11_six dX11_isPilgrim_80 (c_six _ _ _ _ _ _) (by omega) rfl rfl (Nat.le_of_ble_eq_true rfl) ?_
    refine g_icmp_ne (pc := 83) 106 dX11_isPilgrim_83 (by decide) (fun c_83 => ?_) (fun c_83 => ?_)
    · refine g_iconst (pc := 106) (v := 0) dX11_isPilgrim_106 (by decide) ?_
      refine g_ireturn (pc := 107) dX11_isPilgrim_107 rfl (by first | exact rfl | exact j_nb _) ?_
      have e7 := wd7 (t := t) (n := n) (a := bl t n a) (L := W_pilgrim) rfl (by decide)
      have e8 : wl t n (bl t n a) = 7 := (nI_eq (b := 7) (by omega) (by decide)).mp c_64
      have hv6 : wv t (bl t n a) 6 < 387420489 := by
        rw [wv_vl]
        exact vl_lt 6 (fun i hi => by have := wl_let (t := t) (n := n) (a := bl t n a) (i := i) (by omega); omega)
      rw [e8, decide_eq_false (p := wv t (bl t n a) 6 = _) (fun e => c_83 (by rw [e8]; show nI (wv t (bl t n a) 6) = _; rw [e]; rfl)), Bool.false_and, Bool.and_false] at e7
      rw [e7]
      exact ⟨rfl, hI, hF⟩
    · refine g_aload_n (pc := 86) dX11_isPilgrim_86 rfl ?_
      refine g_aload_n (pc := 87) dX11_isPilgrim_87 rfl ?_
      refine g_getfield (pc := 88) f_X11_112_11 dX11_isPilgrim_88 hI.1 mf_4 ?_
      rw [sv_same]
      refine g_bipush (pc := 91) (v := 6) dX11_isPilgrim_91 (by decide) ?_
      refine g_iadd (pc := 93) dX11_isPilgrim_93 ?_
      rw [show (6 : Int32) = nI 6 from rfl, nI_add]
      refine m_cP (pc := 94) (M' := mX11_byteAt) (as := [_]) i_X11_115_11 eX11_byteAt hI dX11_isPilgrim_94 (cP_byteAt hI hp (by have := hp.2.2; omega)) (by omega) rfl rfl (Nat.le_of_ble_eq_true rfl) ?_
      refine g_bipush (pc := 97) (v := 109) dX11_isPilgrim_97 (by decide) ?_
      refine g_icmp_ne (pc := 99) 106 dX11_isPilgrim_99 (by decide) (fun c_99 => ?_) (fun c_99 => ?_)
      · refine g_iconst (pc := 106) (v := 0) dX11_isPilgrim_106 (by decide) ?_
        refine g_ireturn (pc := 107) dX11_isPilgrim_107 rfl (by first | exact rfl | exact j_nb _) ?_
        have e7 := wd7 (t := t) (n := n) (a := bl t n a) (L := W_pilgrim) rfl (by decide)
        have e8 : wl t n (bl t n a) = 7 := (nI_eq (b := 7) (by omega) (by decide)).mp c_64
        have hv6 : wv t (bl t n a) 6 < 387420489 := by
          rw [wv_vl]
          exact vl_lt 6 (fun i hi => by have := wl_let (t := t) (n := n) (a := bl t n a) (i := i) (by omega); omega)
        have e9 : wv t (bl t n a) 6 = vlF (fun i => W_pilgrim.getD i 0) 6 := (nI_eq (by omega) (by decide)).mp (by have q := c_83; rw [e8] at q; exact q)
        have e10 : bN t n (bl t n a + 6) = nI (t (bl t n a + 6)) := by unfold bN; rw [if_pos (by omega)]
        have hl6 := wl_let (t := t) (n := n) (a := bl t n a) (i := 6) (by omega)
        rw [decide_eq_false (p := t (bl t n a + 6) = _) (fun e => c_99 (by rw [e10, e]; rfl)), Bool.and_false, Bool.and_false] at e7
        rw [e7]
        exact ⟨rfl, hI, hF⟩
      · refine g_iconst (pc := 102) (v := 1) dX11_isPilgrim_102 (by decide) ?_
        refine g_goto (pc := 103) 107 dX11_isPilgrim_103 (by decide) ?_
        refine g_ireturn (pc := 107) dX11_isPilgrim_107 rfl (by first | exact rfl | exact j_nb _) ?_
        have e7 := wd7 (t := t) (n := n) (a := bl t n a) (L := W_pilgrim) rfl (by decide)
        have e8 : wl t n (bl t n a) = 7 := (nI_eq (b := 7) (by omega) (by decide)).mp c_64
        have hv6 : wv t (bl t n a) 6 < 387420489 := by
          rw [wv_vl]
          exact vl_lt 6 (fun i hi => by have := wl_let (t := t) (n := n) (a := bl t n a) (i := i) (by omega); omega)
        have e9 : wv t (bl t n a) 6 = vlF (fun i => W_pilgrim.getD i 0) 6 := (nI_eq (by omega) (by decide)).mp (by have q := c_83; rw [e8] at q; exact q)
        have e10 : bN t n (bl t n a + 6) = nI (t (bl t n a + 6)) := by unfold bN; rw [if_pos (by omega)]
        have hl6 := wl_let (t := t) (n := n) (a := bl t n a) (i := 6) (by omega)
        rw [e8, e9, decide_eq_true (p := t (bl t n a + 6) = 96 + W_pilgrim.getD 6 0) ((nI_eq (b := 109) (by omega) (by decide)).mp (e10.symm.trans c_99))] at e7
        rw [e7]
        exact ⟨rfl, hI, hF⟩
theorem c_isTempted1 (hI : InvM am V h) (hf : ¬ V 0 5 = 0) : Ct E d 0 0 mX11_isTempted [vR (nMo am)] h (qR (some (vI (bI false))) h) := by
  refine ct_of (by decide) (Nat.le_of_ble_eq_true rfl) rfl ?_
  refine g_aload_n (pc := 0) dX11_isTempted_0 rfl ?_
  refine g_getfield (pc := 1) f_X11_119_11 dX11_isTempted_1 hI.1 mf_5 ?_
  refine g_if_eq (pc := 4) 9 dX11_isTempted_4 (by decide) (fun c_4 => absurd c_4 hf) (fun c_4 => ?_)
  refine g_iconst (pc := 7) (v := 0) dX11_isTempted_7 (by decide) ?_
  refine g_ireturn (pc := 8) dX11_isTempted_8 rfl (by first | exact rfl | exact j_nb _) ?_
  exact ⟨rfl, rfl⟩
set_option maxHeartbeats 2000000 in
theorem c_isTempted (hd : 2 ≤ d) (hI : InvM am V h) (hp : PS V t n a) (hf : V 0 5 = 0) : Ct E d 0 0 mX11_isTempted [vR (nMo am)] h (mQ am (sv V 0 4 (nI (if wdB t n (bl t n a) W_tempted = true then bl t n a + wl t n (bl t n a) else bl t n a))) h (some (vI (bI (wdB t n (bl t n a) W_tempted))))) := by
  refine ct_of (by decide) (Nat.le_of_ble_eq_true rfl) rfl ?_
  have hF : mFr h h := mFr.rf
  have hb := bl_le (t := t) hp.2.2.2.2
  refine g_aload_n (pc := 0) dX11_isTempted_0 rfl ?_
  refine g_getfield (pc := 1) f_X11_119_11 dX11_isTempted_1 hI.1 mf_5 ?_
  refine g_if_eq (pc := 4) 9 dX11_isTempted_4 (by decide) (fun c_4 => ?_) (fun c_4 => absurd hf c_4)
  refine g_aload_n (pc := 9) dX11_isTempted_9 rfl ?_
  refine m_cVv (pc := 10) (M' := mX11_blanks) (as := []) i_X11_125_11 eX11_blanks hI dX11_isTempted_10 (cP_blanks (by omega) hI hp) (by omega) rfl rfl (Nat.le_of_ble_eq_true rfl) (fun h hI fr => ?_)
  replace hF := mFr.tr hF fr
  replace hp := hp.at hb.2
  refine g_iconst (pc := 13) (v := 0) dX11_isTempted_13 (by decide) ?_
  refine g_istore_n (pc := 14) (ls' := [_, _, _, _]) dX11_isTempted_14 (by decide) rfl rfl ?_
  refine g_iconst (pc := 15) (v := 0) dX11_isTempted_15 (by decide) ?_
  refine g_istore_n (pc := 16) (ls' := [_, _, _, _]) dX11_isTempted_16 (by decide) rfl rfl ?_
  refine l_X11_isTempted (by omega) hI hp _ 0 rfl (by decide) ?_
  rw [Nat.zero_add, show wlF t (n - (bl t n a + 0)) (bl t n a + 0) = wl t n (bl t n a) from rfl]
  have hw := wl_le (t := t) (n := n) (a := bl t n a)
  have hn6 := hp.2.2.1
  refine g_iload_n (pc := 70) dX11_isTempted_70 rfl ?_
  refine g_bipush (pc := 71) (v := 7) dX11_isTempted_71 (by decide) ?_
  refine g_icmp_ne (pc := 73) 113 dX11_isTempted_73 (by decide) (fun c_73 => ?_) (fun c_73 => ?_)
  · refine g_iconst (pc := 113) (v := 0) dX11_isTempted_113 (by decide) ?_
    refine g_istore_n (pc := 114) (ls' := [_, _, _, _]) dX11_isTempted_114 (by decide) rfl rfl ?_
    refine g_iload_n (pc := 115) dX11_isTempted_115 rfl ?_
    refine g_if_eq (pc := 116) 123 dX11_isTempted_116 (by decide) (fun c_116 => ?_) (fun c_116 => ?_)
    · refine g_iload_n (pc := 123) dX11_isTempted_123 rfl ?_
      refine g_ireturn (pc := 124) dX11_isTempted_124 rfl (by first | exact rfl | exact j_nb _) ?_
      have e7 := wd7 (t := t) (n := n) (a := bl t n a) (L := W_tempted) rfl (by decide)
      rw [decide_eq_false (fun e => c_73 (by rw [e]; rfl)), Bool.false_and] at e7
      rw [e7]
      exact ⟨rfl, hI, hF⟩
    · refine g_aload_n (pc := 119) dX11_isTempted_119 rfl ?_
      refine m_cVv (pc := 120) (M' := mX11_skipWord) (as := []) i_X11_156_11 eX11_skipWord hI dX11_isTempted_120 (c_skipWord (by omega) hI hp) (by omega) rfl rfl (Nat.le_of_ble_eq_true rfl) (fun h hI fr => ?_)
      replace hF := mFr.tr hF fr
      refine g_iload_n (pc := 123) dX11_isTempted_123 rfl ?_
      refine g_ireturn (pc := 124) dX11_isTempted_124 rfl (by first | exact rfl | exact j_nb _) ?_
      exact absurd c_116 (by decide)
  · refine g_iload_n (pc := 76) dX11_isTempted_76 rfl ?_
    refine g_bipush (pc := 77) (v := 20) dX11_isTempted_77 (by decide) ?_
    refine g_iconst (pc := 79) (v := 5) dX11_isTempted_79 (by decide) ?_
    refine g_bipush (pc := 80) (v := 13) dX11_isTempted_80 (by decide) ?_
    refine g_bipush (pc := 82) (v := 16) dX11_isTempted_82 (by decide) ?_
    refine g_bipush (pc := 84) (v := 20) dX11_isTempted_84 (by decide) ?_
    refine g_iconst (pc := 86) (v := 5) dX11_isTempted_86 (by decide) ?_
    refine g_cS (pc := 87) (M' := mX11_six) (as := [_, _, _, _, _, _]) i_X11_148 eX11_six dX11_isTempted_87 (c_six _ _ _ _ _ _) (by omega) rfl rfl (Nat.le_of_ble_eq_true rfl) ?_
    refine g_icmp_ne (pc := 90) 113 dX11_isTempted_90 (by decide) (fun c_90 => ?_) (fun c_90 => ?_)
    · refine g_iconst (pc := 113) (v := 0) dX11_isTempted_113 (by decide) ?_
      refine g_istore_n (pc := 114) (ls' := [_, _, _, _]) dX11_isTempted_114 (by decide) rfl rfl ?_
      refine g_iload_n (pc := 115) dX11_isTempted_115 rfl ?_
      refine g_if_eq (pc := 116) 123 dX11_isTempted_116 (by decide) (fun c_116 => ?_) (fun c_116 => ?_)
      · refine g_iload_n (pc := 123) dX11_isTempted_123 rfl ?_
        refine g_ireturn (pc := 124) dX11_isTempted_124 rfl (by first | exact rfl | exact j_nb _) ?_
        have e7 := wd7 (t := t) (n := n) (a := bl t n a) (L := W_tempted) rfl (by decide)
        have e8 : wl t n (bl t n a) = 7 := (nI_eq (b := 7) (by omega) (by decide)).mp c_73
        have hv6 : wv t (bl t n a) 6 < 387420489 := by
          rw [wv_vl]
          exact vl_lt 6 (fun i hi => by have := wl_let (t := t) (n := n) (a := bl t n a) (i := i) (by omega); omega)
        rw [e8, decide_eq_false (p := wv t (bl t n a) 6 = _) (fun e => c_90 (by rw [e8]; show nI (wv t (bl t n a) 6) = _; rw [e]; rfl)), Bool.false_and, Bool.and_false] at e7
        rw [e7]
        exact ⟨rfl, hI, hF⟩
      · refine g_aload_n (pc := 119) dX11_isTempted_119 rfl ?_
        refine m_cVv (pc := 120) (M' := mX11_skipWord) (as := []) i_X11_156_11 eX11_skipWord hI dX11_isTempted_120 (c_skipWord (by omega) hI hp) (by omega) rfl rfl (Nat.le_of_ble_eq_true rfl) (fun h hI fr => ?_)
        replace hF := mFr.tr hF fr
        refine g_iload_n (pc := 123) dX11_isTempted_123 rfl ?_
        refine g_ireturn (pc := 124) dX11_isTempted_124 rfl (by first | exact rfl | exact j_nb _) ?_
        exact absurd c_116 (by decide)
    · refine g_aload_n (pc := 93) dX11_isTempted_93 rfl ?_
      refine g_aload_n (pc := 94) dX11_isTempted_94 rfl ?_
      refine g_getfield (pc := 95) f_X11_112_11 dX11_isTempted_95 hI.1 mf_4 ?_
      rw [sv_same]
      refine g_bipush (pc := 98) (v := 6) dX11_isTempted_98 (by decide) ?_
      refine g_iadd (pc := 100) dX11_isTempted_100 ?_
      rw [show (6 : Int32) = nI 6 from rfl, nI_add]
      refine m_cP (pc := 101) (M' := mX11_byteAt) (as := [_]) i_X11_115_11 eX11_byteAt hI dX11_isTempted_101 (cP_byteAt hI hp (by have := hp.2.2; omega)) (by omega) rfl rfl (Nat.le_of_ble_eq_true rfl) ?_
      refine g_bipush (pc := 104) (v := 100) dX11_isTempted_104 (by decide) ?_
      refine g_icmp_ne (pc := 106) 113 dX11_isTempted_106 (by decide) (fun c_106 => ?_) (fun c_106 => ?_)
      · refine g_iconst (pc := 113) (v := 0) dX11_isTempted_113 (by decide) ?_
        refine g_istore_n (pc := 114) (ls' := [_, _, _, _]) dX11_isTempted_114 (by decide) rfl rfl ?_
        refine g_iload_n (pc := 115) dX11_isTempted_115 rfl ?_
        refine g_if_eq (pc := 116) 123 dX11_isTempted_116 (by decide) (fun c_116 => ?_) (fun c_116 => ?_)
        · refine g_iload_n (pc := 123) dX11_isTempted_123 rfl ?_
          refine g_ireturn (pc := 124) dX11_isTempted_124 rfl (by first | exact rfl | exact j_nb _) ?_
          have e7 := wd7 (t := t) (n := n) (a := bl t n a) (L := W_tempted) rfl (by decide)
          have e8 : wl t n (bl t n a) = 7 := (nI_eq (b := 7) (by omega) (by decide)).mp c_73
          have hv6 : wv t (bl t n a) 6 < 387420489 := by
            rw [wv_vl]
            exact vl_lt 6 (fun i hi => by have := wl_let (t := t) (n := n) (a := bl t n a) (i := i) (by omega); omega)
          have e9 : wv t (bl t n a) 6 = vlF (fun i => W_tempted.getD i 0) 6 := (nI_eq (by omega) (by decide)).mp (by have q := c_90; rw [e8] at q; exact q)
          have e10 : bN t n (bl t n a + 6) = nI (t (bl t n a + 6)) := by unfold bN; rw [if_pos (by omega)]
          have hl6 := wl_let (t := t) (n := n) (a := bl t n a) (i := 6) (by omega)
          rw [decide_eq_false (p := t (bl t n a + 6) = _) (fun e => c_106 (by rw [e10, e]; rfl)), Bool.and_false, Bool.and_false] at e7
          rw [e7]
          exact ⟨rfl, hI, hF⟩
        · refine g_aload_n (pc := 119) dX11_isTempted_119 rfl ?_
          refine m_cVv (pc := 120) (M' := mX11_skipWord) (as := []) i_X11_156_11 eX11_skipWord hI dX11_isTempted_120 (c_skipWord (by omega) hI hp) (by omega) rfl rfl (Nat.le_of_ble_eq_true rfl) (fun h hI fr => ?_)
          replace hF := mFr.tr hF fr
          refine g_iload_n (pc := 123) dX11_isTempted_123 rfl ?_
          refine g_ireturn (pc := 124) dX11_isTempted_124 rfl (by first | exact rfl | exact j_nb _) ?_
          exact absurd c_116 (by decide)
      · refine g_iconst (pc := 109) (v := 1) dX11_isTempted_109 (by decide) ?_
        refine g_goto (pc := 110) 114 dX11_isTempted_110 (by decide) ?_
        refine g_istore_n (pc := 114) (ls' := [_, _, _, _]) dX11_isTempted_114 (by decide) rfl rfl ?_
        refine g_iload_n (pc := 115) dX11_isTempted_115 rfl ?_
        refine g_if_eq (pc := 116) 123 dX11_isTempted_116 (by decide) (fun c_116 => ?_) (fun c_116 => ?_)
        · refine g_iload_n (pc := 123) dX11_isTempted_123 rfl ?_
          refine g_ireturn (pc := 124) dX11_isTempted_124 rfl (by first | exact rfl | exact j_nb _) ?_
          exact absurd c_116 (by decide)
        · refine g_aload_n (pc := 119) dX11_isTempted_119 rfl ?_
          refine m_cVv (pc := 120) (M' := mX11_skipWord) (as := []) i_X11_156_11 eX11_skipWord hI dX11_isTempted_120 (c_skipWord (by omega) hI hp) (by omega) rfl rfl (Nat.le_of_ble_eq_true rfl) (fun h hI fr => ?_)
          replace hF := mFr.tr hF fr
          refine g_iload_n (pc := 123) dX11_isTempted_123 rfl ?_
          refine g_ireturn (pc := 124) dX11_isTempted_124 rfl (by first | exact rfl | exact j_nb _) ?_
          have e7 := wd7 (t := t) (n := n) (a := bl t n a) (L := W_tempted) rfl (by decide)
          have e8 : wl t n (bl t n a) = 7 := (nI_eq (b := 7) (by omega) (by decide)).mp c_73
          have hv6 : wv t (bl t n a) 6 < 387420489 := by
            rw [wv_vl]
            exact vl_lt 6 (fun i hi => by have := wl_let (t := t) (n := n) (a := bl t n a) (i := i) (by omega); omega)
          have e9 : wv t (bl t n a) 6 = vlF (fun i => W_tempted.getD i 0) 6 := (nI_eq (by omega) (by decide)).mp (by have q := c_90; rw [e8] at q; exact q)
          have e10 : bN t n (bl t n a + 6) = nI (t (bl t n a + 6)) := by unfold bN; rw [if_pos (by omega)]
          have hl6 := wl_let (t := t) (n := n) (a := bl t n a) (i := 6) (by omega)
          rw [e8, e9, decide_eq_true (p := t (bl t n a + 6) = 96 + W_tempted.getD 6 0) ((nI_eq (b := 100) (by omega) (by decide)).mp (e10.symm.trans c_106))] at e7
          rw [e7]
          rw [sv_sv] at hI
          exact ⟨rfl, hI, hF⟩
/-- the kind of a clause: 4 none -/
def kdN (t : Nat → Nat) (n a : Nat) : Nat := if wdB t n a W_sister = true then 0 else if wdB t n a W_relic = true then 1 else if wdB t n a W_pilgrim = true then 2 else if wdB t n a W_vow = true then 3 else 4
def kdI (k : Nat) : Int32 := if k = 4 then -1 else nI k
theorem bl_bl {t : Nat → Nat} {n a : Nat} : bl t n (bl t n a) = bl t n a := by
  have key : ∀ m a, blF t (m - (blF t m a - a)) (blF t m a) = blF t m a := by
    intro m
    induction m with
    | zero => intro a; show blF t (0 - (a - a)) a = a; rw [Nat.sub_self]; rfl
    | succ m ih =>
      intro a
      have hle := blF_le t m (a + 1)
      by_cases q : t a = 32
      · have e : blF t (m + 1) a = blF t m (a + 1) := if_pos q
        rw [e, show m + 1 - (blF t m (a + 1) - a) = m - (blF t m (a + 1) - (a + 1)) by omega]
        exact ih (a + 1)
      · have e : blF t (m + 1) a = a := if_neg q
        rw [e, Nat.sub_self]
        exact e
  unfold bl
  have h1 := blF_le t (n - a) a
  have h2 := key (n - a) a
  by_cases q : a ≤ n
  · rw [show n - a - (blF t (n - a) a - a) = n - blF t (n - a) a by omega] at h2
    exact h2
  · rw [show n - a = 0 by omega]
    show blF t (n - a) a = a
    rw [show n - a = 0 by omega]
    rfl
set_option maxHeartbeats 1000000 in
theorem c_kindHere (hd : 4 ≤ d) (hI : InvM am V h) (hp : PS V t n a) (hf : V 0 5 = 0) : Ct E d 0 0 mX11_kindHere [vR (nMo am)] h (mQ am (sv V 0 4 (nI (bl t n a))) h (some (vI (kdI (kdN t n (bl t n a)))))) := by
  refine ct_of (by decide) (Nat.le_of_ble_eq_true rfl) rfl ?_
  have hF : mFr h h := mFr.rf
  have hb := bl_le (t := t) hp.2.2.2.2
  have hp2 := hp.at hb.2
  have hf2 : sv V 0 4 (nI (bl t n a)) 0 5 = 0 := (sv_nj (by decide)).trans hf
  refine g_aload_n (pc := 0) dX11_kindHere_0 rfl ?_
  refine g_bipush (pc := 1) (v := 19) dX11_kindHere_1 (by decide) ?_
  refine g_bipush (pc := 3) (v := 9) dX11_kindHere_3 (by decide) ?_
  refine g_bipush (pc := 5) (v := 19) dX11_kindHere_5 (by decide) ?_
  refine g_bipush (pc := 7) (v := 20) dX11_kindHere_7 (by decide) ?_
  refine g_iconst (pc := 9) (v := 5) dX11_kindHere_9 (by decide) ?_
  refine g_bipush (pc := 10) (v := 18) dX11_kindHere_10 (by decide) ?_
  refine m_cV (pc := 12) (M' := mX11_isWord) (as := [_, _, _, _, _, _]) i_X11_152_11 eX11_isWord hI dX11_kindHere_12 (c_w_sister (by omega) hI hp hf) (by omega) rfl rfl (Nat.le_of_ble_eq_true rfl) (fun h hI fr => ?_)
  replace hF := mFr.tr hF fr
  refine g_ifB_eq (pc := 15) 20 dX11_kindHere_15 (by decide) (fun c_15 => ?_) (fun c_15 => ?_)
  · refine g_aload_n (pc := 20) dX11_kindHere_20 rfl ?_
    refine g_bipush (pc := 21) (v := 18) dX11_kindHere_21 (by decide) ?_
    refine g_iconst (pc := 23) (v := 5) dX11_kindHere_23 (by decide) ?_
    refine g_bipush (pc := 24) (v := 12) dX11_kindHere_24 (by decide) ?_
    refine g_bipush (pc := 26) (v := 9) dX11_kindHere_26 (by decide) ?_
    refine g_iconst (pc := 28) (v := 3) dX11_kindHere_28 (by decide) ?_
    refine g_iconst (pc := 29) (v := 0) dX11_kindHere_29 (by decide) ?_
    refine m_cV (pc := 30) (M' := mX11_isWord) (as := [_, _, _, _, _, _]) i_X11_152_11 eX11_isWord hI dX11_kindHere_30 (c_w_relic (by omega) hI hp2 hf2) (by omega) rfl rfl (Nat.le_of_ble_eq_true rfl) (fun h hI fr => ?_)
    replace hF := mFr.tr hF fr
    rw [bl_bl, sv_sv] at hI
    rw [bl_bl]
    refine g_ifB_eq (pc := 33) 38 dX11_kindHere_33 (by decide) (fun c_33 => ?_) (fun c_33 => ?_)
    · refine g_aload_n (pc := 38) dX11_kindHere_38 rfl ?_
      refine g_getfield (pc := 39) f_X11_119_11 dX11_kindHere_39 hI.1 mf_5 ?_
      refine g_if_ne (pc := 42) 54 dX11_kindHere_42 (by decide) (fun c_42 => absurd hf2 c_42) (fun c_42 => ?_)
      refine g_aload_n (pc := 45) dX11_kindHere_45 rfl ?_
      refine m_cV (pc := 46) (M' := mX11_isPilgrim) (as := []) i_X11_165_11 eX11_isPilgrim hI dX11_kindHere_46 (c_isPilgrim (by omega) hI hp2) (by omega) rfl rfl (Nat.le_of_ble_eq_true rfl) (fun h hI fr => ?_)
      replace hF := mFr.tr hF fr
      rw [bl_bl, sv_sv] at hI
      rw [bl_bl]
      refine g_ifB_eq (pc := 49) 54 dX11_kindHere_49 (by decide) (fun c_49 => ?_) (fun c_49 => ?_)
      · refine g_aload_n (pc := 54) dX11_kindHere_54 rfl ?_
        refine g_bipush (pc := 55) (v := 22) dX11_kindHere_55 (by decide) ?_
        refine g_bipush (pc := 57) (v := 15) dX11_kindHere_57 (by decide) ?_
        refine g_bipush (pc := 59) (v := 23) dX11_kindHere_59 (by decide) ?_
        refine g_iconst (pc := 61) (v := 0) dX11_kindHere_61 (by decide) ?_
        refine g_iconst (pc := 62) (v := 0) dX11_kindHere_62 (by decide) ?_
        refine g_iconst (pc := 63) (v := 0) dX11_kindHere_63 (by decide) ?_
        refine m_cV (pc := 64) (M' := mX11_isWord) (as := [_, _, _, _, _, _]) i_X11_152_11 eX11_isWord hI dX11_kindHere_64 (c_w_vow (by omega) hI hp2 hf2) (by omega) rfl rfl (Nat.le_of_ble_eq_true rfl) (fun h hI fr => ?_)
        replace hF := mFr.tr hF fr
        rw [bl_bl, sv_sv] at hI
        rw [bl_bl]
        refine g_ifB_eq (pc := 67) 74 dX11_kindHere_67 (by decide) (fun c_67 => ?_) (fun c_67 => ?_)
        · refine g_iconst (pc := 74) (v := -1) dX11_kindHere_74 (by decide) ?_
          refine g_ireturn (pc := 75) dX11_kindHere_75 rfl (by first | exact rfl | exact j_nb _) ?_
          have e9 : kdN t n (bl t n a) = 4 := by
            unfold kdN
            rw [if_neg (show ¬ wdB t n (bl t n a) W_sister = true by rw [c_15]; decide), if_neg (show ¬ wdB t n (bl t n a) W_relic = true by rw [c_33]; decide), if_neg (show ¬ wdB t n (bl t n a) W_pilgrim = true by rw [c_49]; decide), if_neg (show ¬ wdB t n (bl t n a) W_vow = true by rw [c_67]; decide)]
          exact ⟨by rw [e9]; rfl, hI, hF⟩
        · refine g_iconst (pc := 70) (v := 3) dX11_kindHere_70 (by decide) ?_
          refine g_goto (pc := 71) 75 dX11_kindHere_71 (by decide) ?_
          refine g_ireturn (pc := 75) dX11_kindHere_75 rfl (by first | exact rfl | exact j_nb _) ?_
          have e9 : kdN t n (bl t n a) = 3 := by
            unfold kdN
            rw [if_neg (show ¬ wdB t n (bl t n a) W_sister = true by rw [c_15]; decide), if_neg (show ¬ wdB t n (bl t n a) W_relic = true by rw [c_33]; decide), if_neg (show ¬ wdB t n (bl t n a) W_pilgrim = true by rw [c_49]; decide), if_pos c_67]
          exact ⟨by rw [e9]; rfl, hI, hF⟩
      · refine g_iconst (pc := 52) (v := 2) dX11_kindHere_52 (by decide) ?_
        refine g_ireturn (pc := 53) dX11_kindHere_53 rfl (by first | exact rfl | exact j_nb _) ?_
        have e9 : kdN t n (bl t n a) = 2 := by
          unfold kdN
          rw [if_neg (show ¬ wdB t n (bl t n a) W_sister = true by rw [c_15]; decide), if_neg (show ¬ wdB t n (bl t n a) W_relic = true by rw [c_33]; decide), if_pos c_49]
        exact ⟨by rw [e9]; rfl, hI, hF⟩
    · refine g_iconst (pc := 36) (v := 1) dX11_kindHere_36 (by decide) ?_
      refine g_ireturn (pc := 37) dX11_kindHere_37 rfl (by first | exact rfl | exact j_nb _) ?_
      have e9 : kdN t n (bl t n a) = 1 := by
        unfold kdN
        rw [if_neg (show ¬ wdB t n (bl t n a) W_sister = true by rw [c_15]; decide), if_pos c_33]
      exact ⟨by rw [e9]; rfl, hI, hF⟩
  · refine g_iconst (pc := 18) (v := 0) dX11_kindHere_18 (by decide) ?_
    refine g_ireturn (pc := 19) dX11_kindHere_19 rfl (by first | exact rfl | exact j_nb _) ?_
    have e9 : kdN t n (bl t n a) = 0 := by
      unfold kdN
      rw [if_pos c_15]
    exact ⟨by rw [e9]; rfl, hI, hF⟩
end
