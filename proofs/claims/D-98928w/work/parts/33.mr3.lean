/-! THE REFERENCE: tellsNothing, lays, beginsAnew, house. Printed by m_r3.py -/
set_option maxRecDepth 100000
def cpR (f g : Nat → Int32) (k : Nat) : Nat → Int32 := fun j => if j < k then f j else g j
theorem cpR_0 {f g : Nat → Int32} : cpR f g 0 = g := funext fun j => if_neg (Nat.not_lt_zero j)
theorem cpR_s {f g : Nat → Int32} {k : Nat} {y : Int32} (hy : y = f k) : j_up (cpR f g k) k y = cpR f g (k + 1) := by
  funext j
  unfold j_up cpR
  by_cases e : j = k
  · rw [if_pos e, if_pos (by omega), e, hy]
  · rw [if_neg e]
    by_cases w : j < k
    · rw [if_pos w, if_pos (by omega)]
    · rw [if_neg w, if_neg (by omega)]
def flR (c : Int32) (o k : Nat) (g : Nat → Int32) : Nat → Int32 := fun j => if o ≤ j ∧ j < o + k then c else g j
theorem flR_0 {c : Int32} {o : Nat} {g : Nat → Int32} : flR c o 0 g = g := funext fun j => if_neg (by omega)
theorem flR_s {c : Int32} {o k : Nat} {g : Nat → Int32} : j_up (flR c o k g) (o + k) c = flR c o (k + 1) g := by
  funext j
  unfold j_up flR
  by_cases e : j = o + k
  · rw [if_pos e, if_pos (by omega)]
  · rw [if_neg e]
    by_cases w : o ≤ j ∧ j < o + k
    · rw [if_pos w, if_pos (by omega)]
    · rw [if_neg w, if_neg (by omega)]
/-- rows under k of one table laid into another, and i places of row k -/
def layP (V : mV) (a b c k i : Nat) : mV := fun r q => if (1000 * b ≤ r ∧ r < 1000 * b + k ∧ q < c) ∨ (r = 1000 * b + k ∧ q < i) then V (1000 * a + (r - 1000 * b)) q else V r q
theorem layP_0 {V : mV} {a b c : Nat} : layP V a b c 0 0 = V := by
  funext r q
  unfold layP
  rw [if_neg (by omega)]
theorem layP_r {V : mV} {a b c k : Nat} : layP V a b c k c = layP V a b c (k + 1) 0 := by
  funext r q
  unfold layP
  by_cases e : (1000 * b ≤ r ∧ r < 1000 * b + k ∧ q < c) ∨ (r = 1000 * b + k ∧ q < c)
  · rw [if_pos e, if_pos (by omega)]
  · rw [if_neg e, if_neg (by omega)]
theorem layP_a {V : mV} {a b c k i r : Nat} (h : r < 1000 * b ∨ 1000 * b + k < r) : layP V a b c k i r = V r := by
  funext q
  unfold layP
  rw [if_neg (by omega)]
theorem layP_s {V : mV} {a b c k i : Nat} {y : Int32} (hy : y = V (1000 * a + k) i) : sv (layP V a b c k i) (1000 * b + k) i y = layP V a b c k (i + 1) := by
  funext r q
  rw [sv_at]
  unfold layP
  by_cases e : r = 1000 * b + k ∧ q = i
  · rw [if_pos e, if_pos (by omega), hy, e.1, e.2, Nat.add_sub_cancel_left]
  · rw [if_neg e]
    by_cases w : (1000 * b ≤ r ∧ r < 1000 * b + k ∧ q < c) ∨ (r = 1000 * b + k ∧ q < i)
    · rw [if_pos w, if_pos (by omega)]
    · rw [if_neg w, if_neg (by omega)]
theorem svR_sv {V : mV} {k r j : Nat} {R : Nat → Int32} {y : Int32} (h : r ≠ k) : sv (svR V k R) r j y = svR (sv V r j y) k R := by
  funext q x
  rw [sv_at]
  unfold svR
  by_cases e : q = k
  · subst e
    rw [if_neg (fun w => h w.1.symm), if_pos rfl, if_pos rfl]
  · rw [if_neg e, if_neg e, sv_at]
section
variable {E : jE} {d : Nat} {h : jH} {am : Nat → Nat} {V : mV}
set_option maxHeartbeats 2000000 in
theorem l_tn1 {bc bs : Nat} {h0 : jH} {Q : jR → jH → Prop}  (kk : ∀ h, InvM am (svR V 11 (flR 0 0 3 (V 11))) h → mFr h0 h → G E d bc bs mX11_tellsNothing 20 [some (vR (nMo am)), some (vI (nI 3))] [] h Q) : ∀ (m k : Nat) (h : jH), 3 - k = m → k ≤ 3 → InvM am (svR V 11 (flR 0 0 k (V 11))) h → mFr h0 h → G E d bc bs mX11_tellsNothing 2 [some (vR (nMo am)), some (vI (nI k))] [] h Q := by
  intro m
  induction m with
  | zero =>
    intro k h hm hk hI hF
    have e : k = 3 := by omega
    subst e
    refine g_iload_n (pc := 2) dX11_tellsNothing_2 rfl ?_
    refine g_iconst (pc := 3) (v := 3) dX11_tellsNothing_3 (by decide) ?_
    refine g_icmp_ge (pc := 4) 20 dX11_tellsNothing_4 (by decide) (fun c_4 => ?_) (fun c_4 => absurd (by decide) c_4)
    exact kk h hI hF
  | succ m ih =>
    intro k h hm hk hI hF
    refine g_iload_n (pc := 2) dX11_tellsNothing_2 rfl ?_
    refine g_iconst (pc := 3) (v := 3) dX11_tellsNothing_3 (by decide) ?_
    refine g_icmp_ge (pc := 4) 20 dX11_tellsNothing_4 (by decide) (fun c_4 => absurd c_4 (by intro w; have := (nI_leI (a := 3) (by decide) (by omega)).mp w; omega)) (fun c_4 => ?_)
    refine g_aload_n (pc := 7) dX11_tellsNothing_7 rfl ?_
    refine g_getfield (pc := 8) f_X11_20_11 dX11_tellsNothing_8 hI.1 mf_11 ?_
    refine g_iload_n (pc := 11) dX11_tellsNothing_11 rfl ?_
    refine g_iconst (pc := 12) (v := 0) dX11_tellsNothing_12 (by decide) ?_
    refine m_iast (pc := 13) (k := 11) (n := 3) hI rfl (by decide) dX11_tellsNothing_13 rfl (by omega) (by decide) (fun h hI fr => ?_)
    replace hF := mFr.tr hF fr
    refine g_iinc (pc := 14) (ls' := [_, _]) dX11_tellsNothing_14 rfl (by first | exact nI_1 _ | exact rfl) (by decide) rfl rfl ?_
    refine g_goto (pc := 17) 2 dX11_tellsNothing_17 (by decide) ?_
    refine ih (k + 1) h (by omega) (by omega) ?_ hF
    have e9 : j_up (flR 0 0 k (V 11)) k 0 = flR 0 0 (k + 1) (V 11) := by have := flR_s (c := 0) (o := 0) (k := k) (g := V 11); rw [Nat.zero_add] at this; exact this
    rw [sv_svR, e9] at hI
    exact hI
set_option maxHeartbeats 2000000 in
theorem l_tn2 {bc bs : Nat} {h0 : jH} {Q : jR → jH → Prop}  (kk : ∀ h, InvM am (svR V 15 (flR (-1) 0 8 (V 15))) h → mFr h0 h → G E d bc bs mX11_tellsNothing 41 [some (vR (nMo am)), some (vI (nI 8))] [] h Q) : ∀ (m k : Nat) (h : jH), 8 - k = m → k ≤ 8 → InvM am (svR V 15 (flR (-1) 0 k (V 15))) h → mFr h0 h → G E d bc bs mX11_tellsNothing 22 [some (vR (nMo am)), some (vI (nI k))] [] h Q := by
  intro m
  induction m with
  | zero =>
    intro k h hm hk hI hF
    have e : k = 8 := by omega
    subst e
    refine g_iload_n (pc := 22) dX11_tellsNothing_22 rfl ?_
    refine g_bipush (pc := 23) (v := 8) dX11_tellsNothing_23 (by decide) ?_
    refine g_icmp_ge (pc := 25) 41 dX11_tellsNothing_25 (by decide) (fun c_25 => ?_) (fun c_25 => absurd (by decide) c_25)
    exact kk h hI hF
  | succ m ih =>
    intro k h hm hk hI hF
    refine g_iload_n (pc := 22) dX11_tellsNothing_22 rfl ?_
    refine g_bipush (pc := 23) (v := 8) dX11_tellsNothing_23 (by decide) ?_
    refine g_icmp_ge (pc := 25) 41 dX11_tellsNothing_25 (by decide) (fun c_25 => absurd c_25 (by intro w; have := (nI_leI (a := 8) (by decide) (by omega)).mp w; omega)) (fun c_25 => ?_)
    refine g_aload_n (pc := 28) dX11_tellsNothing_28 rfl ?_
    refine g_getfield (pc := 29) f_X11_32_11 dX11_tellsNothing_29 hI.1 mf_15 ?_
    refine g_iload_n (pc := 32) dX11_tellsNothing_32 rfl ?_
    refine g_iconst (pc := 33) (v := -1) dX11_tellsNothing_33 (by decide) ?_
    refine m_iast (pc := 34) (k := 15) (n := 8) hI rfl (by decide) dX11_tellsNothing_34 rfl (by omega) (by decide) (fun h hI fr => ?_)
    replace hF := mFr.tr hF fr
    refine g_iinc (pc := 35) (ls' := [_, _]) dX11_tellsNothing_35 rfl (by first | exact nI_1 _ | exact rfl) (by decide) rfl rfl ?_
    refine g_goto (pc := 38) 22 dX11_tellsNothing_38 (by decide) ?_
    refine ih (k + 1) h (by omega) (by omega) ?_ hF
    have e9 : j_up (flR (-1) 0 k (V 15)) k (-1) = flR (-1) 0 (k + 1) (V 15) := by have := flR_s (c := -1) (o := 0) (k := k) (g := V 15); rw [Nat.zero_add] at this; exact this
    rw [sv_svR, e9] at hI
    exact hI
def tnV (V : mV) : mV := svR (svR V 11 (flR 0 0 3 (V 11))) 15 (flR (-1) 0 8 (V 15))
theorem c_tellsNothing (hI : InvM am V h) : Ct E d 0 0 mX11_tellsNothing [vR (nMo am)] h (mQ am (tnV V) h none) := by
  refine ct_of (by decide) (Nat.le_of_ble_eq_true rfl) rfl ?_
  have hF : mFr h h := mFr.rf
  refine g_iconst (pc := 0) (v := 0) dX11_tellsNothing_0 (by decide) ?_
  refine g_istore_n (pc := 1) (ls' := [_, _]) dX11_tellsNothing_1 (by decide) rfl rfl ?_
  refine l_tn1 (V := V) (fun h hI hF => ?_) 3 0 h rfl (Nat.zero_le _) (by rw [flR_0, svR_self]; exact hI) hF
  refine g_iconst (pc := 20) (v := 0) dX11_tellsNothing_20 (by decide) ?_
  refine g_istore_n (pc := 21) (ls' := [_, _]) dX11_tellsNothing_21 (by decide) rfl rfl ?_
  refine l_tn2 (V := svR V 11 (flR 0 0 3 (V 11))) (fun h hI hF => ?_) 8 0 h rfl (Nat.zero_le _) (by rw [flR_0, svR_self]; exact hI) hF
  refine g_return (pc := 41) dX11_tellsNothing_41 rfl ?_
  refine ⟨rfl, ?_, hF⟩
  rw [svR_ne (by decide)] at hI
  exact hI
set_option maxHeartbeats 2000000 in
theorem l_lay18a {bc bs : Nat} {h0 : jH} {Q : jR → jH → Prop} (w k : Nat) (hk : k < 10) (kk : ∀ h, InvM am (layP V 17 18 3 k 3) h → mFr h0 h → G E d bc bs mX11_lays 37 [some (vR (nMa am 17)), some (vR (nMa am 18)), some (vI (nI w)), some (vI (nI k)), some (vI (nI 3))] [] h Q) : ∀ (m i : Nat) (h : jH), 3 - i = m → i ≤ 3 → InvM am (layP V 17 18 3 k i) h → mFr h0 h → G E d bc bs mX11_lays 10 [some (vR (nMa am 17)), some (vR (nMa am 18)), some (vI (nI w)), some (vI (nI k)), some (vI (nI i))] [] h Q := by
  intro m
  induction m with
  | zero =>
    intro i h hm hi hI hF
    have e : i = 3 := by omega
    subst e
    refine g_iload (pc := 10) dX11_lays_10 rfl ?_
    refine g_aload_n (pc := 12) dX11_lays_12 rfl ?_
    refine g_iload_n (pc := 13) dX11_lays_13 rfl ?_
    refine g_aaload (pc := 14) (t := 5) rfl rfl dX11_lays_14 (mG hI 18 10 rfl (by decide)) rfl (by omega) (by decide) rfl ?_
    refine g_arraylength (pc := 15) (t := 0) rfl dX11_lays_15 (mR hI 18 3 _ rfl (by show _ < 10; omega)) ?_
    refine g_icmp_ge (pc := 16) 37 dX11_lays_16 (by decide) (fun c_16 => ?_) (fun c_16 => absurd (by decide) c_16)
    exact kk h hI hF
  | succ m ih =>
    intro i h hm hi hI hF
    refine g_iload (pc := 10) dX11_lays_10 rfl ?_
    refine g_aload_n (pc := 12) dX11_lays_12 rfl ?_
    refine g_iload_n (pc := 13) dX11_lays_13 rfl ?_
    refine g_aaload (pc := 14) (t := 5) rfl rfl dX11_lays_14 (mG hI 18 10 rfl (by decide)) rfl (by omega) (by decide) rfl ?_
    refine g_arraylength (pc := 15) (t := 0) rfl dX11_lays_15 (mR hI 18 3 _ rfl (by show _ < 10; omega)) ?_
    refine g_icmp_ge (pc := 16) 37 dX11_lays_16 (by decide) (fun c_16 => absurd c_16 (by intro w; have := (nI_leI (a := 3) (by decide) (by omega)).mp w; omega)) (fun c_16 => ?_)
    refine g_aload_n (pc := 19) dX11_lays_19 rfl ?_
    refine g_iload_n (pc := 20) dX11_lays_20 rfl ?_
    refine g_aaload (pc := 21) (t := 5) rfl rfl dX11_lays_21 (mG hI 18 10 rfl (by decide)) rfl (by omega) (by decide) rfl ?_
    refine g_iload (pc := 22) dX11_lays_22 rfl ?_
    refine g_aload_n (pc := 24) dX11_lays_24 rfl ?_
    refine g_iload_n (pc := 25) dX11_lays_25 rfl ?_
    refine g_aaload (pc := 26) (t := 5) rfl rfl dX11_lays_26 (mG hI 17 10 rfl (by decide)) rfl (by omega) (by decide) rfl ?_
    refine g_iload (pc := 27) dX11_lays_27 rfl ?_
    refine g_iaload (pc := 29) dX11_lays_29 (mR hI 17 3 _ rfl (by show _ < 10; omega)) (j := i) rfl (by omega) (by decide) rfl ?_
    refine m_rast (pc := 30) (k := 18) (n := 3) hI rfl (by show _ < 10; omega) dX11_lays_30 (j := i) rfl (by omega) (by decide) (fun h hI fr => ?_)
    replace hF := mFr.tr hF fr
    refine g_iinc (pc := 31) (ls' := [_, _, _, _, _]) dX11_lays_31 rfl (by first | exact nI_1 _ | exact rfl) (by decide) rfl rfl ?_
    refine g_goto (pc := 34) 10 dX11_lays_34 (by decide) ?_
    refine ih (i + 1) h (by omega) (by omega) ?_ hF
    rw [layP_a (r := 1000 * 17 + k) (by omega), layP_s rfl] at hI
    exact hI
set_option maxHeartbeats 2000000 in
theorem l_lay18b {bc bs : Nat} {h0 : jH} (w : Nat) (hw : w ≤ 10) : ∀ (m k : Nat) (u : Option jV) (h : jH), w - k = m → k ≤ w → InvM am (layP V 17 18 3 k 0) h → mFr h0 h → G E d bc bs mX11_lays 2 [some (vR (nMa am 17)), some (vR (nMa am 18)), some (vI (nI w)), some (vI (nI k)), u] [] h (mQ am (layP V 17 18 3 w 0) h0 none) := by
  intro m
  induction m with
  | zero =>
    intro k u h hm hk hI hF
    have e : k = w := by omega
    subst e
    refine g_iload_n (pc := 2) dX11_lays_2 rfl ?_
    refine g_iload_n (pc := 3) dX11_lays_3 rfl ?_
    refine g_icmp_ge (pc := 4) 43 dX11_lays_4 (by decide) (fun c_4 => ?_) (fun c_4 => absurd (nI_le (Nat.le_refl _) (by omega)) c_4)
    refine g_return (pc := 43) dX11_lays_43 rfl ?_
    exact ⟨rfl, hI, hF⟩
  | succ m ih =>
    intro k u h hm hk hI hF
    refine g_iload_n (pc := 2) dX11_lays_2 rfl ?_
    refine g_iload_n (pc := 3) dX11_lays_3 rfl ?_
    refine g_icmp_ge (pc := 4) 43 dX11_lays_4 (by decide) (fun c_4 => absurd c_4 (by intro w; have := (nI_leI (by omega) (by omega)).mp w; omega)) (fun c_4 => ?_)
    refine g_iconst (pc := 7) (v := 0) dX11_lays_7 (by decide) ?_
    refine g_istore (pc := 8) (ls' := [_, _, _, _, _]) dX11_lays_8 (by decide) rfl rfl ?_
    refine l_lay18a w k (by omega) (fun h hI hF => ?_) 3 0 h rfl (Nat.zero_le _) hI hF
    refine g_iinc (pc := 37) (ls' := [_, _, _, _, _]) dX11_lays_37 rfl (by first | exact nI_1 _ | exact rfl) (by decide) rfl rfl ?_
    refine g_goto (pc := 40) 2 dX11_lays_40 (by decide) ?_
    exact ih (k + 1) _ h (by omega) (by omega) (by rw [← layP_r]; exact hI) hF
theorem c_lay18 (hI : InvM am V h) (w : Nat) (hw : w ≤ 10) : Ct E d 0 0 mX11_lays [vR (nMa am 17), vR (nMa am 18), vI (nI w)] h (mQ am (layP V 17 18 3 w 0) h none) := by
  refine ct_of (by decide) (Nat.le_of_ble_eq_true rfl) rfl ?_
  have hF : mFr h h := mFr.rf
  refine g_iconst (pc := 0) (v := 0) dX11_lays_0 (by decide) ?_
  refine g_istore_n (pc := 1) (ls' := [_, _, _, _, _]) dX11_lays_1 (by decide) rfl rfl ?_
  exact l_lay18b w hw w 0 _ h rfl (Nat.zero_le _) (by rw [layP_0]; exact hI) hF
set_option maxHeartbeats 2000000 in
theorem l_lay20a {bc bs : Nat} {h0 : jH} {Q : jR → jH → Prop} (w k : Nat) (hk : k < 8) (kk : ∀ h, InvM am (layP V 19 20 2 k 2) h → mFr h0 h → G E d bc bs mX11_lays 37 [some (vR (nMa am 19)), some (vR (nMa am 20)), some (vI (nI w)), some (vI (nI k)), some (vI (nI 2))] [] h Q) : ∀ (m i : Nat) (h : jH), 2 - i = m → i ≤ 2 → InvM am (layP V 19 20 2 k i) h → mFr h0 h → G E d bc bs mX11_lays 10 [some (vR (nMa am 19)), some (vR (nMa am 20)), some (vI (nI w)), some (vI (nI k)), some (vI (nI i))] [] h Q := by
  intro m
  induction m with
  | zero =>
    intro i h hm hi hI hF
    have e : i = 2 := by omega
    subst e
    refine g_iload (pc := 10) dX11_lays_10 rfl ?_
    refine g_aload_n (pc := 12) dX11_lays_12 rfl ?_
    refine g_iload_n (pc := 13) dX11_lays_13 rfl ?_
    refine g_aaload (pc := 14) (t := 5) rfl rfl dX11_lays_14 (mG hI 20 8 rfl (by decide)) rfl (by omega) (by decide) rfl ?_
    refine g_arraylength (pc := 15) (t := 0) rfl dX11_lays_15 (mR hI 20 2 _ rfl (by show _ < 8; omega)) ?_
    refine g_icmp_ge (pc := 16) 37 dX11_lays_16 (by decide) (fun c_16 => ?_) (fun c_16 => absurd (by decide) c_16)
    exact kk h hI hF
  | succ m ih =>
    intro i h hm hi hI hF
    refine g_iload (pc := 10) dX11_lays_10 rfl ?_
    refine g_aload_n (pc := 12) dX11_lays_12 rfl ?_
    refine g_iload_n (pc := 13) dX11_lays_13 rfl ?_
    refine g_aaload (pc := 14) (t := 5) rfl rfl dX11_lays_14 (mG hI 20 8 rfl (by decide)) rfl (by omega) (by decide) rfl ?_
    refine g_arraylength (pc := 15) (t := 0) rfl dX11_lays_15 (mR hI 20 2 _ rfl (by show _ < 8; omega)) ?_
    refine g_icmp_ge (pc := 16) 37 dX11_lays_16 (by decide) (fun c_16 => absurd c_16 (by intro w; have := (nI_leI (a := 2) (by decide) (by omega)).mp w; omega)) (fun c_16 => ?_)
    refine g_aload_n (pc := 19) dX11_lays_19 rfl ?_
    refine g_iload_n (pc := 20) dX11_lays_20 rfl ?_
    refine g_aaload (pc := 21) (t := 5) rfl rfl dX11_lays_21 (mG hI 20 8 rfl (by decide)) rfl (by omega) (by decide) rfl ?_
    refine g_iload (pc := 22) dX11_lays_22 rfl ?_
    refine g_aload_n (pc := 24) dX11_lays_24 rfl ?_
    refine g_iload_n (pc := 25) dX11_lays_25 rfl ?_
    refine g_aaload (pc := 26) (t := 5) rfl rfl dX11_lays_26 (mG hI 19 8 rfl (by decide)) rfl (by omega) (by decide) rfl ?_
    refine g_iload (pc := 27) dX11_lays_27 rfl ?_
    refine g_iaload (pc := 29) dX11_lays_29 (mR hI 19 2 _ rfl (by show _ < 8; omega)) (j := i) rfl (by omega) (by decide) rfl ?_
    refine m_rast (pc := 30) (k := 20) (n := 2) hI rfl (by show _ < 8; omega) dX11_lays_30 (j := i) rfl (by omega) (by decide) (fun h hI fr => ?_)
    replace hF := mFr.tr hF fr
    refine g_iinc (pc := 31) (ls' := [_, _, _, _, _]) dX11_lays_31 rfl (by first | exact nI_1 _ | exact rfl) (by decide) rfl rfl ?_
    refine g_goto (pc := 34) 10 dX11_lays_34 (by decide) ?_
    refine ih (i + 1) h (by omega) (by omega) ?_ hF
    rw [layP_a (r := 1000 * 19 + k) (by omega), layP_s rfl] at hI
    exact hI
set_option maxHeartbeats 2000000 in
theorem l_lay20b {bc bs : Nat} {h0 : jH} (w : Nat) (hw : w ≤ 8) : ∀ (m k : Nat) (u : Option jV) (h : jH), w - k = m → k ≤ w → InvM am (layP V 19 20 2 k 0) h → mFr h0 h → G E d bc bs mX11_lays 2 [some (vR (nMa am 19)), some (vR (nMa am 20)), some (vI (nI w)), some (vI (nI k)), u] [] h (mQ am (layP V 19 20 2 w 0) h0 none) := by
  intro m
  induction m with
  | zero =>
    intro k u h hm hk hI hF
    have e : k = w := by omega
    subst e
    refine g_iload_n (pc := 2) dX11_lays_2 rfl ?_
    refine g_iload_n (pc := 3) dX11_lays_3 rfl ?_
    refine g_icmp_ge (pc := 4) 43 dX11_lays_4 (by decide) (fun c_4 => ?_) (fun c_4 => absurd (nI_le (Nat.le_refl _) (by omega)) c_4)
    refine g_return (pc := 43) dX11_lays_43 rfl ?_
    exact ⟨rfl, hI, hF⟩
  | succ m ih =>
    intro k u h hm hk hI hF
    refine g_iload_n (pc := 2) dX11_lays_2 rfl ?_
    refine g_iload_n (pc := 3) dX11_lays_3 rfl ?_
    refine g_icmp_ge (pc := 4) 43 dX11_lays_4 (by decide) (fun c_4 => absurd c_4 (by intro w; have := (nI_leI (by omega) (by omega)).mp w; omega)) (fun c_4 => ?_)
    refine g_iconst (pc := 7) (v := 0) dX11_lays_7 (by decide) ?_
    refine g_istore (pc := 8) (ls' := [_, _, _, _, _]) dX11_lays_8 (by decide) rfl rfl ?_
    refine l_lay20a w k (by omega) (fun h hI hF => ?_) 2 0 h rfl (Nat.zero_le _) hI hF
    refine g_iinc (pc := 37) (ls' := [_, _, _, _, _]) dX11_lays_37 rfl (by first | exact nI_1 _ | exact rfl) (by decide) rfl rfl ?_
    refine g_goto (pc := 40) 2 dX11_lays_40 (by decide) ?_
    exact ih (k + 1) _ h (by omega) (by omega) (by rw [← layP_r]; exact hI) hF
theorem c_lay20 (hI : InvM am V h) (w : Nat) (hw : w ≤ 8) : Ct E d 0 0 mX11_lays [vR (nMa am 19), vR (nMa am 20), vI (nI w)] h (mQ am (layP V 19 20 2 w 0) h none) := by
  refine ct_of (by decide) (Nat.le_of_ble_eq_true rfl) rfl ?_
  have hF : mFr h h := mFr.rf
  refine g_iconst (pc := 0) (v := 0) dX11_lays_0 (by decide) ?_
  refine g_istore_n (pc := 1) (ls' := [_, _, _, _, _]) dX11_lays_1 (by decide) rfl rfl ?_
  exact l_lay20b w hw w 0 _ h rfl (Nat.zero_le _) (by rw [layP_0]; exact hI) hF
set_option maxHeartbeats 2000000 in
theorem l_lay23a {bc bs : Nat} {h0 : jH} {Q : jR → jH → Prop} (w k : Nat) (hk : k < 160) (kk : ∀ h, InvM am (layP V 24 23 2 k 2) h → mFr h0 h → G E d bc bs mX11_lays 37 [some (vR (nMa am 24)), some (vR (nMa am 23)), some (vI (nI w)), some (vI (nI k)), some (vI (nI 2))] [] h Q) : ∀ (m i : Nat) (h : jH), 2 - i = m → i ≤ 2 → InvM am (layP V 24 23 2 k i) h → mFr h0 h → G E d bc bs mX11_lays 10 [some (vR (nMa am 24)), some (vR (nMa am 23)), some (vI (nI w)), some (vI (nI k)), some (vI (nI i))] [] h Q := by
  intro m
  induction m with
  | zero =>
    intro i h hm hi hI hF
    have e : i = 2 := by omega
    subst e
    refine g_iload (pc := 10) dX11_lays_10 rfl ?_
    refine g_aload_n (pc := 12) dX11_lays_12 rfl ?_
    refine g_iload_n (pc := 13) dX11_lays_13 rfl ?_
    refine g_aaload (pc := 14) (t := 5) rfl rfl dX11_lays_14 (mG hI 23 160 rfl (by decide)) rfl (by omega) (by decide) rfl ?_
    refine g_arraylength (pc := 15) (t := 0) rfl dX11_lays_15 (mR hI 23 2 _ rfl (by show _ < 160; omega)) ?_
    refine g_icmp_ge (pc := 16) 37 dX11_lays_16 (by decide) (fun c_16 => ?_) (fun c_16 => absurd (by decide) c_16)
    exact kk h hI hF
  | succ m ih =>
    intro i h hm hi hI hF
    refine g_iload (pc := 10) dX11_lays_10 rfl ?_
    refine g_aload_n (pc := 12) dX11_lays_12 rfl ?_
    refine g_iload_n (pc := 13) dX11_lays_13 rfl ?_
    refine g_aaload (pc := 14) (t := 5) rfl rfl dX11_lays_14 (mG hI 23 160 rfl (by decide)) rfl (by omega) (by decide) rfl ?_
    refine g_arraylength (pc := 15) (t := 0) rfl dX11_lays_15 (mR hI 23 2 _ rfl (by show _ < 160; omega)) ?_
    refine g_icmp_ge (pc := 16) 37 dX11_lays_16 (by decide) (fun c_16 => absurd c_16 (by intro w; have := (nI_leI (a := 2) (by decide) (by omega)).mp w; omega)) (fun c_16 => ?_)
    refine g_aload_n (pc := 19) dX11_lays_19 rfl ?_
    refine g_iload_n (pc := 20) dX11_lays_20 rfl ?_
    refine g_aaload (pc := 21) (t := 5) rfl rfl dX11_lays_21 (mG hI 23 160 rfl (by decide)) rfl (by omega) (by decide) rfl ?_
    refine g_iload (pc := 22) dX11_lays_22 rfl ?_
    refine g_aload_n (pc := 24) dX11_lays_24 rfl ?_
    refine g_iload_n (pc := 25) dX11_lays_25 rfl ?_
    refine g_aaload (pc := 26) (t := 5) rfl rfl dX11_lays_26 (mG hI 24 160 rfl (by decide)) rfl (by omega) (by decide) rfl ?_
    refine g_iload (pc := 27) dX11_lays_27 rfl ?_
    refine g_iaload (pc := 29) dX11_lays_29 (mR hI 24 2 _ rfl (by show _ < 160; omega)) (j := i) rfl (by omega) (by decide) rfl ?_
    refine m_rast (pc := 30) (k := 23) (n := 2) hI rfl (by show _ < 160; omega) dX11_lays_30 (j := i) rfl (by omega) (by decide) (fun h hI fr => ?_)
    replace hF := mFr.tr hF fr
    refine g_iinc (pc := 31) (ls' := [_, _, _, _, _]) dX11_lays_31 rfl (by first | exact nI_1 _ | exact rfl) (by decide) rfl rfl ?_
    refine g_goto (pc := 34) 10 dX11_lays_34 (by decide) ?_
    refine ih (i + 1) h (by omega) (by omega) ?_ hF
    rw [layP_a (r := 1000 * 24 + k) (by omega), layP_s rfl] at hI
    exact hI
set_option maxHeartbeats 2000000 in
theorem l_lay23b {bc bs : Nat} {h0 : jH} (w : Nat) (hw : w ≤ 160) : ∀ (m k : Nat) (u : Option jV) (h : jH), w - k = m → k ≤ w → InvM am (layP V 24 23 2 k 0) h → mFr h0 h → G E d bc bs mX11_lays 2 [some (vR (nMa am 24)), some (vR (nMa am 23)), some (vI (nI w)), some (vI (nI k)), u] [] h (mQ am (layP V 24 23 2 w 0) h0 none) := by
  intro m
  induction m with
  | zero =>
    intro k u h hm hk hI hF
    have e : k = w := by omega
    subst e
    refine g_iload_n (pc := 2) dX11_lays_2 rfl ?_
    refine g_iload_n (pc := 3) dX11_lays_3 rfl ?_
    refine g_icmp_ge (pc := 4) 43 dX11_lays_4 (by decide) (fun c_4 => ?_) (fun c_4 => absurd (nI_le (Nat.le_refl _) (by omega)) c_4)
    refine g_return (pc := 43) dX11_lays_43 rfl ?_
    exact ⟨rfl, hI, hF⟩
  | succ m ih =>
    intro k u h hm hk hI hF
    refine g_iload_n (pc := 2) dX11_lays_2 rfl ?_
    refine g_iload_n (pc := 3) dX11_lays_3 rfl ?_
    refine g_icmp_ge (pc := 4) 43 dX11_lays_4 (by decide) (fun c_4 => absurd c_4 (by intro w; have := (nI_leI (by omega) (by omega)).mp w; omega)) (fun c_4 => ?_)
    refine g_iconst (pc := 7) (v := 0) dX11_lays_7 (by decide) ?_
    refine g_istore (pc := 8) (ls' := [_, _, _, _, _]) dX11_lays_8 (by decide) rfl rfl ?_
    refine l_lay23a w k (by omega) (fun h hI hF => ?_) 2 0 h rfl (Nat.zero_le _) hI hF
    refine g_iinc (pc := 37) (ls' := [_, _, _, _, _]) dX11_lays_37 rfl (by first | exact nI_1 _ | exact rfl) (by decide) rfl rfl ?_
    refine g_goto (pc := 40) 2 dX11_lays_40 (by decide) ?_
    exact ih (k + 1) _ h (by omega) (by omega) (by rw [← layP_r]; exact hI) hF
theorem c_lay23 (hI : InvM am V h) (w : Nat) (hw : w ≤ 160) : Ct E d 0 0 mX11_lays [vR (nMa am 24), vR (nMa am 23), vI (nI w)] h (mQ am (layP V 24 23 2 w 0) h none) := by
  refine ct_of (by decide) (Nat.le_of_ble_eq_true rfl) rfl ?_
  have hF : mFr h h := mFr.rf
  refine g_iconst (pc := 0) (v := 0) dX11_lays_0 (by decide) ?_
  refine g_istore_n (pc := 1) (ls' := [_, _, _, _, _]) dX11_lays_1 (by decide) rfl rfl ?_
  exact l_lay23b w hw w 0 _ h rfl (Nat.zero_le _) (by rw [layP_0]; exact hI) hF
set_option maxHeartbeats 2000000 in
theorem l_lay25a {bc bs : Nat} {h0 : jH} {Q : jR → jH → Prop} (w k : Nat) (hk : k < 10) (kk : ∀ h, InvM am (layP V 26 25 2 k 2) h → mFr h0 h → G E d bc bs mX11_lays 37 [some (vR (nMa am 26)), some (vR (nMa am 25)), some (vI (nI w)), some (vI (nI k)), some (vI (nI 2))] [] h Q) : ∀ (m i : Nat) (h : jH), 2 - i = m → i ≤ 2 → InvM am (layP V 26 25 2 k i) h → mFr h0 h → G E d bc bs mX11_lays 10 [some (vR (nMa am 26)), some (vR (nMa am 25)), some (vI (nI w)), some (vI (nI k)), some (vI (nI i))] [] h Q := by
  intro m
  induction m with
  | zero =>
    intro i h hm hi hI hF
    have e : i = 2 := by omega
    subst e
    refine g_iload (pc := 10) dX11_lays_10 rfl ?_
    refine g_aload_n (pc := 12) dX11_lays_12 rfl ?_
    refine g_iload_n (pc := 13) dX11_lays_13 rfl ?_
    refine g_aaload (pc := 14) (t := 5) rfl rfl dX11_lays_14 (mG hI 25 10 rfl (by decide)) rfl (by omega) (by decide) rfl ?_
    refine g_arraylength (pc := 15) (t := 0) rfl dX11_lays_15 (mR hI 25 2 _ rfl (by show _ < 10; omega)) ?_
    refine g_icmp_ge (pc := 16) 37 dX11_lays_16 (by decide) (fun c_16 => ?_) (fun c_16 => absurd (by decide) c_16)
    exact kk h hI hF
  | succ m ih =>
    intro i h hm hi hI hF
    refine g_iload (pc := 10) dX11_lays_10 rfl ?_
    refine g_aload_n (pc := 12) dX11_lays_12 rfl ?_
    refine g_iload_n (pc := 13) dX11_lays_13 rfl ?_
    refine g_aaload (pc := 14) (t := 5) rfl rfl dX11_lays_14 (mG hI 25 10 rfl (by decide)) rfl (by omega) (by decide) rfl ?_
    refine g_arraylength (pc := 15) (t := 0) rfl dX11_lays_15 (mR hI 25 2 _ rfl (by show _ < 10; omega)) ?_
    refine g_icmp_ge (pc := 16) 37 dX11_lays_16 (by decide) (fun c_16 => absurd c_16 (by intro w; have := (nI_leI (a := 2) (by decide) (by omega)).mp w; omega)) (fun c_16 => ?_)
    refine g_aload_n (pc := 19) dX11_lays_19 rfl ?_
    refine g_iload_n (pc := 20) dX11_lays_20 rfl ?_
    refine g_aaload (pc := 21) (t := 5) rfl rfl dX11_lays_21 (mG hI 25 10 rfl (by decide)) rfl (by omega) (by decide) rfl ?_
    refine g_iload (pc := 22) dX11_lays_22 rfl ?_
    refine g_aload_n (pc := 24) dX11_lays_24 rfl ?_
    refine g_iload_n (pc := 25) dX11_lays_25 rfl ?_
    refine g_aaload (pc := 26) (t := 5) rfl rfl dX11_lays_26 (mG hI 26 10 rfl (by decide)) rfl (by omega) (by decide) rfl ?_
    refine g_iload (pc := 27) dX11_lays_27 rfl ?_
    refine g_iaload (pc := 29) dX11_lays_29 (mR hI 26 2 _ rfl (by show _ < 10; omega)) (j := i) rfl (by omega) (by decide) rfl ?_
    refine m_rast (pc := 30) (k := 25) (n := 2) hI rfl (by show _ < 10; omega) dX11_lays_30 (j := i) rfl (by omega) (by decide) (fun h hI fr => ?_)
    replace hF := mFr.tr hF fr
    refine g_iinc (pc := 31) (ls' := [_, _, _, _, _]) dX11_lays_31 rfl (by first | exact nI_1 _ | exact rfl) (by decide) rfl rfl ?_
    refine g_goto (pc := 34) 10 dX11_lays_34 (by decide) ?_
    refine ih (i + 1) h (by omega) (by omega) ?_ hF
    rw [layP_a (r := 1000 * 26 + k) (by omega), layP_s rfl] at hI
    exact hI
set_option maxHeartbeats 2000000 in
theorem l_lay25b {bc bs : Nat} {h0 : jH} (w : Nat) (hw : w ≤ 10) : ∀ (m k : Nat) (u : Option jV) (h : jH), w - k = m → k ≤ w → InvM am (layP V 26 25 2 k 0) h → mFr h0 h → G E d bc bs mX11_lays 2 [some (vR (nMa am 26)), some (vR (nMa am 25)), some (vI (nI w)), some (vI (nI k)), u] [] h (mQ am (layP V 26 25 2 w 0) h0 none) := by
  intro m
  induction m with
  | zero =>
    intro k u h hm hk hI hF
    have e : k = w := by omega
    subst e
    refine g_iload_n (pc := 2) dX11_lays_2 rfl ?_
    refine g_iload_n (pc := 3) dX11_lays_3 rfl ?_
    refine g_icmp_ge (pc := 4) 43 dX11_lays_4 (by decide) (fun c_4 => ?_) (fun c_4 => absurd (nI_le (Nat.le_refl _) (by omega)) c_4)
    refine g_return (pc := 43) dX11_lays_43 rfl ?_
    exact ⟨rfl, hI, hF⟩
  | succ m ih =>
    intro k u h hm hk hI hF
    refine g_iload_n (pc := 2) dX11_lays_2 rfl ?_
    refine g_iload_n (pc := 3) dX11_lays_3 rfl ?_
    refine g_icmp_ge (pc := 4) 43 dX11_lays_4 (by decide) (fun c_4 => absurd c_4 (by intro w; have := (nI_leI (by omega) (by omega)).mp w; omega)) (fun c_4 => ?_)
    refine g_iconst (pc := 7) (v := 0) dX11_lays_7 (by decide) ?_
    refine g_istore (pc := 8) (ls' := [_, _, _, _, _]) dX11_lays_8 (by decide) rfl rfl ?_
    refine l_lay25a w k (by omega) (fun h hI hF => ?_) 2 0 h rfl (Nat.zero_le _) hI hF
    refine g_iinc (pc := 37) (ls' := [_, _, _, _, _]) dX11_lays_37 rfl (by first | exact nI_1 _ | exact rfl) (by decide) rfl rfl ?_
    refine g_goto (pc := 40) 2 dX11_lays_40 (by decide) ?_
    exact ih (k + 1) _ h (by omega) (by omega) (by rw [← layP_r]; exact hI) hF
theorem c_lay25 (hI : InvM am V h) (w : Nat) (hw : w ≤ 10) : Ct E d 0 0 mX11_lays [vR (nMa am 26), vR (nMa am 25), vI (nI w)] h (mQ am (layP V 26 25 2 w 0) h none) := by
  refine ct_of (by decide) (Nat.le_of_ble_eq_true rfl) rfl ?_
  have hF : mFr h h := mFr.rf
  refine g_iconst (pc := 0) (v := 0) dX11_lays_0 (by decide) ?_
  refine g_istore_n (pc := 1) (ls' := [_, _, _, _, _]) dX11_lays_1 (by decide) rfl rfl ?_
  exact l_lay25b w hw w 0 _ h rfl (Nat.zero_le _) (by rw [layP_0]; exact hI) hF
set_option maxHeartbeats 2000000 in
theorem l_bg1 {bc bs : Nat} {h0 : jH} {Q : jR → jH → Prop}  (kk : ∀ h, InvM am (svR V 12 (cpR (V 11) (V 12) 3)) h → mFr h0 h → G E d bc bs mX11_beginsAnew 25 [some (vR (nMo am)), some (vI (nI 3))] [] h Q) : ∀ (m k : Nat) (h : jH), 3 - k = m → k ≤ 3 → InvM am (svR V 12 (cpR (V 11) (V 12) k)) h → mFr h0 h → G E d bc bs mX11_beginsAnew 2 [some (vR (nMo am)), some (vI (nI k))] [] h Q := by
  intro m
  induction m with
  | zero =>
    intro k h hm hk hI hF
    have e : k = 3 := by omega
    subst e
    refine g_iload_n (pc := 2) dX11_beginsAnew_2 rfl ?_
    refine g_iconst (pc := 3) (v := 3) dX11_beginsAnew_3 (by decide) ?_
    refine g_icmp_ge (pc := 4) 25 dX11_beginsAnew_4 (by decide) (fun c_4 => ?_) (fun c_4 => absurd (by decide) c_4)
    exact kk h hI hF
  | succ m ih =>
    intro k h hm hk hI hF
    refine g_iload_n (pc := 2) dX11_beginsAnew_2 rfl ?_
    refine g_iconst (pc := 3) (v := 3) dX11_beginsAnew_3 (by decide) ?_
    refine g_icmp_ge (pc := 4) 25 dX11_beginsAnew_4 (by decide) (fun c_4 => absurd c_4 (by intro w; have := (nI_leI (a := 3) (by decide) (by omega)).mp w; omega)) (fun c_4 => ?_)
    refine g_aload_n (pc := 7) dX11_beginsAnew_7 rfl ?_
    refine g_getfield (pc := 8) f_X11_23_11 dX11_beginsAnew_8 hI.1 mf_12 ?_
    refine g_iload_n (pc := 11) dX11_beginsAnew_11 rfl ?_
    refine g_aload_n (pc := 12) dX11_beginsAnew_12 rfl ?_
    refine g_getfield (pc := 13) f_X11_20_11 dX11_beginsAnew_13 hI.1 mf_11 ?_
    refine g_iload_n (pc := 16) dX11_beginsAnew_16 rfl ?_
    refine g_iaload (pc := 17) dX11_beginsAnew_17 (mA hI 11 3 rfl (by decide)) rfl (by omega) (by decide) rfl ?_
    refine m_iast (pc := 18) (k := 12) (n := 3) hI rfl (by decide) dX11_beginsAnew_18 rfl (by omega) (by decide) (fun h hI fr => ?_)
    replace hF := mFr.tr hF fr
    refine g_iinc (pc := 19) (ls' := [_, _]) dX11_beginsAnew_19 rfl (by first | exact nI_1 _ | exact rfl) (by decide) rfl rfl ?_
    refine g_goto (pc := 22) 2 dX11_beginsAnew_22 (by decide) ?_
    refine ih (k + 1) h (by omega) (by omega) ?_ hF
    rw [sv_svR, svR_ne (show 11 ≠ 12 by decide), cpR_s rfl] at hI
    exact hI
set_option maxHeartbeats 2000000 in
theorem l_bg2 {bc bs : Nat} {h0 : jH} {Q : jR → jH → Prop}  (kk : ∀ h, InvM am (svR (svR V 14 (cpR (V 13) (V 14) 8)) 16 (cpR (V 15) (V 16) 8)) h → mFr h0 h → G E d bc bs mX11_beginsAnew 63 [some (vR (nMo am)), some (vI (nI 8))] [] h Q) : ∀ (m k : Nat) (h : jH), 8 - k = m → k ≤ 8 → InvM am (svR (svR V 14 (cpR (V 13) (V 14) k)) 16 (cpR (V 15) (V 16) k)) h → mFr h0 h → G E d bc bs mX11_beginsAnew 27 [some (vR (nMo am)), some (vI (nI k))] [] h Q := by
  intro m
  induction m with
  | zero =>
    intro k h hm hk hI hF
    have e : k = 8 := by omega
    subst e
    refine g_iload_n (pc := 27) dX11_beginsAnew_27 rfl ?_
    refine g_bipush (pc := 28) (v := 8) dX11_beginsAnew_28 (by decide) ?_
    refine g_icmp_ge (pc := 30) 63 dX11_beginsAnew_30 (by decide) (fun c_30 => ?_) (fun c_30 => absurd (by decide) c_30)
    exact kk h hI hF
  | succ m ih =>
    intro k h hm hk hI hF
    refine g_iload_n (pc := 27) dX11_beginsAnew_27 rfl ?_
    refine g_bipush (pc := 28) (v := 8) dX11_beginsAnew_28 (by decide) ?_
    refine g_icmp_ge (pc := 30) 63 dX11_beginsAnew_30 (by decide) (fun c_30 => absurd c_30 (by intro w; have := (nI_leI (a := 8) (by decide) (by omega)).mp w; omega)) (fun c_30 => ?_)
    refine g_aload_n (pc := 33) dX11_beginsAnew_33 rfl ?_
    refine g_getfield (pc := 34) f_X11_29_11 dX11_beginsAnew_34 hI.1 mf_14 ?_
    refine g_iload_n (pc := 37) dX11_beginsAnew_37 rfl ?_
    refine g_aload_n (pc := 38) dX11_beginsAnew_38 rfl ?_
    refine g_getfield (pc := 39) f_X11_26_11 dX11_beginsAnew_39 hI.1 mf_13 ?_
    refine g_iload_n (pc := 42) dX11_beginsAnew_42 rfl ?_
    refine g_iaload (pc := 43) dX11_beginsAnew_43 (mA hI 13 8 rfl (by decide)) rfl (by omega) (by decide) rfl ?_
    refine m_iast (pc := 44) (k := 14) (n := 8) hI rfl (by decide) dX11_beginsAnew_44 rfl (by omega) (by decide) (fun h hI fr => ?_)
    replace hF := mFr.tr hF fr
    refine g_aload_n (pc := 45) dX11_beginsAnew_45 rfl ?_
    refine g_getfield (pc := 46) f_X11_35_11 dX11_beginsAnew_46 hI.1 mf_16 ?_
    refine g_iload_n (pc := 49) dX11_beginsAnew_49 rfl ?_
    refine g_aload_n (pc := 50) dX11_beginsAnew_50 rfl ?_
    refine g_getfield (pc := 51) f_X11_32_11 dX11_beginsAnew_51 hI.1 mf_15 ?_
    refine g_iload_n (pc := 54) dX11_beginsAnew_54 rfl ?_
    refine g_iaload (pc := 55) dX11_beginsAnew_55 (mA hI 15 8 rfl (by decide)) rfl (by omega) (by decide) rfl ?_
    refine m_iast (pc := 56) (k := 16) (n := 8) hI rfl (by decide) dX11_beginsAnew_56 rfl (by omega) (by decide) (fun h hI fr => ?_)
    replace hF := mFr.tr hF fr
    refine g_iinc (pc := 57) (ls' := [_, _]) dX11_beginsAnew_57 rfl (by first | exact nI_1 _ | exact rfl) (by decide) rfl rfl ?_
    refine g_goto (pc := 60) 27 dX11_beginsAnew_60 (by decide) ?_
    refine ih (k + 1) h (by omega) (by omega) ?_ hF
    rw [svR_ne (show 13 ≠ 16 by decide), svR_ne (show 13 ≠ 14 by decide)] at hI
    rw [sv_ne (show 15 ≠ 14 by decide), svR_ne (show 15 ≠ 16 by decide), svR_ne (show 15 ≠ 14 by decide)] at hI
    rw [svR_sv (show 14 ≠ 16 by decide), sv_svR, sv_svR, cpR_s rfl, cpR_s rfl] at hI
    exact hI
set_option maxHeartbeats 2000000 in
theorem l_bg3 {bc bs : Nat} {h0 : jH} {Q : jR → jH → Prop}  (kk : ∀ h, InvM am (svR V 31 (flR 0 0 45 (V 31))) h → mFr h0 h → G E d bc bs mX11_beginsAnew 118 [some (vR (nMo am)), some (vI (nI 45))] [] h Q) : ∀ (m k : Nat) (h : jH), 45 - k = m → k ≤ 45 → InvM am (svR V 31 (flR 0 0 k (V 31))) h → mFr h0 h → G E d bc bs mX11_beginsAnew 99 [some (vR (nMo am)), some (vI (nI k))] [] h Q := by
  intro m
  induction m with
  | zero =>
    intro k h hm hk hI hF
    have e : k = 45 := by omega
    subst e
    refine g_iload_n (pc := 99) dX11_beginsAnew_99 rfl ?_
    refine g_bipush (pc := 100) (v := 45) dX11_beginsAnew_100 (by decide) ?_
    refine g_icmp_ge (pc := 102) 118 dX11_beginsAnew_102 (by decide) (fun c_102 => ?_) (fun c_102 => absurd (by decide) c_102)
    exact kk h hI hF
  | succ m ih =>
    intro k h hm hk hI hF
    refine g_iload_n (pc := 99) dX11_beginsAnew_99 rfl ?_
    refine g_bipush (pc := 100) (v := 45) dX11_beginsAnew_100 (by decide) ?_
    refine g_icmp_ge (pc := 102) 118 dX11_beginsAnew_102 (by decide) (fun c_102 => absurd c_102 (by intro w; have := (nI_leI (a := 45) (by decide) (by omega)).mp w; omega)) (fun c_102 => ?_)
    refine g_aload_n (pc := 105) dX11_beginsAnew_105 rfl ?_
    refine g_getfield (pc := 106) f_X11_73_11 dX11_beginsAnew_106 hI.1 mf_31 ?_
    refine g_iload_n (pc := 109) dX11_beginsAnew_109 rfl ?_
    refine g_iconst (pc := 110) (v := 0) dX11_beginsAnew_110 (by decide) ?_
    refine m_iast (pc := 111) (k := 31) (n := 45) hI rfl (by decide) dX11_beginsAnew_111 rfl (by omega) (by decide) (fun h hI fr => ?_)
    replace hF := mFr.tr hF fr
    refine g_iinc (pc := 112) (ls' := [_, _]) dX11_beginsAnew_112 rfl (by first | exact nI_1 _ | exact rfl) (by decide) rfl rfl ?_
    refine g_goto (pc := 115) 99 dX11_beginsAnew_115 (by decide) ?_
    refine ih (k + 1) h (by omega) (by omega) ?_ hF
    have e9 : j_up (flR 0 0 k (V 31)) k 0 = flR 0 0 (k + 1) (V 31) := by have := flR_s (c := 0) (o := 0) (k := k) (g := V 31); rw [Nat.zero_add] at this; exact this
    rw [sv_svR, e9] at hI
    exact hI
set_option maxHeartbeats 2000000 in
theorem l_bg4 {bc bs : Nat} {h0 : jH} {Q : jR → jH → Prop}  (kk : ∀ h, InvM am (svR V 31 (flR (-1) 16 10 (V 31))) h → mFr h0 h → G E d bc bs mX11_beginsAnew 142 [some (vR (nMo am)), some (vI (nI 10))] [] h Q) : ∀ (m k : Nat) (h : jH), 10 - k = m → k ≤ 10 → InvM am (svR V 31 (flR (-1) 16 k (V 31))) h → mFr h0 h → G E d bc bs mX11_beginsAnew 120 [some (vR (nMo am)), some (vI (nI k))] [] h Q := by
  intro m
  induction m with
  | zero =>
    intro k h hm hk hI hF
    have e : k = 10 := by omega
    subst e
    refine g_iload_n (pc := 120) dX11_beginsAnew_120 rfl ?_
    refine g_bipush (pc := 121) (v := 10) dX11_beginsAnew_121 (by decide) ?_
    refine g_icmp_ge (pc := 123) 142 dX11_beginsAnew_123 (by decide) (fun c_123 => ?_) (fun c_123 => absurd (by decide) c_123)
    exact kk h hI hF
  | succ m ih =>
    intro k h hm hk hI hF
    refine g_iload_n (pc := 120) dX11_beginsAnew_120 rfl ?_
    refine g_bipush (pc := 121) (v := 10) dX11_beginsAnew_121 (by decide) ?_
    refine g_icmp_ge (pc := 123) 142 dX11_beginsAnew_123 (by decide) (fun c_123 => absurd c_123 (by intro w; have := (nI_leI (a := 10) (by decide) (by omega)).mp w; omega)) (fun c_123 => ?_)
    refine g_aload_n (pc := 126) dX11_beginsAnew_126 rfl ?_
    refine g_getfield (pc := 127) f_X11_73_11 dX11_beginsAnew_127 hI.1 mf_31 ?_
    refine g_bipush (pc := 130) (v := 16) dX11_beginsAnew_130 (by decide) ?_
    refine g_iload_n (pc := 132) dX11_beginsAnew_132 rfl ?_
    refine g_iadd (pc := 133) dX11_beginsAnew_133 ?_
    refine g_iconst (pc := 134) (v := -1) dX11_beginsAnew_134 (by decide) ?_
    refine m_iast (pc := 135) (k := 31) (n := 45) hI rfl (by decide) dX11_beginsAnew_135 (j := 16 + k) (nI_add 16 k) (by omega) (by decide) (fun h hI fr => ?_)
    replace hF := mFr.tr hF fr
    refine g_iinc (pc := 136) (ls' := [_, _]) dX11_beginsAnew_136 rfl (by first | exact nI_1 _ | exact rfl) (by decide) rfl rfl ?_
    refine g_goto (pc := 139) 120 dX11_beginsAnew_139 (by decide) ?_
    refine ih (k + 1) h (by omega) (by omega) ?_ hF
    rw [sv_svR, flR_s] at hI
    exact hI
set_option maxHeartbeats 2000000 in
theorem l_bg5 {bc bs : Nat} {h0 : jH} {Q : jR → jH → Prop}  (kk : ∀ h, InvM am (svR V 31 (flR (-1) 36 8 (V 31))) h → mFr h0 h → G E d bc bs mX11_beginsAnew 166 [some (vR (nMo am)), some (vI (nI 8))] [] h Q) : ∀ (m k : Nat) (h : jH), 8 - k = m → k ≤ 8 → InvM am (svR V 31 (flR (-1) 36 k (V 31))) h → mFr h0 h → G E d bc bs mX11_beginsAnew 144 [some (vR (nMo am)), some (vI (nI k))] [] h Q := by
  intro m
  induction m with
  | zero =>
    intro k h hm hk hI hF
    have e : k = 8 := by omega
    subst e
    refine g_iload_n (pc := 144) dX11_beginsAnew_144 rfl ?_
    refine g_bipush (pc := 145) (v := 8) dX11_beginsAnew_145 (by decide) ?_
    refine g_icmp_ge (pc := 147) 166 dX11_beginsAnew_147 (by decide) (fun c_147 => ?_) (fun c_147 => absurd (by decide) c_147)
    exact kk h hI hF
  | succ m ih =>
    intro k h hm hk hI hF
    refine g_iload_n (pc := 144) dX11_beginsAnew_144 rfl ?_
    refine g_bipush (pc := 145) (v := 8) dX11_beginsAnew_145 (by decide) ?_
    refine g_icmp_ge (pc := 147) 166 dX11_beginsAnew_147 (by decide) (fun c_147 => absurd c_147 (by intro w; have := (nI_leI (a := 8) (by decide) (by omega)).mp w; omega)) (fun c_147 => ?_)
    refine g_aload_n (pc := 150) dX11_beginsAnew_150 rfl ?_
    refine g_getfield (pc := 151) f_X11_73_11 dX11_beginsAnew_151 hI.1 mf_31 ?_
    refine g_bipush (pc := 154) (v := 36) dX11_beginsAnew_154 (by decide) ?_
    refine g_iload_n (pc := 156) dX11_beginsAnew_156 rfl ?_
    refine g_iadd (pc := 157) dX11_beginsAnew_157 ?_
    refine g_iconst (pc := 158) (v := -1) dX11_beginsAnew_158 (by decide) ?_
    refine m_iast (pc := 159) (k := 31) (n := 45) hI rfl (by decide) dX11_beginsAnew_159 (j := 36 + k) (nI_add 36 k) (by omega) (by decide) (fun h hI fr => ?_)
    replace hF := mFr.tr hF fr
    refine g_iinc (pc := 160) (ls' := [_, _]) dX11_beginsAnew_160 rfl (by first | exact nI_1 _ | exact rfl) (by decide) rfl rfl ?_
    refine g_goto (pc := 163) 144 dX11_beginsAnew_163 (by decide) ?_
    refine ih (k + 1) h (by omega) (by omega) ?_ hF
    rw [sv_svR, flR_s] at hI
    exact hI
/-- the row of a house that begins -/
def row0 (g : Nat → Int32) : Nat → Int32 := flR (-1) 36 8 (flR (-1) 16 10 (flR 0 0 45 g))
def bgA (V : mV) : mV := svR (svR (svR V 12 (cpR (V 11) (V 12) 3)) 14 (cpR (V 13) (V 14) 8)) 16 (cpR (V 15) (V 16) 8)
def bgB (V : mV) (nR nP : Nat) : mV := layP (layP (bgA V) 17 18 3 nR 0) 19 20 2 nP 0
def bgV (V : mV) (nR nP : Nat) : mV := sv (sv (sv (sv (sv (svR (bgB V nR nP) 31 (row0 (V 31))) 0 21 0) 0 35 0) 0 36 0) 0 37 0) 0 38 0
theorem bgB_ne {V : mV} {nR nP r : Nat} (h : r < 18000) (h1 : r ≠ 12) (h2 : r ≠ 14) (h3 : r ≠ 16) : bgB V nR nP r = V r := by
  unfold bgB bgA
  rw [layP_a (by omega), layP_a (by omega), svR_ne h3, svR_ne h2, svR_ne h1]
set_option maxHeartbeats 2000000 in
theorem c_beginsAnew (hd : 1 ≤ d) (hI : InvM am V h) (nR nP : Nat) (h1 : V 11 1 = nI nR) (h2 : V 11 2 = nI nP) (b1 : nR ≤ 10) (b2 : nP ≤ 8) : Ct E d 0 0 mX11_beginsAnew [vR (nMo am)] h (mQ am (bgV V nR nP) h none) := by
  refine ct_of (by decide) (Nat.le_of_ble_eq_true rfl) rfl ?_
  have hF : mFr h h := mFr.rf
  have e12 : ∀ j, j < 3 → bgA V 12 j = V 11 j := fun j hj => by
    unfold bgA cpR
    rw [svR_ne (by decide), svR_ne (by decide), svR_row, if_pos hj]
  refine g_iconst (pc := 0) (v := 0) dX11_beginsAnew_0 (by decide) ?_
  refine g_istore_n (pc := 1) (ls' := [_, _]) dX11_beginsAnew_1 (by decide) rfl rfl ?_
  refine l_bg1 (V := V) (fun h hI hF => ?_) 3 0 h rfl (Nat.zero_le _) (by rw [cpR_0, svR_self]; exact hI) hF
  refine g_iconst (pc := 25) (v := 0) dX11_beginsAnew_25 (by decide) ?_
  refine g_istore_n (pc := 26) (ls' := [_, _]) dX11_beginsAnew_26 (by decide) rfl rfl ?_
  refine l_bg2 (V := svR V 12 (cpR (V 11) (V 12) 3)) (fun h hI hF => ?_) 8 0 h rfl (Nat.zero_le _) (by rw [cpR_0, cpR_0, svR_self, svR_self]; exact hI) hF
  rw [svR_ne (show 13 ≠ 12 by decide), svR_ne (show 14 ≠ 12 by decide), svR_ne (show 15 ≠ 12 by decide), svR_ne (show 16 ≠ 12 by decide)] at hI
  change InvM am (bgA V) h at hI
  refine g_aload_n (pc := 63) dX11_beginsAnew_63 rfl ?_
  refine g_getfield (pc := 64) f_X11_40_11 dX11_beginsAnew_64 hI.1 mf_17 ?_
  refine g_aload_n (pc := 67) dX11_beginsAnew_67 rfl ?_
  refine g_getfield (pc := 68) f_X11_43_11 dX11_beginsAnew_68 hI.1 mf_18 ?_
  refine g_aload_n (pc := 71) dX11_beginsAnew_71 rfl ?_
  refine g_getfield (pc := 72) f_X11_23_11 dX11_beginsAnew_72 hI.1 mf_12 ?_
  refine g_iconst (pc := 75) (v := 1) dX11_beginsAnew_75 (by decide) ?_
  refine g_iaload (pc := 76) dX11_beginsAnew_76 (mA hI 12 3 rfl (by decide)) (j := 1) (by decide) (by omega) (by decide) rfl ?_
  rw [e12 1 (by decide), h1]
  refine m_cSv (pc := 77) (M' := mX11_lays) (as := [_, _, _]) i_X11_196 eX11_lays dX11_beginsAnew_77 (c_lay18 hI nR b1) (by omega) rfl rfl (Nat.le_of_ble_eq_true rfl) (fun h hI fr => ?_)
  replace hF := mFr.tr hF fr
  refine g_aload_n (pc := 80) dX11_beginsAnew_80 rfl ?_
  refine g_getfield (pc := 81) f_X11_46_11 dX11_beginsAnew_81 hI.1 mf_19 ?_
  refine g_aload_n (pc := 84) dX11_beginsAnew_84 rfl ?_
  refine g_getfield (pc := 85) f_X11_49_11 dX11_beginsAnew_85 hI.1 mf_20 ?_
  refine g_aload_n (pc := 88) dX11_beginsAnew_88 rfl ?_
  refine g_getfield (pc := 89) f_X11_23_11 dX11_beginsAnew_89 hI.1 mf_12 ?_
  refine g_iconst (pc := 92) (v := 2) dX11_beginsAnew_92 (by decide) ?_
  refine g_iaload (pc := 93) dX11_beginsAnew_93 (mA hI 12 3 rfl (by decide)) (j := 2) (by decide) (by omega) (by decide) rfl ?_
  rw [layP_a (r := 12) (by omega), e12 2 (by decide), h2]
  refine m_cSv (pc := 94) (M' := mX11_lays) (as := [_, _, _]) i_X11_196 eX11_lays dX11_beginsAnew_94 (c_lay20 hI nP b2) (by omega) rfl rfl (Nat.le_of_ble_eq_true rfl) (fun h hI fr => ?_)
  replace hF := mFr.tr hF fr
  change InvM am (bgB V nR nP) h at hI
  refine g_iconst (pc := 97) (v := 0) dX11_beginsAnew_97 (by decide) ?_
  refine g_istore_n (pc := 98) (ls' := [_, _]) dX11_beginsAnew_98 (by decide) rfl rfl ?_
  refine l_bg3 (V := bgB V nR nP) (fun h hI hF => ?_) 45 0 h rfl (Nat.zero_le _) (by rw [flR_0, svR_self]; exact hI) hF
  refine g_iconst (pc := 118) (v := 0) dX11_beginsAnew_118 (by decide) ?_
  refine g_istore_n (pc := 119) (ls' := [_, _]) dX11_beginsAnew_119 (by decide) rfl rfl ?_
  refine l_bg4 (V := svR (bgB V nR nP) 31 (flR 0 0 45 (bgB V nR nP 31))) (fun h hI hF => ?_) 10 0 h rfl (Nat.zero_le _) (by rw [flR_0, svR_self]; exact hI) hF
  rw [svR_row, svR_svR] at hI
  refine g_iconst (pc := 142) (v := 0) dX11_beginsAnew_142 (by decide) ?_
  refine g_istore_n (pc := 143) (ls' := [_, _]) dX11_beginsAnew_143 (by decide) rfl rfl ?_
  refine l_bg5 (V := svR (bgB V nR nP) 31 (flR (-1) 16 10 (flR 0 0 45 (bgB V nR nP 31)))) (fun h hI hF => ?_) 8 0 h rfl (Nat.zero_le _) (by rw [flR_0, svR_self]; exact hI) hF
  rw [svR_row, svR_svR, bgB_ne (r := 31) (by decide) (by decide) (by decide) (by decide)] at hI
  refine g_aload_n (pc := 166) dX11_beginsAnew_166 rfl ?_
  refine g_iconst (pc := 167) (v := 0) dX11_beginsAnew_167 (by decide) ?_
  refine m_put (pc := 168) hI w_X11_200_11 rfl (by decide) dX11_beginsAnew_168 (fun h hI fr => ?_)
  replace hF := mFr.tr hF fr
  refine g_aload_n (pc := 171) dX11_beginsAnew_171 rfl ?_
  refine g_iconst (pc := 172) (v := 0) dX11_beginsAnew_172 (by decide) ?_
  refine m_put (pc := 173) hI w_X11_203_11 rfl (by decide) dX11_beginsAnew_173 (fun h hI fr => ?_)
  replace hF := mFr.tr hF fr
  refine g_aload_n (pc := 176) dX11_beginsAnew_176 rfl ?_
  refine g_iconst (pc := 177) (v := 0) dX11_beginsAnew_177 (by decide) ?_
  refine m_put (pc := 178) hI w_X11_206_11 rfl (by decide) dX11_beginsAnew_178 (fun h hI fr => ?_)
  replace hF := mFr.tr hF fr
  refine g_aload_n (pc := 181) dX11_beginsAnew_181 rfl ?_
  refine g_iconst (pc := 182) (v := 0) dX11_beginsAnew_182 (by decide) ?_
  refine m_put (pc := 183) hI w_X11_209_11 rfl (by decide) dX11_beginsAnew_183 (fun h hI fr => ?_)
  replace hF := mFr.tr hF fr
  refine g_aload_n (pc := 186) dX11_beginsAnew_186 rfl ?_
  refine g_iconst (pc := 187) (v := 0) dX11_beginsAnew_187 (by decide) ?_
  refine m_put (pc := 188) hI w_X11_212_11 rfl (by decide) dX11_beginsAnew_188 (fun h hI fr => ?_)
  replace hF := mFr.tr hF fr
  refine g_return (pc := 191) dX11_beginsAnew_191 rfl ?_
  exact ⟨rfl, hI, hF⟩
end
