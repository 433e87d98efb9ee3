/-! THE REFERENCE: who has lapsed. Printed by m_q7.py -/
set_option maxRecDepth 100000
def pwIf (lw : (Nat → Int32) → Int32) (D : Nat → Nat → Nat) (nR : Nat) (R : Nat → Int32) (r : Nat) (q : Bool) : Int32 := if kpd R r then pwOf lw D nR R r (R (16 + r) / (1 + bI q)) (R (8 + D 0 r) + bI q) (R 44) else 0
/-- the lines of what was seen: Ln k the relic, X k what it could -/
def ML (V : mV) (Ln : Nat → Nat) (X : Nat → Int32) (nL nR : Nat) : Prop := V 0 35 = nI nL ∧ nL ≤ 10 ∧ (∀ k, k < nL → V (1000 * 25 + k) 0 = nI (Ln k) ∧ V (1000 * 25 + k) 1 = X k ∧ Ln k < nR) ∧ ∀ k j, k < nL → j < nL → Ln k = Ln j → k = j
theorem ML.f0 {V : mV} {Ln : Nat → Nat} {X : Nat → Int32} {nL nR j : Nat} {y : Int32} (h : ML V Ln X nL nR) (hj : j ≠ 35) : ML (sv V 0 j y) Ln X nL nR := by
  refine ⟨by rw [sv_nj (fun e => hj e.symm)]; exact h.1, h.2.1, fun k hk => ?_, h.2.2.2⟩
  rw [sv_ne (show 1000 * 25 + k ≠ 0 by omega)]
  exact h.2.2.1 k hk
def islB (lw : (Nat → Int32) → Int32) (D : Nat → Nat → Nat) (nS nR : Nat) (R : Nat → Int32) (Ln : Nat → Nat) (X : Nat → Int32) (nL x : Nat) : Bool :=
  decide (∀ s, s < nS → hasI (nI x) (nI s) = true → clI D nR R s = true) && decide (∀ k, k < nL → pwIf lw D nR R (Ln k) (hasI (nI x) (nI (D 0 (Ln k)))) = X k)
theorem islB_t {lw : (Nat → Int32) → Int32} {D : Nat → Nat → Nat} {nS nR : Nat} {R : Nat → Int32} {Ln : Nat → Nat} {X : Nat → Int32} {nL x : Nat} (h1 : ∀ s, s < nS → hasI (nI x) (nI s) = true → clI D nR R s = true) (h2 : ∀ k, k < nL → pwIf lw D nR R (Ln k) (hasI (nI x) (nI (D 0 (Ln k)))) = X k) : islB lw D nS nR R Ln X nL x = true := by
  unfold islB
  rw [decide_eq_true h1, decide_eq_true h2]
  rfl
theorem islB_f1 {lw : (Nat → Int32) → Int32} {D : Nat → Nat → Nat} {nS nR : Nat} {R : Nat → Int32} {Ln : Nat → Nat} {X : Nat → Int32} {nL x s : Nat} (hs : s < nS) (h1 : hasI (nI x) (nI s) = true) (h2 : clI D nR R s = false) : islB lw D nS nR R Ln X nL x = false := by
  unfold islB
  have q : ¬ (∀ s, s < nS → hasI (nI x) (nI s) = true → clI D nR R s = true) := fun w => absurd (h2.symm.trans (w s hs h1)) (by decide)
  rw [decide_eq_false q]
  rfl
theorem islB_f2 {lw : (Nat → Int32) → Int32} {D : Nat → Nat → Nat} {nS nR : Nat} {R : Nat → Int32} {Ln : Nat → Nat} {X : Nat → Int32} {nL x k : Nat} (hk : k < nL) (h2 : ¬ pwIf lw D nR R (Ln k) (hasI (nI x) (nI (D 0 (Ln k)))) = X k) : islB lw D nS nR R Ln X nL x = false := by
  unfold islB
  have q : ¬ (∀ k, k < nL → pwIf lw D nR R (Ln k) (hasI (nI x) (nI (D 0 (Ln k)))) = X k) := fun w => h2 (w k hk)
  rw [decide_eq_false q, Bool.and_false]
theorem bitI_pow : ∀ n, n ≤ 10 → bitI n = nI (2 ^ n) := by decide
theorem pow8 : ∀ n, n ≤ 8 → 1 ≤ 2 ^ n ∧ 2 ^ n ≤ 256 := by decide
def lpsF (p : Nat → Bool) (a0 : Int32) : Nat → Int32 × Int32 × Int32
  | 0 => (0, -1, a0)
  | k + 1 => if p k = true then ((lpsF p a0 k).1 + 1, (if (lpsF p a0 k).1 = 0 then nI k else (lpsF p a0 k).2.1), (lpsF p a0 k).2.2 &&& nI k) else lpsF p a0 k
def lpsI (w : Int32) (s : Int32 × Int32 × Int32) : Int32 := if w = 0 then s.1 else if w = 1 then s.2.1 else if s.1 = 0 then 0 else s.2.2
def tldB (Ln : Nat → Nat) (nL r : Nat) : Bool := decide (∃ k, k < nL ∧ Ln k = r)
def askC (p q : Nat → Bool) : Nat → Int32 × Int32
  | 0 => (0, 0)
  | k + 1 => if p k = true then (if q k = true then ((askC p q k).1 + 1, (askC p q k).2) else ((askC p q k).1, (askC p q k).2 + 1)) else askC p q k
/-- the worst that is left, had r been asked -/
def wstI (lw : (Nat → Int32) → Int32) (D : Nat → Nat → Nat) (nR : Nat) (R : Nat → Int32) (p : Nat → Bool) (N r : Nat) : Int32 :=
  if pwIf lw D nR R r true = pwIf lw D nR R r false then (askC p (fun k => hasI (nI k) (nI (D 0 r))) N).1 + (askC p (fun k => hasI (nI k) (nI (D 0 r))) N).2 else moreI (askC p (fun k => hasI (nI k) (nI (D 0 r))) N).1 (askC p (fun k => hasI (nI k) (nI (D 0 r))) N).2
def askF (t : Nat → Bool) (w : Nat → Int32) : Nat → Int32 × Int32
  | 0 => (-1, -1)
  | r + 1 => if t r = true then askF t w r else if ¬ (askF t w r).1 = -1 ∧ ¬ w r < (askF t w r).2 then askF t w r else (nI r, w r)
section
variable {E : jE} {d : Nat} {h : jH} {am : Nat → Nat} {V : mV} {D : Nat → Nat → Nat} {nS nR nP nL k : Nat} {Ln : Nat → Nat} {X : Nat → Int32}
theorem c_powerIf (hd : 5 ≤ d) (hI : InvM am V h) (hT : MT V D nS nR nP) (hl : okL V) (r : Nat) (hr : r < nR) (q : Bool) : Ct E d 0 0 mX11_powerIf [vR (nMo am), vI (nI r), vI (bI q)] h (qR (some (vI (pwIf (mlaw V) D nR (V 31) r q))) h) := by
  refine ct_of (by decide) (Nat.le_of_ble_eq_true rfl) rfl ?_
  have b8 := hT.2.2.2.1
  have b10 := hT.2.2.2.2.1
  have hrr := hT.2.2.2.2.2.2.1 r hr
  refine g_iload_n (pc := 0) dX11_powerIf_0 rfl ?_
  refine g_ifB_eq (pc := 1) 8 dX11_powerIf_1 (by decide) (fun c_1 => ?_) (fun c_1 => ?_)
  · refine g_iconst (pc := 8) (v := 0) dX11_powerIf_8 (by decide) ?_
    refine g_istore_n (pc := 9) (ls' := [_, _, _, _]) dX11_powerIf_9 (by decide) rfl rfl ?_
    refine g_aload_n (pc := 10) dX11_powerIf_10 rfl ?_
    refine g_getfield (pc := 11) f_X11_73_11 dX11_powerIf_11 hI.1 mf_31 ?_
    refine g_iload_n (pc := 14) dX11_powerIf_14 rfl ?_
    refine g_cS (pc := 15) (M' := mX11_isKept) (as := [_, _]) i_X11_267 eX11_isKept dX11_powerIf_15 (c_isKept hI (k := 31) rfl r (by omega)) (by omega) rfl rfl (Nat.le_of_ble_eq_true rfl) ?_
    refine g_ifB_eq (pc := 18) 71 dX11_powerIf_18 (by decide) (fun c_18 => ?_) (fun c_18 => ?_)
    · refine g_iconst (pc := 71) (v := 0) dX11_powerIf_71 (by decide) ?_
      refine g_ireturn (pc := 72) dX11_powerIf_72 rfl (by first | exact rfl | exact j_nb _) ?_
      subst c_1
      unfold pwIf
      first
        | exact ⟨by rw [if_pos c_18]; rfl, rfl⟩
        | exact ⟨by rw [if_neg (by rw [c_18]; decide)], rfl⟩
    · refine g_aload_n (pc := 21) dX11_powerIf_21 rfl ?_
      refine g_aload_n (pc := 22) dX11_powerIf_22 rfl ?_
      refine g_getfield (pc := 23) f_X11_73_11 dX11_powerIf_23 hI.1 mf_31 ?_
      refine g_iload_n (pc := 26) dX11_powerIf_26 rfl ?_
      refine g_aload_n (pc := 27) dX11_powerIf_27 rfl ?_
      refine g_getfield (pc := 28) f_X11_73_11 dX11_powerIf_28 hI.1 mf_31 ?_
      refine g_bipush (pc := 31) (v := 16) dX11_powerIf_31 (by decide) ?_
      refine g_iload_n (pc := 33) dX11_powerIf_33 rfl ?_
      refine g_iadd (pc := 34) dX11_powerIf_34 ?_
      refine g_iaload (pc := 35) dX11_powerIf_35 (mA hI 31 45 rfl (by decide)) (j := 16 + r) (nI_add 16 r) (by omega) (by decide) rfl ?_
      refine g_iconst (pc := 36) (v := 1) dX11_powerIf_36 (by decide) ?_
      refine g_iload_n (pc := 37) dX11_powerIf_37 rfl ?_
      refine g_iadd (pc := 38) dX11_powerIf_38 ?_
      refine g_idiv (pc := 39) dX11_powerIf_39 (by decide) ?_
      refine g_aload_n (pc := 40) dX11_powerIf_40 rfl ?_
      refine g_getfield (pc := 41) f_X11_73_11 dX11_powerIf_41 hI.1 mf_31 ?_
      refine g_bipush (pc := 44) (v := 8) dX11_powerIf_44 (by decide) ?_
      refine g_aload_n (pc := 46) dX11_powerIf_46 rfl ?_
      refine g_getfield (pc := 47) f_X11_43_11 dX11_powerIf_47 hI.1 mf_18 ?_
      refine g_iload_n (pc := 50) dX11_powerIf_50 rfl ?_
      refine g_aaload (pc := 51) (t := 5) rfl rfl dX11_powerIf_51 (mG hI 18 10 rfl (by decide)) rfl (by omega) (by decide) rfl ?_
      refine g_iconst (pc := 52) (v := 0) dX11_powerIf_52 (by decide) ?_
      refine g_iaload (pc := 53) dX11_powerIf_53 (mR hI 18 3 _ rfl (by show _ < 10; omega)) (j := 0) (by decide) (by omega) (by decide) rfl ?_
      rw [hrr.1]
      refine g_iadd (pc := 54) dX11_powerIf_54 ?_
      refine g_iaload (pc := 55) dX11_powerIf_55 (mA hI 31 45 rfl (by decide)) (j := 8 + D 0 r) (nI_add 8 (D 0 r)) (by omega) (by decide) rfl ?_
      refine g_iload_n (pc := 56) dX11_powerIf_56 rfl ?_
      refine g_iadd (pc := 57) dX11_powerIf_57 ?_
      refine g_aload_n (pc := 58) dX11_powerIf_58 rfl ?_
      refine g_getfield (pc := 59) f_X11_73_11 dX11_powerIf_59 hI.1 mf_31 ?_
      refine g_bipush (pc := 62) (v := 44) dX11_powerIf_62 (by decide) ?_
      refine g_iaload (pc := 64) dX11_powerIf_64 (mA hI 31 45 rfl (by decide)) (j := 44) (by decide) (by omega) (by decide) rfl ?_
      refine m_cP (pc := 65) (M' := mX11_powerOf) (as := [_, _, _, _, _]) i_X11_285_11 eX11_powerOf hI dX11_powerIf_65 (c_powerOf (by omega) hI hT hl (k := 31) rfl r hr _ _ _) (by omega) rfl rfl (Nat.le_of_ble_eq_true rfl) ?_
      refine g_goto (pc := 68) 72 dX11_powerIf_68 (by decide) ?_
      refine g_ireturn (pc := 72) dX11_powerIf_72 rfl (by first | exact rfl | exact j_nb _) ?_
      subst c_1
      unfold pwIf
      first
        | exact ⟨by rw [if_pos c_18]; rfl, rfl⟩
        | exact ⟨by rw [if_neg (by rw [c_18]; decide)], rfl⟩
  · refine g_iconst (pc := 4) (v := 1) dX11_powerIf_4 (by decide) ?_
    refine g_goto (pc := 5) 9 dX11_powerIf_5 (by decide) ?_
    refine g_istore_n (pc := 9) (ls' := [_, _, _, _]) dX11_powerIf_9 (by decide) rfl rfl ?_
    refine g_aload_n (pc := 10) dX11_powerIf_10 rfl ?_
    refine g_getfield (pc := 11) f_X11_73_11 dX11_powerIf_11 hI.1 mf_31 ?_
    refine g_iload_n (pc := 14) dX11_powerIf_14 rfl ?_
    refine g_cS (pc := 15) (M' := mX11_isKept) (as := [_, _]) i_X11_267 eX11_isKept dX11_powerIf_15 (c_isKept hI (k := 31) rfl r (by omega)) (by omega) rfl rfl (Nat.le_of_ble_eq_true rfl) ?_
    refine g_ifB_eq (pc := 18) 71 dX11_powerIf_18 (by decide) (fun c_18 => ?_) (fun c_18 => ?_)
    · refine g_iconst (pc := 71) (v := 0) dX11_powerIf_71 (by decide) ?_
      refine g_ireturn (pc := 72) dX11_powerIf_72 rfl (by first | exact rfl | exact j_nb _) ?_
      subst c_1
      unfold pwIf
      first
        | exact ⟨by rw [if_pos c_18]; rfl, rfl⟩
        | exact ⟨by rw [if_neg (by rw [c_18]; decide)], rfl⟩
    · refine g_aload_n (pc := 21) dX11_powerIf_21 rfl ?_
      refine g_aload_n (pc := 22) dX11_powerIf_22 rfl ?_
      refine g_getfield (pc := 23) f_X11_73_11 dX11_powerIf_23 hI.1 mf_31 ?_
      refine g_iload_n (pc := 26) dX11_powerIf_26 rfl ?_
      refine g_aload_n (pc := 27) dX11_powerIf_27 rfl ?_
      refine g_getfield (pc := 28) f_X11_73_11 dX11_powerIf_28 hI.1 mf_31 ?_
      refine g_bipush (pc := 31) (v := 16) dX11_powerIf_31 (by decide) ?_
      refine g_iload_n (pc := 33) dX11_powerIf_33 rfl ?_
      refine g_iadd (pc := 34) dX11_powerIf_34 ?_
      refine g_iaload (pc := 35) dX11_powerIf_35 (mA hI 31 45 rfl (by decide)) (j := 16 + r) (nI_add 16 r) (by omega) (by decide) rfl ?_
      refine g_iconst (pc := 36) (v := 1) dX11_powerIf_36 (by decide) ?_
      refine g_iload_n (pc := 37) dX11_powerIf_37 rfl ?_
      refine g_iadd (pc := 38) dX11_powerIf_38 ?_
      refine g_idiv (pc := 39) dX11_powerIf_39 (by decide) ?_
      refine g_aload_n (pc := 40) dX11_powerIf_40 rfl ?_
      refine g_getfield (pc := 41) f_X11_73_11 dX11_powerIf_41 hI.1 mf_31 ?_
      refine g_bipush (pc := 44) (v := 8) dX11_powerIf_44 (by decide) ?_
      refine g_aload_n (pc := 46) dX11_powerIf_46 rfl ?_
      refine g_getfield (pc := 47) f_X11_43_11 dX11_powerIf_47 hI.1 mf_18 ?_
      refine g_iload_n (pc := 50) dX11_powerIf_50 rfl ?_
      refine g_aaload (pc := 51) (t := 5) rfl rfl dX11_powerIf_51 (mG hI 18 10 rfl (by decide)) rfl (by omega) (by decide) rfl ?_
      refine g_iconst (pc := 52) (v := 0) dX11_powerIf_52 (by decide) ?_
      refine g_iaload (pc := 53) dX11_powerIf_53 (mR hI 18 3 _ rfl (by show _ < 10; omega)) (j := 0) (by decide) (by omega) (by decide) rfl ?_
      rw [hrr.1]
      refine g_iadd (pc := 54) dX11_powerIf_54 ?_
      refine g_iaload (pc := 55) dX11_powerIf_55 (mA hI 31 45 rfl (by decide)) (j := 8 + D 0 r) (nI_add 8 (D 0 r)) (by omega) (by decide) rfl ?_
      refine g_iload_n (pc := 56) dX11_powerIf_56 rfl ?_
      refine g_iadd (pc := 57) dX11_powerIf_57 ?_
      refine g_aload_n (pc := 58) dX11_powerIf_58 rfl ?_
      refine g_getfield (pc := 59) f_X11_73_11 dX11_powerIf_59 hI.1 mf_31 ?_
      refine g_bipush (pc := 62) (v := 44) dX11_powerIf_62 (by decide) ?_
      refine g_iaload (pc := 64) dX11_powerIf_64 (mA hI 31 45 rfl (by decide)) (j := 44) (by decide) (by omega) (by decide) rfl ?_
      refine m_cP (pc := 65) (M' := mX11_powerOf) (as := [_, _, _, _, _]) i_X11_285_11 eX11_powerOf hI dX11_powerIf_65 (c_powerOf (by omega) hI hT hl (k := 31) rfl r hr _ _ _) (by omega) rfl rfl (Nat.le_of_ble_eq_true rfl) ?_
      refine g_goto (pc := 68) 72 dX11_powerIf_68 (by decide) ?_
      refine g_ireturn (pc := 72) dX11_powerIf_72 rfl (by first | exact rfl | exact j_nb _) ?_
      subst c_1
      unfold pwIf
      first
        | exact ⟨by rw [if_pos c_18]; rfl, rfl⟩
        | exact ⟨by rw [if_neg (by rw [c_18]; decide)], rfl⟩
set_option maxHeartbeats 2000000 in
theorem l_isl2 {bc bs : Nat} (hd : 6 ≤ d) (hI : InvM am V h) (hT : MT V D nS nR nP) (hl : okL V) (hL : ML V Ln X nL nR) (x : Nat) (hq : ∀ s, s < nS → hasI (nI x) (nI s) = true → clI D nR (V 31) s = true) : ∀ (m r : Nat), nL - r = m → r ≤ nL → (∀ k, k < r → pwIf (mlaw V) D nR (V 31) (Ln k) (hasI (nI x) (nI (D 0 (Ln k)))) = X k) → G E d bc bs mX11_isLapsed 42 [some (vR (nMo am)), some (vI (nI x)), some (vI (nI r))] [] h (qR (some (vI (bI (islB (mlaw V) D nS nR (V 31) Ln X nL x)))) h) := by
  intro m
  induction m with
  | zero =>
    intro r hm hr hp
    have e : r = nL := by omega
    subst e
    have b10 := hL.2.1
    refine g_iload_n (pc := 42) dX11_isLapsed_42 rfl ?_
    refine g_aload_n (pc := 43) dX11_isLapsed_43 rfl ?_
    refine g_getfield (pc := 44) f_X11_203_11 dX11_isLapsed_44 hI.1 mf_35 ?_
    rw [hL.1]
    refine g_icmp_ge (pc := 47) 100 dX11_isLapsed_47 (by decide) (fun c_47 => ?_) (fun c_47 => absurd (nI_le (Nat.le_refl _) (by omega)) c_47)
    refine g_iconst (pc := 100) (v := 1) dX11_isLapsed_100 (by decide) ?_
    refine g_ireturn (pc := 101) dX11_isLapsed_101 rfl (by first | exact rfl | exact j_nb _) ?_
    refine ⟨?_, rfl⟩
    rw [islB_t hq hp]
    rfl
  | succ m ih =>
    intro r hm hr hp
    have b10 := hL.2.1
    have n10 := hT.2.2.2.2.1
    obtain ⟨l1, l2, l3⟩ := hL.2.2.1 r (by omega)
    have hrr := hT.2.2.2.2.2.2.1 (Ln r) l3
    refine g_iload_n (pc := 42) dX11_isLapsed_42 rfl ?_
    refine g_aload_n (pc := 43) dX11_isLapsed_43 rfl ?_
    refine g_getfield (pc := 44) f_X11_203_11 dX11_isLapsed_44 hI.1 mf_35 ?_
    rw [hL.1]
    refine g_icmp_ge (pc := 47) 100 dX11_isLapsed_47 (by decide) (fun c_47 => absurd c_47 (by intro w; have := (nI_leI (by omega) (by omega)).mp w; omega)) (fun c_47 => ?_)
    refine g_aload_n (pc := 50) dX11_isLapsed_50 rfl ?_
    refine g_aload_n (pc := 51) dX11_isLapsed_51 rfl ?_
    refine g_getfield (pc := 52) f_X11_58_11 dX11_isLapsed_52 hI.1 mf_25 ?_
    refine g_iload_n (pc := 55) dX11_isLapsed_55 rfl ?_
    refine g_aaload (pc := 56) (t := 5) rfl rfl dX11_isLapsed_56 (mG hI 25 10 rfl (by decide)) rfl (by omega) (by decide) rfl ?_
    refine g_iconst (pc := 57) (v := 0) dX11_isLapsed_57 (by decide) ?_
    refine g_iaload (pc := 58) dX11_isLapsed_58 (mR hI 25 2 _ rfl (by show _ < 10; omega)) (j := 0) (by decide) (by omega) (by decide) rfl ?_
    rw [l1]
    refine g_iload_n (pc := 59) dX11_isLapsed_59 rfl ?_
    refine g_aload_n (pc := 60) dX11_isLapsed_60 rfl ?_
    refine g_getfield (pc := 61) f_X11_43_11 dX11_isLapsed_61 hI.1 mf_18 ?_
    refine g_aload_n (pc := 64) dX11_isLapsed_64 rfl ?_
    refine g_getfield (pc := 65) f_X11_58_11 dX11_isLapsed_65 hI.1 mf_25 ?_
    refine g_iload_n (pc := 68) dX11_isLapsed_68 rfl ?_
    refine g_aaload (pc := 69) (t := 5) rfl rfl dX11_isLapsed_69 (mG hI 25 10 rfl (by decide)) rfl (by omega) (by decide) rfl ?_
    refine g_iconst (pc := 70) (v := 0) dX11_isLapsed_70 (by decide) ?_
    refine g_iaload (pc := 71) dX11_isLapsed_71 (mR hI 25 2 _ rfl (by show _ < 10; omega)) (j := 0) (by decide) (by omega) (by decide) rfl ?_
    rw [l1]
    refine g_aaload (pc := 72) (t := 5) rfl rfl dX11_isLapsed_72 (mG hI 18 10 rfl (by decide)) (j := Ln r) rfl (by omega) (by decide) rfl ?_
    refine g_iconst (pc := 73) (v := 0) dX11_isLapsed_73 (by decide) ?_
    refine g_iaload (pc := 74) dX11_isLapsed_74 (mR hI 18 3 _ rfl (by show _ < 10; omega)) (j := 0) (by decide) (by omega) (by decide) rfl ?_
    rw [hrr.1]
    refine g_cS (pc := 75) (M' := mX11_has) (as := [_, _]) i_X11_263 eX11_has dX11_isLapsed_75 (c_has _ _) (by omega) rfl rfl (Nat.le_of_ble_eq_true rfl) ?_
    refine m_cP (pc := 78) (M' := mX11_powerIf) (as := [_, _]) i_X11_355_11 eX11_powerIf hI dX11_isLapsed_78 (c_powerIf (by omega) hI hT hl (Ln r) l3 _) (by omega) rfl rfl (Nat.le_of_ble_eq_true rfl) ?_
    refine g_aload_n (pc := 81) dX11_isLapsed_81 rfl ?_
    refine g_getfield (pc := 82) f_X11_58_11 dX11_isLapsed_82 hI.1 mf_25 ?_
    refine g_iload_n (pc := 85) dX11_isLapsed_85 rfl ?_
    refine g_aaload (pc := 86) (t := 5) rfl rfl dX11_isLapsed_86 (mG hI 25 10 rfl (by decide)) rfl (by omega) (by decide) rfl ?_
    refine g_iconst (pc := 87) (v := 1) dX11_isLapsed_87 (by decide) ?_
    refine g_iaload (pc := 88) dX11_isLapsed_88 (mR hI 25 2 _ rfl (by show _ < 10; omega)) (j := 1) (by decide) (by omega) (by decide) rfl ?_
    rw [l2]
    refine g_icmp_eq (pc := 89) 94 dX11_isLapsed_89 (by decide) (fun c_89 => ?_) (fun c_89 => ?_)
    · refine g_iinc (pc := 94) (ls' := [_, _, _]) dX11_isLapsed_94 rfl (by first | exact nI_1 _ | exact rfl) (by decide) rfl rfl ?_
      refine g_goto (pc := 97) 42 dX11_isLapsed_97 (by decide) ?_
      exact ih (r + 1) (by omega) (by omega) (lt_s hp c_89)
    · refine g_iconst (pc := 92) (v := 0) dX11_isLapsed_92 (by decide) ?_
      refine g_ireturn (pc := 93) dX11_isLapsed_93 rfl (by first | exact rfl | exact j_nb _) ?_
      refine ⟨?_, rfl⟩
      rw [islB_f2 (k := r) (by omega) c_89]
      rfl
set_option maxHeartbeats 2000000 in
theorem l_isl1 {bc bs : Nat} (hd : 6 ≤ d) (hI : InvM am V h) (hT : MT V D nS nR nP) (hl : okL V) (hL : ML V Ln X nL nR) (x : Nat) : ∀ (m r : Nat), nS - r = m → r ≤ nS → (∀ s, s < r → hasI (nI x) (nI s) = true → clI D nR (V 31) s = true) → G E d bc bs mX11_isLapsed 2 [some (vR (nMo am)), some (vI (nI x)), some (vI (nI r))] [] h (qR (some (vI (bI (islB (mlaw V) D nS nR (V 31) Ln X nL x)))) h) := by
  intro m
  induction m with
  | zero =>
    intro r hm hr hp
    have e : r = nS := by omega
    subst e
    have b8 := hT.2.2.2.1
    refine g_iload_n (pc := 2) dX11_isLapsed_2 rfl ?_
    refine g_aload_n (pc := 3) dX11_isLapsed_3 rfl ?_
    refine g_getfield (pc := 4) f_X11_23_11 dX11_isLapsed_4 hI.1 mf_12 ?_
    refine g_iconst (pc := 7) (v := 0) dX11_isLapsed_7 (by decide) ?_
    refine g_iaload (pc := 8) dX11_isLapsed_8 (mA hI 12 3 rfl (by decide)) (j := 0) (by decide) (by omega) (by decide) rfl ?_
    rw [hT.1]
    refine g_icmp_ge (pc := 9) 40 dX11_isLapsed_9 (by decide) (fun c_9 => ?_) (fun c_9 => absurd (nI_le (Nat.le_refl _) (by omega)) c_9)
    refine g_iconst (pc := 40) (v := 0) dX11_isLapsed_40 (by decide) ?_
    refine g_istore_n (pc := 41) (ls' := [_, _, _]) dX11_isLapsed_41 (by decide) rfl rfl ?_
    exact l_isl2 hd hI hT hl hL x hp nL 0 rfl (Nat.zero_le _) lt_0
  | succ m ih =>
    intro r hm hr hp
    have b8 := hT.2.2.2.1
    refine g_iload_n (pc := 2) dX11_isLapsed_2 rfl ?_
    refine g_aload_n (pc := 3) dX11_isLapsed_3 rfl ?_
    refine g_getfield (pc := 4) f_X11_23_11 dX11_isLapsed_4 hI.1 mf_12 ?_
    refine g_iconst (pc := 7) (v := 0) dX11_isLapsed_7 (by decide) ?_
    refine g_iaload (pc := 8) dX11_isLapsed_8 (mA hI 12 3 rfl (by decide)) (j := 0) (by decide) (by omega) (by decide) rfl ?_
    rw [hT.1]
    refine g_icmp_ge (pc := 9) 40 dX11_isLapsed_9 (by decide) (fun c_9 => absurd c_9 (by intro w; have := (nI_leI (by omega) (by omega)).mp w; omega)) (fun c_9 => ?_)
    refine g_iload_n (pc := 12) dX11_isLapsed_12 rfl ?_
    refine g_iload_n (pc := 13) dX11_isLapsed_13 rfl ?_
    refine g_cS (pc := 14) (M' := mX11_has) (as := [_, _]) i_X11_263 eX11_has dX11_isLapsed_14 (c_has _ _) (by omega) rfl rfl (Nat.le_of_ble_eq_true rfl) ?_
    refine g_ifB_eq (pc := 17) 34 dX11_isLapsed_17 (by decide) (fun c_17 => ?_) (fun c_17 => ?_)
    · refine g_iinc (pc := 34) (ls' := [_, _, _]) dX11_isLapsed_34 rfl (by first | exact nI_1 _ | exact rfl) (by decide) rfl rfl ?_
      refine g_goto (pc := 37) 2 dX11_isLapsed_37 (by decide) ?_
      refine ih (r + 1) (by omega) (by omega) (lt_s hp (fun w => ?_))
      exact absurd (w.symm.trans c_17) (by decide)
    · refine g_aload_n (pc := 20) dX11_isLapsed_20 rfl ?_
      refine g_aload_n (pc := 21) dX11_isLapsed_21 rfl ?_
      refine g_getfield (pc := 22) f_X11_73_11 dX11_isLapsed_22 hI.1 mf_31 ?_
      refine g_iload_n (pc := 25) dX11_isLapsed_25 rfl ?_
      refine m_cP (pc := 26) (M' := mX11_canLapse) (as := [_, _]) i_X11_296_11 eX11_canLapse hI dX11_isLapsed_26 (c_canLapse (by omega) hI hT (k := 31) rfl r (by omega)) (by omega) rfl rfl (Nat.le_of_ble_eq_true rfl) ?_
      refine g_ifB_ne (pc := 29) 34 dX11_isLapsed_29 (by decide) (fun c_29 => ?_) (fun c_29 => ?_)
      · refine g_iinc (pc := 34) (ls' := [_, _, _]) dX11_isLapsed_34 rfl (by first | exact nI_1 _ | exact rfl) (by decide) rfl rfl ?_
        refine g_goto (pc := 37) 2 dX11_isLapsed_37 (by decide) ?_
        refine ih (r + 1) (by omega) (by omega) (lt_s hp (fun w => ?_))
        exact c_29
      · refine g_iconst (pc := 32) (v := 0) dX11_isLapsed_32 (by decide) ?_
        refine g_ireturn (pc := 33) dX11_isLapsed_33 rfl (by first | exact rfl | exact j_nb _) ?_
        refine ⟨?_, rfl⟩
        rw [islB_f1 (s := r) (by omega) c_17 c_29]
        rfl
theorem c_isLapsed (hd : 6 ≤ d) (hI : InvM am V h) (hT : MT V D nS nR nP) (hl : okL V) (hL : ML V Ln X nL nR) (x : Nat) : Ct E d 0 0 mX11_isLapsed [vR (nMo am), vI (nI x)] h (qR (some (vI (bI (islB (mlaw V) D nS nR (V 31) Ln X nL x)))) h) := by
  refine ct_of (by decide) (Nat.le_of_ble_eq_true rfl) rfl ?_
  refine g_iconst (pc := 0) (v := 0) dX11_isLapsed_0 (by decide) ?_
  refine g_istore_n (pc := 1) (ls' := [_, _, _]) dX11_isLapsed_1 (by decide) rfl rfl ?_
  exact l_isl1 hd hI hT hl hL x nS 0 rfl (Nat.zero_le _) lt_0
set_option maxHeartbeats 4000000 in
theorem l_lapsed {bc bs : Nat} {Q : jR → jH → Prop} (hd : 7 ≤ d) (hI : InvM am V h) (hT : MT V D nS nR nP) (hl : okL V) (hL : ML V Ln X nL nR) (w : Int32) (kk : G E d bc bs mX11_lapsed 101 [some (vR (nMo am)), some (vI w), some (vI (lpsF (islB (mlaw V) D nS nR (V 31) Ln X nL) (bitI nS - 1) (2 ^ nS)).1), some (vI (lpsF (islB (mlaw V) D nS nR (V 31) Ln X nL) (bitI nS - 1) (2 ^ nS)).2.1), some (vI (lpsF (islB (mlaw V) D nS nR (V 31) Ln X nL) (bitI nS - 1) (2 ^ nS)).2.2), some (vI (nI (2 ^ nS)))] [] h Q) : ∀ (m r : Nat), 2 ^ nS - r = m → r ≤ 2 ^ nS → G E d bc bs mX11_lapsed 49 [some (vR (nMo am)), some (vI w), some (vI (lpsF (islB (mlaw V) D nS nR (V 31) Ln X nL) (bitI nS - 1) r).1), some (vI (lpsF (islB (mlaw V) D nS nR (V 31) Ln X nL) (bitI nS - 1) r).2.1), some (vI (lpsF (islB (mlaw V) D nS nR (V 31) Ln X nL) (bitI nS - 1) r).2.2), some (vI (nI r))] [] h Q := by
  intro m
  have b8 := hT.2.2.2.1
  have p8 := pow8 nS b8
  induction m with
  | zero =>
    intro r hm hr
    have e : r = 2 ^ nS := by omega
    subst e
    refine g_iload (pc := 49) dX11_lapsed_49 rfl ?_
    refine g_iconst (pc := 51) (v := 1) dX11_lapsed_51 (by decide) ?_
    refine g_aload_n (pc := 52) dX11_lapsed_52 rfl ?_
    refine g_getfield (pc := 53) f_X11_23_11 dX11_lapsed_53 hI.1 mf_12 ?_
    refine g_iconst (pc := 56) (v := 0) dX11_lapsed_56 (by decide) ?_
    refine g_iaload (pc := 57) dX11_lapsed_57 (mA hI 12 3 rfl (by decide)) (j := 0) (by decide) (by omega) (by decide) rfl ?_
    refine g_ishl (pc := 58) dX11_lapsed_58 ?_
    rw [hT.1, show (1 : Int32) <<< (nI nS &&& 31) = nI (2 ^ nS) from bitI_pow nS (by omega)]
    refine g_icmp_ge (pc := 59) 101 dX11_lapsed_59 (by decide) (fun c_59 => ?_) (fun c_59 => absurd (nI_le (Nat.le_refl _) (by omega)) c_59)
    exact kk
  | succ m ih =>
    intro r hm hr
    have hq := ih (r + 1) (by omega) (by omega)
    refine g_iload (pc := 49) dX11_lapsed_49 rfl ?_
    refine g_iconst (pc := 51) (v := 1) dX11_lapsed_51 (by decide) ?_
    refine g_aload_n (pc := 52) dX11_lapsed_52 rfl ?_
    refine g_getfield (pc := 53) f_X11_23_11 dX11_lapsed_53 hI.1 mf_12 ?_
    refine g_iconst (pc := 56) (v := 0) dX11_lapsed_56 (by decide) ?_
    refine g_iaload (pc := 57) dX11_lapsed_57 (mA hI 12 3 rfl (by decide)) (j := 0) (by decide) (by omega) (by decide) rfl ?_
    refine g_ishl (pc := 58) dX11_lapsed_58 ?_
    rw [hT.1, show (1 : Int32) <<< (nI nS &&& 31) = nI (2 ^ nS) from bitI_pow nS (by omega)]
    refine g_icmp_ge (pc := 59) 101 dX11_lapsed_59 (by decide) (fun c_59 => absurd c_59 (by intro w; have := (nI_leI (by omega) (by omega)).mp w; omega)) (fun c_59 => ?_)
    refine g_aload_n (pc := 62) dX11_lapsed_62 rfl ?_
    refine g_iload (pc := 63) dX11_lapsed_63 rfl ?_
    refine m_cP (pc := 65) (M' := mX11_isLapsed) (as := [_]) i_X11_359_11 eX11_isLapsed hI dX11_lapsed_65 (c_isLapsed (by omega) hI hT hl hL r) (by omega) rfl rfl (Nat.le_of_ble_eq_true rfl) ?_
    refine g_ifB_ne (pc := 68) 74 dX11_lapsed_68 (by decide) (fun c_68 => ?_) (fun c_68 => ?_)
    · refine g_iload_n (pc := 74) dX11_lapsed_74 rfl ?_
      refine g_if_ne (pc := 75) 83 dX11_lapsed_75 (by decide) (fun c_75 => ?_) (fun c_75 => ?_)
      · refine g_iload_n (pc := 83) dX11_lapsed_83 rfl ?_
        refine g_istore_n (pc := 84) (ls' := [_, _, _, _, _, _]) dX11_lapsed_84 (by decide) rfl rfl ?_
        refine g_iload (pc := 85) dX11_lapsed_85 rfl ?_
        refine g_iload (pc := 87) dX11_lapsed_87 rfl ?_
        refine g_iand (pc := 89) dX11_lapsed_89 ?_
        refine g_istore (pc := 90) (ls' := [_, _, _, _, _, _]) dX11_lapsed_90 (by decide) rfl rfl ?_
        refine g_iinc (pc := 92) (ls' := [_, _, _, _, _, _]) dX11_lapsed_92 rfl (by first | exact nI_1 _ | exact rfl) (by decide) rfl rfl ?_
        refine g_iinc (pc := 95) (ls' := [_, _, _, _, _, _]) dX11_lapsed_95 rfl (by first | exact nI_1 _ | exact rfl) (by decide) rfl rfl ?_
        refine g_goto (pc := 98) 49 dX11_lapsed_98 (by decide) ?_
        have e : lpsF (islB (mlaw V) D nS nR (V 31) Ln X nL) (bitI nS - 1) (r + 1) = _ := show (if _ then _ else _) = _ from if_pos c_68
        rw [e] at hq
        simp only at hq
        rw [if_neg c_75] at hq
        exact hq
      · refine g_iload (pc := 78) dX11_lapsed_78 rfl ?_
        refine g_goto (pc := 80) 84 dX11_lapsed_80 (by decide) ?_
        refine g_istore_n (pc := 84) (ls' := [_, _, _, _, _, _]) dX11_lapsed_84 (by decide) rfl rfl ?_
        refine g_iload (pc := 85) dX11_lapsed_85 rfl ?_
        refine g_iload (pc := 87) dX11_lapsed_87 rfl ?_
        refine g_iand (pc := 89) dX11_lapsed_89 ?_
        refine g_istore (pc := 90) (ls' := [_, _, _, _, _, _]) dX11_lapsed_90 (by decide) rfl rfl ?_
        refine g_iinc (pc := 92) (ls' := [_, _, _, _, _, _]) dX11_lapsed_92 rfl (by first | exact nI_1 _ | exact rfl) (by decide) rfl rfl ?_
        refine g_iinc (pc := 95) (ls' := [_, _, _, _, _, _]) dX11_lapsed_95 rfl (by first | exact nI_1 _ | exact rfl) (by decide) rfl rfl ?_
        refine g_goto (pc := 98) 49 dX11_lapsed_98 (by decide) ?_
        have e : lpsF (islB (mlaw V) D nS nR (V 31) Ln X nL) (bitI nS - 1) (r + 1) = _ := show (if _ then _ else _) = _ from if_pos c_68
        rw [e] at hq
        simp only at hq
        rw [if_pos c_75] at hq
        exact hq
    · refine g_goto (pc := 71) 95 dX11_lapsed_71 (by decide) ?_
      refine g_iinc (pc := 95) (ls' := [_, _, _, _, _, _]) dX11_lapsed_95 rfl (by first | exact nI_1 _ | exact rfl) (by decide) rfl rfl ?_
      refine g_goto (pc := 98) 49 dX11_lapsed_98 (by decide) ?_
      have e : lpsF (islB (mlaw V) D nS nR (V 31) Ln X nL) (bitI nS - 1) (r + 1) = _ := show (if _ then _ else _) = _ from if_neg (by rw [c_68]; decide)
      rw [e] at hq
      exact hq
set_option maxHeartbeats 2000000 in
theorem r_mlapsed (hd : 1 ≤ d) (hI : InvM am V h) (w : Int32) (hv : inR w 0 2 = false) : Ct E d 0 0 mX11_lapsed [vR (nMo am), vI w] h (mQ am (refV V 1 1) h (some (vI 0))) := by
  refine ct_of (by decide) (Nat.le_of_ble_eq_true rfl) rfl ?_
  have hF : mFr h h := mFr.rf
  refine g_aload_n (pc := 0) dX11_lapsed_0 rfl ?_
  refine g_iconst (pc := 1) (v := 0) dX11_lapsed_1 (by decide) ?_
  refine m_put (pc := 2) hI w_X11_103_11 rfl (by decide) dX11_lapsed_2 (fun h hI fr => ?_)
  replace hF := mFr.tr hF fr
  change InvM am (thr0 V) h at hI
  refine g_aload_n (pc := 5) dX11_lapsed_5 rfl ?_
  refine g_iload_n (pc := 6) dX11_lapsed_6 rfl ?_
  refine g_iconst (pc := 7) (v := 0) dX11_lapsed_7 (by decide) ?_
  refine g_iconst (pc := 8) (v := 2) dX11_lapsed_8 (by decide) ?_
  refine g_cS (pc := 9) (M' := mX11_in) (as := [_, _, _]) i_X11_137 eX11_in dX11_lapsed_9 (c_in _ _ _) (by omega) rfl rfl (Nat.le_of_ble_eq_true rfl) ?_
  refine g_ifB_ne (pc := 12) 19 dX11_lapsed_12 (by decide) (fun c_12 => absurd (c_12.symm.trans hv) (by decide)) (fun c_12 => ?_)
  refine g_iconst (pc := 15) (v := 1) dX11_lapsed_15 (by decide) ?_
  refine g_goto (pc := 16) 20 dX11_lapsed_16 (by decide) ?_
  refine g_iconst (pc := 20) (v := 1) dX11_lapsed_20 (by decide) ?_
  refine g_iconst (pc := 21) (v := 1) dX11_lapsed_21 (by decide) ?_
  refine m_cV (pc := 22) (M' := mX11_bad) (as := [_, _, _]) i_X11_183_11 eX11_bad hI dX11_lapsed_22 (c_badT hI thr0_0 1 (by decide) 1 (by decide)) (by omega) rfl rfl (Nat.le_of_ble_eq_true rfl) (fun h hI fr => ?_)
  replace hF := mFr.tr hF fr
  refine g_ifB_eq (pc := 25) 30 dX11_lapsed_25 (by decide) (fun c_25 => absurd c_25 (by decide)) (fun c_25 => ?_)
  refine g_iconst (pc := 28) (v := 0) dX11_lapsed_28 (by decide) ?_
  refine g_ireturn (pc := 29) dX11_lapsed_29 rfl (by first | exact rfl | exact j_nb _) ?_
  rw [refV_thr0] at hI
  exact ⟨rfl, hI, hF⟩
set_option maxHeartbeats 2000000 in
theorem c_mlapsed (hd : 8 ≤ d) (hI : InvM am V h) (hT : MT V D nS nR nP) (hl : okL V) (hL : ML V Ln X nL nR) (w : Int32) (hv : inR w 0 2 = true) : Ct E d 0 0 mX11_lapsed [vR (nMo am), vI w] h (mQ am (thr0 V) h (some (vI (lpsI w (lpsF (islB (mlaw V) D nS nR (V 31) Ln X nL) (bitI nS - 1) (2 ^ nS)))))) := by
  refine ct_of (by decide) (Nat.le_of_ble_eq_true rfl) rfl ?_
  have hF : mFr h h := mFr.rf
  have hT := MT.f0 (j := 0) (y := 0) hT
  change MT (thr0 V) D nS nR nP at hT
  have b8 := hT.2.2.2.1
  have b10 := hT.2.2.2.2.1
  have bP := hT.2.2.2.2.2.1
  have hl := okL.f0 (j := 0) (y := 0) hl (by decide)
  change okL (thr0 V) at hl
  have hL := ML.f0 (j := 0) (y := 0) hL (by decide)
  change ML (thr0 V) Ln X nL nR at hL
  refine g_aload_n (pc := 0) dX11_lapsed_0 rfl ?_
  refine g_iconst (pc := 1) (v := 0) dX11_lapsed_1 (by decide) ?_
  refine m_put (pc := 2) hI w_X11_103_11 rfl (by decide) dX11_lapsed_2 (fun h hI fr => ?_)
  replace hF := mFr.tr hF fr
  change InvM am (thr0 V) h at hI
  refine g_aload_n (pc := 5) dX11_lapsed_5 rfl ?_
  refine g_iload_n (pc := 6) dX11_lapsed_6 rfl ?_
  refine g_iconst (pc := 7) (v := 0) dX11_lapsed_7 (by decide) ?_
  refine g_iconst (pc := 8) (v := 2) dX11_lapsed_8 (by decide) ?_
  refine g_cS (pc := 9) (M' := mX11_in) (as := [_, _, _]) i_X11_137 eX11_in dX11_lapsed_9 (c_in _ _ _) (by omega) rfl rfl (Nat.le_of_ble_eq_true rfl) ?_
  refine g_ifB_ne (pc := 12) 19 dX11_lapsed_12 (by decide) (fun c_12 => ?_) (fun c_12 => absurd (hv.symm.trans c_12) (by decide))
  refine g_iconst (pc := 19) (v := 0) dX11_lapsed_19 (by decide) ?_
  refine g_iconst (pc := 20) (v := 1) dX11_lapsed_20 (by decide) ?_
  refine g_iconst (pc := 21) (v := 1) dX11_lapsed_21 (by decide) ?_
  refine m_cV (pc := 22) (M' := mX11_bad) (as := [_, _, _]) i_X11_183_11 eX11_bad hI dX11_lapsed_22 (c_badF hI thr0_0 1 1 (by decide)) (by omega) rfl rfl (Nat.le_of_ble_eq_true rfl) (fun h hI fr => ?_)
  replace hF := mFr.tr hF fr
  refine g_ifB_eq (pc := 25) 30 dX11_lapsed_25 (by decide) (fun c_25 => ?_) (fun c_25 => absurd c_25 (by decide))
  refine g_iconst (pc := 30) (v := 0) dX11_lapsed_30 (by decide) ?_
  refine g_istore_n (pc := 31) (ls' := [_, _, _, _, _, _]) dX11_lapsed_31 (by decide) rfl rfl ?_
  refine g_iconst (pc := 32) (v := -1) dX11_lapsed_32 (by decide) ?_
  refine g_istore_n (pc := 33) (ls' := [_, _, _, _, _, _]) dX11_lapsed_33 (by decide) rfl rfl ?_
  refine g_iconst (pc := 34) (v := 1) dX11_lapsed_34 (by decide) ?_
  refine g_aload_n (pc := 35) dX11_lapsed_35 rfl ?_
  refine g_getfield (pc := 36) f_X11_23_11 dX11_lapsed_36 hI.1 mf_12 ?_
  refine g_iconst (pc := 39) (v := 0) dX11_lapsed_39 (by decide) ?_
  refine g_iaload (pc := 40) dX11_lapsed_40 (mA hI 12 3 rfl (by decide)) (j := 0) (by decide) (by omega) (by decide) rfl ?_
  rw [hT.1]
  refine g_ishl (pc := 41) dX11_lapsed_41 ?_
  refine g_iconst (pc := 42) (v := 1) dX11_lapsed_42 (by decide) ?_
  refine g_isub (pc := 43) dX11_lapsed_43 ?_
  refine g_istore (pc := 44) (ls' := [_, _, _, _, _, _]) dX11_lapsed_44 (by decide) rfl rfl ?_
  refine g_iconst (pc := 46) (v := 0) dX11_lapsed_46 (by decide) ?_
  refine g_istore (pc := 47) (ls' := [_, _, _, _, _, _]) dX11_lapsed_47 (by decide) rfl rfl ?_
  refine l_lapsed (by omega) hI hT hl hL w ?_ (2 ^ nS) 0 rfl (Nat.zero_le _)
  rw [thr0_law, thr0_now]
  refine g_iload_n (pc := 101) dX11_lapsed_101 rfl ?_
  refine g_if_ne (pc := 102) 109 dX11_lapsed_102 (by decide) (fun c_102 => ?_) (fun c_102 => ?_)
  · refine g_iload_n (pc := 109) dX11_lapsed_109 rfl ?_
    refine g_iconst (pc := 110) (v := 1) dX11_lapsed_110 (by decide) ?_
    refine g_icmp_ne (pc := 111) 118 dX11_lapsed_111 (by decide) (fun c_111 => ?_) (fun c_111 => ?_)
    · refine g_iload_n (pc := 118) dX11_lapsed_118 rfl ?_
      refine g_if_ne (pc := 119) 126 dX11_lapsed_119 (by decide) (fun c_119 => ?_) (fun c_119 => ?_)
      · refine g_iload (pc := 126) dX11_lapsed_126 rfl ?_
        refine g_ireturn (pc := 128) dX11_lapsed_128 rfl (by first | exact rfl | exact j_nb _) ?_
        exact ⟨by simp [lpsI, *], hI, hF⟩
      · refine g_iconst (pc := 122) (v := 0) dX11_lapsed_122 (by decide) ?_
        refine g_goto (pc := 123) 128 dX11_lapsed_123 (by decide) ?_
        refine g_ireturn (pc := 128) dX11_lapsed_128 rfl (by first | exact rfl | exact j_nb _) ?_
        exact ⟨by simp [lpsI, *], hI, hF⟩
    · refine g_iload_n (pc := 114) dX11_lapsed_114 rfl ?_
      refine g_goto (pc := 115) 128 dX11_lapsed_115 (by decide) ?_
      refine g_ireturn (pc := 128) dX11_lapsed_128 rfl (by first | exact rfl | exact j_nb _) ?_
      exact ⟨by simp [lpsI, *], hI, hF⟩
  · refine g_iload_n (pc := 105) dX11_lapsed_105 rfl ?_
    refine g_goto (pc := 106) 128 dX11_lapsed_106 (by decide) ?_
    refine g_ireturn (pc := 128) dX11_lapsed_128 rfl (by first | exact rfl | exact j_nb _) ?_
    exact ⟨by simp [lpsI, *], hI, hF⟩
theorem l_isTold {bc bs : Nat} (hI : InvM am V h) (hL : ML V Ln X nL nR) (a : Nat) (ha : a < 10) (hn : nR ≤ 10) : ∀ (m r : Nat), nL - r = m → r ≤ nL → (∀ k, k < r → ¬ Ln k = a) → G E d bc bs mX11_isTold 2 [some (vR (nMo am)), some (vI (nI a)), some (vI (nI r))] [] h (qR (some (vI (bI (tldB Ln nL a)))) h) := by
  intro m
  induction m with
  | zero =>
    intro r hm hr hp
    have e : r = nL := by omega
    subst e
    have b10 := hL.2.1
    refine g_iload_n (pc := 2) dX11_isTold_2 rfl ?_
    refine g_aload_n (pc := 3) dX11_isTold_3 rfl ?_
    refine g_getfield (pc := 4) f_X11_203_11 dX11_isTold_4 hI.1 mf_35 ?_
    rw [hL.1]
    refine g_icmp_ge (pc := 7) 30 dX11_isTold_7 (by decide) (fun c_7 => ?_) (fun c_7 => absurd (nI_le (Nat.le_refl _) (by omega)) c_7)
    refine g_iconst (pc := 30) (v := 0) dX11_isTold_30 (by decide) ?_
    refine g_ireturn (pc := 31) dX11_isTold_31 rfl (by first | exact rfl | exact j_nb _) ?_
    refine ⟨?_, rfl⟩
    rw [show tldB Ln r a = false from decide_eq_false (fun ⟨k, h1, h2⟩ => hp k h1 h2)]
    rfl
  | succ m ih =>
    intro r hm hr hp
    have b10 := hL.2.1
    obtain ⟨l1, l2, l3⟩ := hL.2.2.1 r (by omega)
    refine g_iload_n (pc := 2) dX11_isTold_2 rfl ?_
    refine g_aload_n (pc := 3) dX11_isTold_3 rfl ?_
    refine g_getfield (pc := 4) f_X11_203_11 dX11_isTold_4 hI.1 mf_35 ?_
    rw [hL.1]
    refine g_icmp_ge (pc := 7) 30 dX11_isTold_7 (by decide) (fun c_7 => absurd c_7 (by intro w; have := (nI_leI (by omega) (by omega)).mp w; omega)) (fun c_7 => ?_)
    refine g_aload_n (pc := 10) dX11_isTold_10 rfl ?_
    refine g_getfield (pc := 11) f_X11_58_11 dX11_isTold_11 hI.1 mf_25 ?_
    refine g_iload_n (pc := 14) dX11_isTold_14 rfl ?_
    refine g_aaload (pc := 15) (t := 5) rfl rfl dX11_isTold_15 (mG hI 25 10 rfl (by decide)) rfl (by omega) (by decide) rfl ?_
    refine g_iconst (pc := 16) (v := 0) dX11_isTold_16 (by decide) ?_
    refine g_iaload (pc := 17) dX11_isTold_17 (mR hI 25 2 _ rfl (by show _ < 10; omega)) (j := 0) (by decide) (by omega) (by decide) rfl ?_
    refine g_iload_n (pc := 18) dX11_isTold_18 rfl ?_
    rw [l1]
    refine g_icmp_ne (pc := 19) 24 dX11_isTold_19 (by decide) (fun c_19 => ?_) (fun c_19 => ?_)
    · refine g_iinc (pc := 24) (ls' := [_, _, _]) dX11_isTold_24 rfl (by first | exact nI_1 _ | exact rfl) (by decide) rfl rfl ?_
      refine g_goto (pc := 27) 2 dX11_isTold_27 (by decide) ?_
      exact ih (r + 1) (by omega) (by omega) (lt_s hp (fun w => c_19 (by rw [w])))
    · refine g_iconst (pc := 22) (v := 1) dX11_isTold_22 (by decide) ?_
      refine g_ireturn (pc := 23) dX11_isTold_23 rfl (by first | exact rfl | exact j_nb _) ?_
      refine ⟨?_, rfl⟩
      rw [show tldB Ln nL a = true from decide_eq_true ⟨r, by omega, (nI_eq (by omega) (by omega)).mp c_19⟩]
      rfl
theorem c_isTold (hI : InvM am V h) (hL : ML V Ln X nL nR) (a : Nat) (ha : a < 10) (hn : nR ≤ 10) : Ct E d 0 0 mX11_isTold [vR (nMo am), vI (nI a)] h (qR (some (vI (bI (tldB Ln nL a)))) h) := by
  refine ct_of (by decide) (Nat.le_of_ble_eq_true rfl) rfl ?_
  refine g_iconst (pc := 0) (v := 0) dX11_isTold_0 (by decide) ?_
  refine g_istore_n (pc := 1) (ls' := [_, _, _]) dX11_isTold_1 (by decide) rfl rfl ?_
  exact l_isTold hI hL a ha hn nL 0 rfl (Nat.zero_le _) lt_0
set_option maxHeartbeats 4000000 in
theorem l_ask1 {bc bs : Nat} {Q : jR → jH → Prop} (hd : 7 ≤ d) (hI : InvM am V h) (hT : MT V D nS nR nP) (hl : okL V) (hL : ML V Ln X nL nR) (w b c : Int32) (r : Nat) (hr : r < nR) (kk : G E d bc bs mX11_ask 126 [some (vR (nMo am)), some (vI w), some (vI b), some (vI c), some (vI (nI r)), some (vI (askC (islB (mlaw V) D nS nR (V 31) Ln X nL) (fun k => hasI (nI k) (nI (D 0 r))) (2 ^ nS)).1), some (vI (askC (islB (mlaw V) D nS nR (V 31) Ln X nL) (fun k => hasI (nI k) (nI (D 0 r))) (2 ^ nS)).2), some (vI (nI (2 ^ nS)))] [] h Q) : ∀ (m k : Nat), 2 ^ nS - k = m → k ≤ 2 ^ nS → G E d bc bs mX11_ask 69 [some (vR (nMo am)), some (vI w), some (vI b), some (vI c), some (vI (nI r)), some (vI (askC (islB (mlaw V) D nS nR (V 31) Ln X nL) (fun k => hasI (nI k) (nI (D 0 r))) k).1), some (vI (askC (islB (mlaw V) D nS nR (V 31) Ln X nL) (fun k => hasI (nI k) (nI (D 0 r))) k).2), some (vI (nI k))] [] h Q := by
  intro m
  have b8 := hT.2.2.2.1
  have b10 := hT.2.2.2.2.1
  have p8 := pow8 nS b8
  have hrr := hT.2.2.2.2.2.2.1 r hr
  induction m with
  | zero =>
    intro k hm hk
    have e : k = 2 ^ nS := by omega
    subst e
    refine g_iload (pc := 69) dX11_ask_69 rfl ?_
    refine g_iconst (pc := 71) (v := 1) dX11_ask_71 (by decide) ?_
    refine g_aload_n (pc := 72) dX11_ask_72 rfl ?_
    refine g_getfield (pc := 73) f_X11_23_11 dX11_ask_73 hI.1 mf_12 ?_
    refine g_iconst (pc := 76) (v := 0) dX11_ask_76 (by decide) ?_
    refine g_iaload (pc := 77) dX11_ask_77 (mA hI 12 3 rfl (by decide)) (j := 0) (by decide) (by omega) (by decide) rfl ?_
    refine g_ishl (pc := 78) dX11_ask_78 ?_
    rw [hT.1, show (1 : Int32) <<< (nI nS &&& 31) = nI (2 ^ nS) from bitI_pow nS (by omega)]
    refine g_icmp_ge (pc := 79) 126 dX11_ask_79 (by decide) (fun c_79 => ?_) (fun c_79 => absurd (nI_le (Nat.le_refl _) (by omega)) c_79)
    exact kk
  | succ m ih =>
    intro k hm hk
    have hq := ih (k + 1) (by omega) (by omega)
    refine g_iload (pc := 69) dX11_ask_69 rfl ?_
    refine g_iconst (pc := 71) (v := 1) dX11_ask_71 (by decide) ?_
    refine g_aload_n (pc := 72) dX11_ask_72 rfl ?_
    refine g_getfield (pc := 73) f_X11_23_11 dX11_ask_73 hI.1 mf_12 ?_
    refine g_iconst (pc := 76) (v := 0) dX11_ask_76 (by decide) ?_
    refine g_iaload (pc := 77) dX11_ask_77 (mA hI 12 3 rfl (by decide)) (j := 0) (by decide) (by omega) (by decide) rfl ?_
    refine g_ishl (pc := 78) dX11_ask_78 ?_
    rw [hT.1, show (1 : Int32) <<< (nI nS &&& 31) = nI (2 ^ nS) from bitI_pow nS (by omega)]
    refine g_icmp_ge (pc := 79) 126 dX11_ask_79 (by decide) (fun c_79 => absurd c_79 (by intro w; have := (nI_leI (by omega) (by omega)).mp w; omega)) (fun c_79 => ?_)
    refine g_aload_n (pc := 82) dX11_ask_82 rfl ?_
    refine g_iload (pc := 83) dX11_ask_83 rfl ?_
    refine m_cP (pc := 85) (M' := mX11_isLapsed) (as := [_]) i_X11_359_11 eX11_isLapsed hI dX11_ask_85 (c_isLapsed (by omega) hI hT hl hL k) (by omega) rfl rfl (Nat.le_of_ble_eq_true rfl) ?_
    refine g_ifB_ne (pc := 88) 94 dX11_ask_88 (by decide) (fun c_88 => ?_) (fun c_88 => ?_)
    · refine g_iload (pc := 94) dX11_ask_94 rfl ?_
      refine g_aload_n (pc := 96) dX11_ask_96 rfl ?_
      refine g_getfield (pc := 97) f_X11_43_11 dX11_ask_97 hI.1 mf_18 ?_
      refine g_iload (pc := 100) dX11_ask_100 rfl ?_
      refine g_aaload (pc := 102) (t := 5) rfl rfl dX11_ask_102 (mG hI 18 10 rfl (by decide)) rfl (by omega) (by decide) rfl ?_
      refine g_iconst (pc := 103) (v := 0) dX11_ask_103 (by decide) ?_
      refine g_iaload (pc := 104) dX11_ask_104 (mR hI 18 3 _ rfl (by show _ < 10; omega)) (j := 0) (by decide) (by omega) (by decide) rfl ?_
      rw [hrr.1]
      refine g_cS (pc := 105) (M' := mX11_has) (as := [_, _]) i_X11_263 eX11_has dX11_ask_105 (c_has _ _) (by omega) rfl rfl (Nat.le_of_ble_eq_true rfl) ?_
      refine g_ifB_eq (pc := 108) 117 dX11_ask_108 (by decide) (fun c_108 => ?_) (fun c_108 => ?_)
      · refine g_iinc (pc := 117) (ls' := [_, _, _, _, _, _, _, _]) dX11_ask_117 rfl (by first | exact nI_1 _ | exact rfl) (by decide) rfl rfl ?_
        refine g_iinc (pc := 120) (ls' := [_, _, _, _, _, _, _, _]) dX11_ask_120 rfl (by first | exact nI_1 _ | exact rfl) (by decide) rfl rfl ?_
        refine g_goto (pc := 123) 69 dX11_ask_123 (by decide) ?_
        have e : askC (islB (mlaw V) D nS nR (V 31) Ln X nL) (fun k => hasI (nI k) (nI (D 0 r))) (k + 1) = _ := show (if _ then _ else _) = _ from (if_pos c_88).trans (if_neg (by simp [c_108]))
        rw [e] at hq
        exact hq
      · refine g_iinc (pc := 111) (ls' := [_, _, _, _, _, _, _, _]) dX11_ask_111 rfl (by first | exact nI_1 _ | exact rfl) (by decide) rfl rfl ?_
        refine g_goto (pc := 114) 120 dX11_ask_114 (by decide) ?_
        refine g_iinc (pc := 120) (ls' := [_, _, _, _, _, _, _, _]) dX11_ask_120 rfl (by first | exact nI_1 _ | exact rfl) (by decide) rfl rfl ?_
        refine g_goto (pc := 123) 69 dX11_ask_123 (by decide) ?_
        have e : askC (islB (mlaw V) D nS nR (V 31) Ln X nL) (fun k => hasI (nI k) (nI (D 0 r))) (k + 1) = _ := show (if _ then _ else _) = _ from (if_pos c_88).trans (if_pos c_108)
        rw [e] at hq
        exact hq
    · refine g_goto (pc := 91) 120 dX11_ask_91 (by decide) ?_
      refine g_iinc (pc := 120) (ls' := [_, _, _, _, _, _, _, _]) dX11_ask_120 rfl (by first | exact nI_1 _ | exact rfl) (by decide) rfl rfl ?_
      refine g_goto (pc := 123) 69 dX11_ask_123 (by decide) ?_
      have e : askC (islB (mlaw V) D nS nR (V 31) Ln X nL) (fun k => hasI (nI k) (nI (D 0 r))) (k + 1) = _ := show (if _ then _ else _) = _ from if_neg (by rw [c_88]; decide)
      rw [e] at hq
      exact hq
set_option maxHeartbeats 4000000 in
theorem l_ask2 {bc bs : Nat} {Q : jR → jH → Prop} (hd : 8 ≤ d) (hI : InvM am V h) (hT : MT V D nS nR nP) (hl : okL V) (hL : ML V Ln X nL nR) (w : Int32) (kk : ∀ u5 u6 u7, G E d bc bs mX11_ask 186 [some (vR (nMo am)), some (vI w), some (vI (askF (tldB Ln nL) (wstI (mlaw V) D nR (V 31) (islB (mlaw V) D nS nR (V 31) Ln X nL) (2 ^ nS)) nR).1), some (vI (askF (tldB Ln nL) (wstI (mlaw V) D nR (V 31) (islB (mlaw V) D nS nR (V 31) Ln X nL) (2 ^ nS)) nR).2), some (vI (nI nR)), u5, u6, u7] [] h Q) : ∀ (m r : Nat) (u5 u6 u7 : Option jV), nR - r = m → r ≤ nR → G E d bc bs mX11_ask 37 [some (vR (nMo am)), some (vI w), some (vI (askF (tldB Ln nL) (wstI (mlaw V) D nR (V 31) (islB (mlaw V) D nS nR (V 31) Ln X nL) (2 ^ nS)) r).1), some (vI (askF (tldB Ln nL) (wstI (mlaw V) D nR (V 31) (islB (mlaw V) D nS nR (V 31) Ln X nL) (2 ^ nS)) r).2), some (vI (nI r)), u5, u6, u7] [] h Q := by
  intro m
  have b10 := hT.2.2.2.2.1
  induction m with
  | zero =>
    intro r u5 u6 u7 hm hr
    have e : r = nR := by omega
    subst e
    refine g_iload (pc := 37) dX11_ask_37 rfl ?_
    refine g_aload_n (pc := 39) dX11_ask_39 rfl ?_
    refine g_getfield (pc := 40) f_X11_23_11 dX11_ask_40 hI.1 mf_12 ?_
    refine g_iconst (pc := 43) (v := 1) dX11_ask_43 (by decide) ?_
    refine g_iaload (pc := 44) dX11_ask_44 (mA hI 12 3 rfl (by decide)) (j := 1) (by decide) (by omega) (by decide) rfl ?_
    rw [hT.2.1]
    refine g_icmp_ge (pc := 45) 186 dX11_ask_45 (by decide) (fun c_45 => ?_) (fun c_45 => absurd (nI_le (Nat.le_refl _) (by omega)) c_45)
    exact kk u5 u6 u7
  | succ m ih =>
    intro r u5 u6 u7 hm hr
    have hq := fun u5 u6 u7 => ih (r + 1) u5 u6 u7 (by omega) (by omega)
    refine g_iload (pc := 37) dX11_ask_37 rfl ?_
    refine g_aload_n (pc := 39) dX11_ask_39 rfl ?_
    refine g_getfield (pc := 40) f_X11_23_11 dX11_ask_40 hI.1 mf_12 ?_
    refine g_iconst (pc := 43) (v := 1) dX11_ask_43 (by decide) ?_
    refine g_iaload (pc := 44) dX11_ask_44 (mA hI 12 3 rfl (by decide)) (j := 1) (by decide) (by omega) (by decide) rfl ?_
    rw [hT.2.1]
    refine g_icmp_ge (pc := 45) 186 dX11_ask_45 (by decide) (fun c_45 => absurd c_45 (by intro w; have := (nI_leI (by omega) (by omega)).mp w; omega)) (fun c_45 => ?_)
    refine g_aload_n (pc := 48) dX11_ask_48 rfl ?_
    refine g_iload (pc := 49) dX11_ask_49 rfl ?_
    refine m_cP (pc := 51) (M' := mX11_isTold) (as := [_]) i_X11_362_11 eX11_isTold hI dX11_ask_51 (c_isTold hI hL r (by omega) b10) (by omega) rfl rfl (Nat.le_of_ble_eq_true rfl) ?_
    refine g_ifB_eq (pc := 54) 60 dX11_ask_54 (by decide) (fun c_54 => ?_) (fun c_54 => ?_)
    · refine g_iconst (pc := 60) (v := 0) dX11_ask_60 (by decide) ?_
      refine g_istore (pc := 61) (ls' := [_, _, _, _, _, _, _, _]) dX11_ask_61 (by decide) rfl rfl ?_
      refine g_iconst (pc := 63) (v := 0) dX11_ask_63 (by decide) ?_
      refine g_istore (pc := 64) (ls' := [_, _, _, _, _, _, _, _]) dX11_ask_64 (by decide) rfl rfl ?_
      refine g_iconst (pc := 66) (v := 0) dX11_ask_66 (by decide) ?_
      refine g_istore (pc := 67) (ls' := [_, _, _, _, _, _, _, _]) dX11_ask_67 (by decide) rfl rfl ?_
      refine l_ask1 (by omega) hI hT hl hL _ _ _ r (by omega) ?_ (2 ^ nS) 0 rfl (Nat.zero_le _)
      refine g_aload_n (pc := 126) dX11_ask_126 rfl ?_
      refine g_iload (pc := 127) dX11_ask_127 rfl ?_
      refine g_iconst (pc := 129) (v := 1) dX11_ask_129 (by decide) ?_
      refine m_cP (pc := 130) (M' := mX11_powerIf) (as := [_, _]) i_X11_355_11 eX11_powerIf hI dX11_ask_130 (c_powerIf (by omega) hI hT hl r (by omega) true) (by omega) rfl rfl (Nat.le_of_ble_eq_true rfl) ?_
      refine g_aload_n (pc := 133) dX11_ask_133 rfl ?_
      refine g_iload (pc := 134) dX11_ask_134 rfl ?_
      refine g_iconst (pc := 136) (v := 0) dX11_ask_136 (by decide) ?_
      refine m_cP (pc := 137) (M' := mX11_powerIf) (as := [_, _]) i_X11_355_11 eX11_powerIf hI dX11_ask_137 (c_powerIf (by omega) hI hT hl r (by omega) false) (by omega) rfl rfl (Nat.le_of_ble_eq_true rfl) ?_
      refine g_icmp_ne (pc := 140) 151 dX11_ask_140 (by decide) (fun c_140 => ?_) (fun c_140 => ?_)
      · refine g_iload (pc := 151) dX11_ask_151 rfl ?_
        refine g_iload (pc := 153) dX11_ask_153 rfl ?_
        refine g_cS (pc := 155) (M' := mX11_more) (as := [_, _]) i_X11_248 eX11_more dX11_ask_155 (c_more _ _) (by omega) rfl rfl (Nat.le_of_ble_eq_true rfl) ?_
        refine g_istore (pc := 158) (ls' := [_, _, _, _, _, _, _, _]) dX11_ask_158 (by decide) rfl rfl ?_
        refine g_iload_n (pc := 160) dX11_ask_160 rfl ?_
        refine g_iconst (pc := 161) (v := -1) dX11_ask_161 (by decide) ?_
        refine g_icmp_eq (pc := 162) 174 dX11_ask_162 (by decide) (fun c_162 => ?_) (fun c_162 => ?_)
        · refine g_iload (pc := 174) dX11_ask_174 rfl ?_
          refine g_istore_n (pc := 176) (ls' := [_, _, _, _, _, _, _, _]) dX11_ask_176 (by decide) rfl rfl ?_
          refine g_iload (pc := 177) dX11_ask_177 rfl ?_
          refine g_istore_n (pc := 179) (ls' := [_, _, _, _, _, _, _, _]) dX11_ask_179 (by decide) rfl rfl ?_
          refine g_iinc (pc := 180) (ls' := [_, _, _, _, _, _, _, _]) dX11_ask_180 rfl (by first | exact nI_1 _ | exact rfl) (by decide) rfl rfl ?_
          refine g_goto (pc := 183) 37 dX11_ask_183 (by decide) ?_
          have e : askF (tldB Ln nL) (wstI (mlaw V) D nR (V 31) (islB (mlaw V) D nS nR (V 31) Ln X nL) (2 ^ nS)) (r + 1) = _ := show (if _ then _ else _) = _ from (if_neg (by rw [c_54]; decide)).trans (if_neg (fun q => q.1 c_162))
          rw [e] at hq
          have ew : wstI (mlaw V) D nR (V 31) (islB (mlaw V) D nS nR (V 31) Ln X nL) (2 ^ nS) r = _ := if_neg c_140
          rw [ew] at hq
          exact hq _ _ _
        · refine g_iload (pc := 165) dX11_ask_165 rfl ?_
          refine g_iload_n (pc := 167) dX11_ask_167 rfl ?_
          refine g_icmp_lt (pc := 168) 174 dX11_ask_168 (by decide) (fun c_168 => ?_) (fun c_168 => ?_)
          · refine g_iload (pc := 174) dX11_ask_174 rfl ?_
            refine g_istore_n (pc := 176) (ls' := [_, _, _, _, _, _, _, _]) dX11_ask_176 (by decide) rfl rfl ?_
            refine g_iload (pc := 177) dX11_ask_177 rfl ?_
            refine g_istore_n (pc := 179) (ls' := [_, _, _, _, _, _, _, _]) dX11_ask_179 (by decide) rfl rfl ?_
            refine g_iinc (pc := 180) (ls' := [_, _, _, _, _, _, _, _]) dX11_ask_180 rfl (by first | exact nI_1 _ | exact rfl) (by decide) rfl rfl ?_
            refine g_goto (pc := 183) 37 dX11_ask_183 (by decide) ?_
            have e : askF (tldB Ln nL) (wstI (mlaw V) D nR (V 31) (islB (mlaw V) D nS nR (V 31) Ln X nL) (2 ^ nS)) (r + 1) = _ := show (if _ then _ else _) = _ from (if_neg (by rw [c_54]; decide)).trans (if_neg (fun q => q.2 (by unfold wstI; first | (rw [if_pos c_140]; exact c_168) | (rw [if_neg c_140]; exact c_168))))
            rw [e] at hq
            have ew : wstI (mlaw V) D nR (V 31) (islB (mlaw V) D nS nR (V 31) Ln X nL) (2 ^ nS) r = _ := if_neg c_140
            rw [ew] at hq
            exact hq _ _ _
          · refine g_goto (pc := 171) 180 dX11_ask_171 (by decide) ?_
            refine g_iinc (pc := 180) (ls' := [_, _, _, _, _, _, _, _]) dX11_ask_180 rfl (by first | exact nI_1 _ | exact rfl) (by decide) rfl rfl ?_
            refine g_goto (pc := 183) 37 dX11_ask_183 (by decide) ?_
            have e : askF (tldB Ln nL) (wstI (mlaw V) D nR (V 31) (islB (mlaw V) D nS nR (V 31) Ln X nL) (2 ^ nS)) (r + 1) = _ := show (if _ then _ else _) = _ from (if_neg (by rw [c_54]; decide)).trans (if_pos ⟨c_162, fun q => c_168 (by unfold wstI at q; first | (rw [if_pos c_140] at q; exact q) | (rw [if_neg c_140] at q; exact q))⟩)
            rw [e] at hq
            exact hq _ _ _
      · refine g_iload (pc := 143) dX11_ask_143 rfl ?_
        refine g_iload (pc := 145) dX11_ask_145 rfl ?_
        refine g_iadd (pc := 147) dX11_ask_147 ?_
        refine g_goto (pc := 148) 158 dX11_ask_148 (by decide) ?_
        refine g_istore (pc := 158) (ls' := [_, _, _, _, _, _, _, _]) dX11_ask_158 (by decide) rfl rfl ?_
        refine g_iload_n (pc := 160) dX11_ask_160 rfl ?_
        refine g_iconst (pc := 161) (v := -1) dX11_ask_161 (by decide) ?_
        refine g_icmp_eq (pc := 162) 174 dX11_ask_162 (by decide) (fun c_162 => ?_) (fun c_162 => ?_)
        · refine g_iload (pc := 174) dX11_ask_174 rfl ?_
          refine g_istore_n (pc := 176) (ls' := [_, _, _, _, _, _, _, _]) dX11_ask_176 (by decide) rfl rfl ?_
          refine g_iload (pc := 177) dX11_ask_177 rfl ?_
          refine g_istore_n (pc := 179) (ls' := [_, _, _, _, _, _, _, _]) dX11_ask_179 (by decide) rfl rfl ?_
          refine g_iinc (pc := 180) (ls' := [_, _, _, _, _, _, _, _]) dX11_ask_180 rfl (by first | exact nI_1 _ | exact rfl) (by decide) rfl rfl ?_
          refine g_goto (pc := 183) 37 dX11_ask_183 (by decide) ?_
          have e : askF (tldB Ln nL) (wstI (mlaw V) D nR (V 31) (islB (mlaw V) D nS nR (V 31) Ln X nL) (2 ^ nS)) (r + 1) = _ := show (if _ then _ else _) = _ from (if_neg (by rw [c_54]; decide)).trans (if_neg (fun q => q.1 c_162))
          rw [e] at hq
          have ew : wstI (mlaw V) D nR (V 31) (islB (mlaw V) D nS nR (V 31) Ln X nL) (2 ^ nS) r = _ := if_pos c_140
          rw [ew] at hq
          exact hq _ _ _
        · refine g_iload (pc := 165) dX11_ask_165 rfl ?_
          refine g_iload_n (pc := 167) dX11_ask_167 rfl ?_
          refine g_icmp_lt (pc := 168) 174 dX11_ask_168 (by decide) (fun c_168 => ?_) (fun c_168 => ?_)
          · refine g_iload (pc := 174) dX11_ask_174 rfl ?_
            refine g_istore_n (pc := 176) (ls' := [_, _, _, _, _, _, _, _]) dX11_ask_176 (by decide) rfl rfl ?_
            refine g_iload (pc := 177) dX11_ask_177 rfl ?_
            refine g_istore_n (pc := 179) (ls' := [_, _, _, _, _, _, _, _]) dX11_ask_179 (by decide) rfl rfl ?_
            refine g_iinc (pc := 180) (ls' := [_, _, _, _, _, _, _, _]) dX11_ask_180 rfl (by first | exact nI_1 _ | exact rfl) (by decide) rfl rfl ?_
            refine g_goto (pc := 183) 37 dX11_ask_183 (by decide) ?_
            have e : askF (tldB Ln nL) (wstI (mlaw V) D nR (V 31) (islB (mlaw V) D nS nR (V 31) Ln X nL) (2 ^ nS)) (r + 1) = _ := show (if _ then _ else _) = _ from (if_neg (by rw [c_54]; decide)).trans (if_neg (fun q => q.2 (by unfold wstI; first | (rw [if_pos c_140]; exact c_168) | (rw [if_neg c_140]; exact c_168))))
            rw [e] at hq
            have ew : wstI (mlaw V) D nR (V 31) (islB (mlaw V) D nS nR (V 31) Ln X nL) (2 ^ nS) r = _ := if_pos c_140
            rw [ew] at hq
            exact hq _ _ _
          · refine g_goto (pc := 171) 180 dX11_ask_171 (by decide) ?_
            refine g_iinc (pc := 180) (ls' := [_, _, _, _, _, _, _, _]) dX11_ask_180 rfl (by first | exact nI_1 _ | exact rfl) (by decide) rfl rfl ?_
            refine g_goto (pc := 183) 37 dX11_ask_183 (by decide) ?_
            have e : askF (tldB Ln nL) (wstI (mlaw V) D nR (V 31) (islB (mlaw V) D nS nR (V 31) Ln X nL) (2 ^ nS)) (r + 1) = _ := show (if _ then _ else _) = _ from (if_neg (by rw [c_54]; decide)).trans (if_pos ⟨c_162, fun q => c_168 (by unfold wstI at q; first | (rw [if_pos c_140] at q; exact q) | (rw [if_neg c_140] at q; exact q))⟩)
            rw [e] at hq
            exact hq _ _ _
    · refine g_goto (pc := 57) 180 dX11_ask_57 (by decide) ?_
      refine g_iinc (pc := 180) (ls' := [_, _, _, _, _, _, _, _]) dX11_ask_180 rfl (by first | exact nI_1 _ | exact rfl) (by decide) rfl rfl ?_
      refine g_goto (pc := 183) 37 dX11_ask_183 (by decide) ?_
      have e : askF (tldB Ln nL) (wstI (mlaw V) D nR (V 31) (islB (mlaw V) D nS nR (V 31) Ln X nL) (2 ^ nS)) (r + 1) = _ := show (if _ then _ else _) = _ from if_pos c_54
      rw [e] at hq
      exact hq _ _ _
theorem r_mask (hd : 1 ≤ d) (hI : InvM am V h) (w : Int32) (hv : inR w 0 1 = false) : Ct E d 0 0 mX11_ask [vR (nMo am), vI w] h (mQ am (refV V 1 1) h (some (vI 0))) := by
  refine ct_of (by decide) (Nat.le_of_ble_eq_true rfl) rfl ?_
  have hF : mFr h h := mFr.rf
  refine g_aload_n (pc := 0) dX11_ask_0 rfl ?_
  refine g_iconst (pc := 1) (v := 0) dX11_ask_1 (by decide) ?_
  refine m_put (pc := 2) hI w_X11_103_11 rfl (by decide) dX11_ask_2 (fun h hI fr => ?_)
  replace hF := mFr.tr hF fr
  change InvM am (thr0 V) h at hI
  refine g_aload_n (pc := 5) dX11_ask_5 rfl ?_
  refine g_iload_n (pc := 6) dX11_ask_6 rfl ?_
  refine g_iconst (pc := 7) (v := 0) dX11_ask_7 (by decide) ?_
  refine g_iconst (pc := 8) (v := 1) dX11_ask_8 (by decide) ?_
  refine g_cS (pc := 9) (M' := mX11_in) (as := [_, _, _]) i_X11_137 eX11_in dX11_ask_9 (c_in _ _ _) (by omega) rfl rfl (Nat.le_of_ble_eq_true rfl) ?_
  refine g_ifB_ne (pc := 12) 19 dX11_ask_12 (by decide) (fun c_12 => absurd (c_12.symm.trans hv) (by decide)) (fun c_12 => ?_)
  refine g_iconst (pc := 15) (v := 1) dX11_ask_15 (by decide) ?_
  refine g_goto (pc := 16) 20 dX11_ask_16 (by decide) ?_
  refine g_iconst (pc := 20) (v := 1) dX11_ask_20 (by decide) ?_
  refine g_iconst (pc := 21) (v := 1) dX11_ask_21 (by decide) ?_
  refine m_cV (pc := 22) (M' := mX11_bad) (as := [_, _, _]) i_X11_183_11 eX11_bad hI dX11_ask_22 (c_badT hI thr0_0 1 (by decide) 1 (by decide)) (by omega) rfl rfl (Nat.le_of_ble_eq_true rfl) (fun h hI fr => ?_)
  replace hF := mFr.tr hF fr
  refine g_ifB_eq (pc := 25) 30 dX11_ask_25 (by decide) (fun c_25 => absurd c_25 (by decide)) (fun c_25 => ?_)
  refine g_iconst (pc := 28) (v := 0) dX11_ask_28 (by decide) ?_
  refine g_ireturn (pc := 29) dX11_ask_29 rfl (by first | exact rfl | exact j_nb _) ?_
  rw [refV_thr0] at hI
  exact ⟨rfl, hI, hF⟩
set_option maxHeartbeats 2000000 in
theorem c_mask (hd : 9 ≤ d) (hI : InvM am V h) (hT : MT V D nS nR nP) (hl : okL V) (hL : ML V Ln X nL nR) (w : Int32) (hv : inR w 0 1 = true) : Ct E d 0 0 mX11_ask [vR (nMo am), vI w] h (mQ am (thr0 V) h (some (vI (if w = 0 then (askF (tldB Ln nL) (wstI (mlaw V) D nR (V 31) (islB (mlaw V) D nS nR (V 31) Ln X nL) (2 ^ nS)) nR).1 else (askF (tldB Ln nL) (wstI (mlaw V) D nR (V 31) (islB (mlaw V) D nS nR (V 31) Ln X nL) (2 ^ nS)) nR).2)))) := by
  refine ct_of (by decide) (Nat.le_of_ble_eq_true rfl) rfl ?_
  have hF : mFr h h := mFr.rf
  have hT := MT.f0 (j := 0) (y := 0) hT
  change MT (thr0 V) D nS nR nP at hT
  have b8 := hT.2.2.2.1
  have b10 := hT.2.2.2.2.1
  have bP := hT.2.2.2.2.2.1
  have hl := okL.f0 (j := 0) (y := 0) hl (by decide)
  change okL (thr0 V) at hl
  have hL := ML.f0 (j := 0) (y := 0) hL (by decide)
  change ML (thr0 V) Ln X nL nR at hL
  refine g_aload_n (pc := 0) dX11_ask_0 rfl ?_
  refine g_iconst (pc := 1) (v := 0) dX11_ask_1 (by decide) ?_
  refine m_put (pc := 2) hI w_X11_103_11 rfl (by decide) dX11_ask_2 (fun h hI fr => ?_)
  replace hF := mFr.tr hF fr
  change InvM am (thr0 V) h at hI
  refine g_aload_n (pc := 5) dX11_ask_5 rfl ?_
  refine g_iload_n (pc := 6) dX11_ask_6 rfl ?_
  refine g_iconst (pc := 7) (v := 0) dX11_ask_7 (by decide) ?_
  refine g_iconst (pc := 8) (v := 1) dX11_ask_8 (by decide) ?_
  refine g_cS (pc := 9) (M' := mX11_in) (as := [_, _, _]) i_X11_137 eX11_in dX11_ask_9 (c_in _ _ _) (by omega) rfl rfl (Nat.le_of_ble_eq_true rfl) ?_
  refine g_ifB_ne (pc := 12) 19 dX11_ask_12 (by decide) (fun c_12 => ?_) (fun c_12 => absurd (hv.symm.trans c_12) (by decide))
  refine g_iconst (pc := 19) (v := 0) dX11_ask_19 (by decide) ?_
  refine g_iconst (pc := 20) (v := 1) dX11_ask_20 (by decide) ?_
  refine g_iconst (pc := 21) (v := 1) dX11_ask_21 (by decide) ?_
  refine m_cV (pc := 22) (M' := mX11_bad) (as := [_, _, _]) i_X11_183_11 eX11_bad hI dX11_ask_22 (c_badF hI thr0_0 1 1 (by decide)) (by omega) rfl rfl (Nat.le_of_ble_eq_true rfl) (fun h hI fr => ?_)
  replace hF := mFr.tr hF fr
  refine g_ifB_eq (pc := 25) 30 dX11_ask_25 (by decide) (fun c_25 => ?_) (fun c_25 => absurd c_25 (by decide))
  refine g_iconst (pc := 30) (v := -1) dX11_ask_30 (by decide) ?_
  refine g_istore_n (pc := 31) (ls' := [_, _, _, _, _, _, _, _]) dX11_ask_31 (by decide) rfl rfl ?_
  refine g_iconst (pc := 32) (v := -1) dX11_ask_32 (by decide) ?_
  refine g_istore_n (pc := 33) (ls' := [_, _, _, _, _, _, _, _]) dX11_ask_33 (by decide) rfl rfl ?_
  refine g_iconst (pc := 34) (v := 0) dX11_ask_34 (by decide) ?_
  refine g_istore (pc := 35) (ls' := [_, _, _, _, _, _, _, _]) dX11_ask_35 (by decide) rfl rfl ?_
  refine l_ask2 (by omega) hI hT hl hL w (fun u5 u6 u7 => ?_) nR 0 _ _ _ rfl (Nat.zero_le _)
  rw [thr0_law, thr0_now]
  refine g_iload_n (pc := 186) dX11_ask_186 rfl ?_
  refine g_if_ne (pc := 187) 194 dX11_ask_187 (by decide) (fun c_187 => ?_) (fun c_187 => ?_)
  · refine g_iload_n (pc := 194) dX11_ask_194 rfl ?_
    refine g_ireturn (pc := 195) dX11_ask_195 rfl (by first | exact rfl | exact j_nb _) ?_
    exact ⟨by simp [*], hI, hF⟩
  · refine g_iload_n (pc := 190) dX11_ask_190 rfl ?_
    refine g_goto (pc := 191) 195 dX11_ask_191 (by decide) ?_
    refine g_ireturn (pc := 195) dX11_ask_195 rfl (by first | exact rfl | exact j_nb _) ?_
    exact ⟨by simp [*], hI, hF⟩
end
