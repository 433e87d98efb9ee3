/-! THE REFERENCE: house. Printed by m_r4.py -/
set_option maxRecDepth 100000
theorem sgP_ok {t : Nat → Nat} {n a p : Nat} {c : Int32} {u : Unit} (h : sgP t n c a = .inr (p, u)) : sgI t n a = c ∧ p = bl t n a + 1 := by
  unfold sgP at h
  by_cases q : sgI t n a = c
  · rw [if_pos q] at h
    have e := Sum.inr.inj h
    exact ⟨q, (Prod.mk.inj e).1.symm⟩
  · rw [if_neg q] at h; cases h
theorem pB_ok {α β : Type} {x : pR α} {f : Nat → α → pR β} {r : Nat × β} (h : pB x f = .inr r) : ∃ p v, x = .inr (p, v) ∧ f p v = .inr r := by
  cases x with
  | inl e => cases h
  | inr q => exact ⟨q.1, q.2, rfl, h⟩
theorem clE_ok {t : Nat → Nat} {n a p : Nat} {g g' : HD} (h : clE t n g a = .inr (p, g')) : sgI t n a = 59 ∧ p = bl t n a + 1 ∧ g' = g := by
  obtain ⟨p1, v1, h1, h2⟩ := pB_ok h
  obtain ⟨h3, h4⟩ := sgP_ok h1
  have e := Sum.inr.inj h2
  exact ⟨h3, by rw [← h4]; exact (Prod.mk.inj e).1.symm, (Prod.mk.inj e).2.symm⟩
theorem bl_ge {t : Nat → Nat} {n a : Nat} : a ≤ bl t n a := (blF_le t (n - a) a).1
theorem nuP_lt {t : Nat → Nat} {n a p v : Nat} {lo hi : Int32} (ha : a ≤ n) (h : nuP t n lo hi a = .inr (p, v)) : a < p ∧ p ≤ n := by
  obtain ⟨-, -, -, -, -, h6, h7⟩ := nuP_ok ha h
  have := bl_ge (t := t) (n := n) (a := a)
  exact ⟨by omega, h7⟩
/-- a clause that was read goes on -/
theorem clK_lt {t : Nat → Nat} {n b k p : Nat} {g g' : HD} (hb : b ≤ n) (h : clK t n g k b = .inr (p, g')) : b < p := by
  have fin : ∀ {a : Nat} {g : HD}, clE t n g a = .inr (p, g') → a < p := fun {a g} e => by
    have := clE_ok e
    have := bl_ge (t := t) (n := n) (a := a)
    omega
  unfold clK at h
  by_cases k0 : k = 0
  · rw [if_pos k0] at h
    obtain ⟨p1, v1, h1, h2⟩ := pB_ok h
    have := nuP_lt hb h1
    have := fin h2
    omega
  · rw [if_neg k0] at h
    by_cases k1 : k = 1
    · rw [if_pos k1] at h
      obtain ⟨p1, v1, h1, h2⟩ := pB_ok h
      have a1 := nuP_lt hb h1
      obtain ⟨p2, v2, h3, h4⟩ := pB_ok h2
      have a2 := nuP_lt a1.2 h3
      obtain ⟨p3, v3, h5, h6⟩ := pB_ok h4
      have a3 := nuP_lt a2.2 h5
      have := fin h6
      omega
    · rw [if_neg k1] at h
      by_cases k2 : k = 2
      · rw [if_pos k2] at h
        obtain ⟨p1, v1, h1, h2⟩ := pB_ok h
        have a1 := nuP_lt hb h1
        obtain ⟨p2, v2, h3, h4⟩ := pB_ok h2
        have a2 := nuP_lt a1.2 h3
        have := fin h4
        omega
      · rw [if_neg k2] at h
        obtain ⟨p1, v1, h1, h2⟩ := pB_ok h
        have a1 := nuP_lt hb h1
        obtain ⟨p2, v2, h3, h4⟩ := pB_ok h2
        have a2 := nuP_lt a1.2 h3
        have := fin h4
        omega
theorem clP_ok {t : Nat → Nat} {n c a p : Nat} {g g' : HD} (ha : a ≤ n) (h : clP t n c g a = .inr (p, g')) : a < p ∧ c ≠ 60 := by
  unfold clP at h
  by_cases k4 : kdN t n a = 4
  · rw [if_pos k4] at h; cases h
  · rw [if_neg k4] at h
    by_cases hf : clFull g c (kdN t n a) = true
    · rw [if_pos hf] at h; cases h
    · rw [if_neg hf] at h
      have hw := wl_le (t := t) (n := n) (a := a)
      have := clK_lt (by omega) h
      refine ⟨by omega, fun e => hf ?_⟩
      unfold clFull
      rw [e]
      rfl
/-- a text was faulty: nothing stands of it but the place -/
def fltV (V V' : mV) (p : Int32) : Prop := V' 0 0 = 0 ∧ V' 0 1 = 0 ∧ V' 0 3 = p ∧ ∀ r j, ¬ rdX r j → ¬ (r = 0 ∧ (j = 0 ∨ j = 1 ∨ j = 3)) → V' r j = V r j
/-- a house begins -/
def hoV (V V' : mV) (g : HD) : Prop := V' 0 0 = 0 ∧ V' 0 1 = 0 ∧ V' 0 3 = -1 ∧ MT V' (gD g) (gS g) (gR g) (gP g) ∧ (∀ s, s < 8 → V' 16 s = gW g s) ∧ (∀ j, j < 45 → V' 31 j = row0 (fun _ => 0) j) ∧ V' 0 21 = 0 ∧ V' 0 35 = 0 ∧ V' 0 36 = 0 ∧ V' 0 37 = 0 ∧ V' 0 38 = 0 ∧ V' 9 = V 9 ∧ V' 10 = V 10
theorem row0_c {f g : Nat → Int32} {j : Nat} (hj : j < 45) : row0 f j = row0 g j := by
  unfold row0 flR
  by_cases a : 36 ≤ j ∧ j < 36 + 8
  · rw [if_pos a, if_pos a]
  · rw [if_neg a, if_neg a]
    by_cases b : 16 ≤ j ∧ j < 16 + 10
    · rw [if_pos b, if_pos b]
    · rw [if_neg b, if_neg b, if_pos (by omega), if_pos (by omega)]
/-- told and begun -/
theorem bgV_ho {V V0 : mV} {g : HD} (hR : HR V g) (h00 : V 0 0 = 0) (h01 : V 0 1 = 0) (h03 : V 0 3 = -1) (h9 : V 9 = V0 9) (h10 : V 10 = V0 10) : hoV V0 (bgV V (gR g) (gP g)) g := by
  obtain ⟨r1, r2, r3, r4, r5, r6, r7, o1, o2, o3, o4, o5, o6, o7⟩ := hR
  have f0 : ∀ j, j ≠ 21 → j ≠ 35 → j ≠ 36 → j ≠ 37 → j ≠ 38 → bgV V (gR g) (gP g) 0 j = V 0 j := fun j a b c e f => by
    unfold bgV
    rw [sv_nj f, sv_nj e, sv_nj c, sv_nj b, sv_nj a, svR_ne (by decide), bgB_ne (by decide) (by decide) (by decide) (by decide)]
  have rw_ : ∀ r, r ≠ 0 → r ≠ 31 → bgV V (gR g) (gP g) r = bgB V (gR g) (gP g) r := fun r a b => by
    unfold bgV
    rw [sv_ne a, sv_ne a, sv_ne a, sv_ne a, sv_ne a, svR_ne b]
  have e12 : ∀ j, j < 3 → bgV V (gR g) (gP g) 12 j = V 11 j := fun j hj => by
    rw [rw_ 12 (by decide) (by decide)]
    unfold bgB bgA cpR
    rw [layP_a (by omega), layP_a (by omega), svR_ne (by decide), svR_ne (by decide), svR_row, if_pos hj]
  have e14 : ∀ j, j < 8 → bgV V (gR g) (gP g) 14 j = V 13 j := fun j hj => by
    rw [rw_ 14 (by decide) (by decide)]
    unfold bgB bgA cpR
    rw [layP_a (by omega), layP_a (by omega), svR_ne (by decide), svR_row, if_pos hj]
  have e16 : ∀ j, j < 8 → bgV V (gR g) (gP g) 16 j = V 15 j := fun j hj => by
    rw [rw_ 16 (by decide) (by decide)]
    unfold bgB bgA cpR
    rw [layP_a (by omega), layP_a (by omega), svR_row, if_pos hj]
  have e18 : ∀ r j, r < gR g → j < 3 → bgV V (gR g) (gP g) (1000 * 18 + r) j = V (1000 * 17 + r) j := fun r j hr hj => by
    rw [rw_ _ (by omega) (by omega)]
    unfold bgB
    rw [layP_a (by omega)]
    unfold layP
    rw [if_pos (by omega), Nat.add_sub_cancel_left]
    unfold bgA
    rw [svR_ne (by omega), svR_ne (by omega), svR_ne (by omega)]
  have e20 : ∀ r j, r < gP g → j < 2 → bgV V (gR g) (gP g) (1000 * 20 + r) j = V (1000 * 19 + r) j := fun r j hr hj => by
    rw [rw_ _ (by omega) (by omega)]
    unfold bgB
    show layP _ 19 20 2 (gP g) 0 (1000 * 20 + r) j = _
    unfold layP
    rw [if_pos (by omega), Nat.add_sub_cancel_left, if_neg (by omega)]
    unfold bgA
    rw [svR_ne (by omega), svR_ne (by omega), svR_ne (by omega)]
  refine ⟨by rw [f0 0 (by decide) (by decide) (by decide) (by decide) (by decide)]; exact h00, by rw [f0 1 (by decide) (by decide) (by decide) (by decide) (by decide)]; exact h01, by rw [f0 3 (by decide) (by decide) (by decide) (by decide) (by decide)]; exact h03, ?_, fun s hs => by rw [e16 s hs]; exact r7 s hs, fun j hj => ?_, ?_, ?_, ?_, ?_, sv_same, ?_, ?_⟩
  · refine ⟨by rw [e12 0 (by decide)]; exact r1, by rw [e12 1 (by decide)]; exact r2, by rw [e12 2 (by decide)]; exact r3, o1, o2, o3, fun r hr => ?_, fun p hp => ?_, fun s hs => ⟨by rw [e14 s (by omega)]; exact r6 s hs, o6 s hs⟩⟩
    · rw [e18 r 0 hr (by decide), e18 r 1 hr (by decide), e18 r 2 hr (by decide)]
      exact ⟨(r4 r hr).1, (r4 r hr).2.1, (r4 r hr).2.2, o4 r hr⟩
    · rw [e20 p 0 hp (by decide), e20 p 1 hp (by decide)]
      exact ⟨(r5 p hp).1, (r5 p hp).2, o5 p hp⟩
  · unfold bgV
    rw [sv_ne (by decide), sv_ne (by decide), sv_ne (by decide), sv_ne (by decide), sv_ne (by decide), svR_row]
    exact row0_c hj
  · unfold bgV
    rw [sv_nj (by decide), sv_nj (by decide), sv_nj (by decide), sv_nj (by decide), sv_same]
  · unfold bgV
    rw [sv_nj (by decide), sv_nj (by decide), sv_nj (by decide), sv_same]
  · unfold bgV
    rw [sv_nj (by decide), sv_nj (by decide), sv_same]
  · unfold bgV
    rw [sv_nj (by decide), sv_same]
  · rw [rw_ 9 (by decide) (by decide), bgB_ne (by decide) (by decide) (by decide) (by decide)]; exact h9
  · rw [rw_ 10 (by decide) (by decide), bgB_ne (by decide) (by decide) (by decide) (by decide)]; exact h10
section
variable {E : jE} {d : Nat} {h : jH} {am : Nat → Nat} {V : mV} {t : Nat → Nat} {n a : Nat}
/-- how a house's reading ends -/
def hoQ (am : Nat → Nat) (V : mV) (h : jH) (x : pR HD) : jR → jH → Prop := fun r h' => ∃ V', InvM am V' h' ∧ mFr h h' ∧ match x with
  | .inl e => r = .inl (some (vI (nI e.1 - 10))) ∧ fltV V V' (nI e.2)
  | .inr q => r = .inl (some (vI (nI (gR q.2)))) ∧ hoV V V' q.2
theorem r_mhouse (hd : 2 ≤ d) (hI : InvM am V h) (w : Int32) (hv : inR w 0 (V 0 1) = false) : Ct E d 0 0 mX11_house [vR (nMo am), vI w] h (mQ am (refV V 1 1) h (some (vI 0))) := by
  refine ct_of (by decide) (Nat.le_of_ble_eq_true rfl) rfl ?_
  have hF : mFr h h := mFr.rf
  refine g_aload_n (pc := 0) dX11_house_0 rfl ?_
  refine g_iconst (pc := 1) (v := 0) dX11_house_1 (by decide) ?_
  refine m_put (pc := 2) hI w_X11_103_11 rfl (by decide) dX11_house_2 (fun h hI fr => ?_)
  replace hF := mFr.tr hF fr
  change InvM am (thr0 V) h at hI
  refine g_aload_n (pc := 5) dX11_house_5 rfl ?_
  refine g_iload_n (pc := 6) dX11_house_6 rfl ?_
  refine g_iconst (pc := 7) (v := 0) dX11_house_7 (by decide) ?_
  refine g_aload_n (pc := 8) dX11_house_8 rfl ?_
  refine g_getfield (pc := 9) f_X11_106_11 dX11_house_9 hI.1 mf_1 ?_
  rw [show thr0 V 0 1 = V 0 1 from sv_nj (by decide)]
  refine g_cS (pc := 12) (M' := mX11_in) (as := [_, _, _]) i_X11_137 eX11_in dX11_house_12 (c_in _ _ _) (by omega) rfl rfl (Nat.le_of_ble_eq_true rfl) ?_
  refine g_ifB_ne (pc := 15) 22 dX11_house_15 (by decide) (fun c_15 => absurd (c_15.symm.trans hv) (by decide)) (fun c_15 => ?_)
  refine g_iconst (pc := 18) (v := 1) dX11_house_18 (by decide) ?_
  refine g_goto (pc := 19) 23 dX11_house_19 (by decide) ?_
  refine g_iconst (pc := 23) (v := 1) dX11_house_23 (by decide) ?_
  refine g_iconst (pc := 24) (v := 1) dX11_house_24 (by decide) ?_
  refine m_cV (pc := 25) (M' := mX11_bad) (as := [_, _, _]) i_X11_183_11 eX11_bad hI dX11_house_25 (c_badT hI thr0_0 1 (by decide) 1 (by decide)) (by omega) rfl rfl (Nat.le_of_ble_eq_true rfl) (fun h hI fr => ?_)
  replace hF := mFr.tr hF fr
  refine g_ifB_eq (pc := 28) 33 dX11_house_28 (by decide) (fun c_28 => absurd c_28 (by decide)) (fun c_28 => ?_)
  refine g_iconst (pc := 31) (v := 0) dX11_house_31 (by decide) ?_
  refine g_ireturn (pc := 32) dX11_house_32 rfl (by first | exact rfl | exact j_nb _) ?_
  rw [refV_thr0] at hI
  exact ⟨rfl, hI, hF⟩
/-- the world where a house's reading began -/
def hoB (V : mV) (V' : mV) : Prop := V' 0 0 = 0 ∧ V' 0 1 = 0 ∧ ∀ r j, ¬ rdX r j → ¬ (r = 0 ∧ (j = 0 ∨ j = 1)) → V' r j = V r j
theorem hoB.rd {V V' V'' : mV} (h : hoB V V') (e : rdE V' V'') : hoB V V'' := by
  have n0 : ¬ rdX 0 0 := by unfold rdX; omega
  have n1 : ¬ rdX 0 1 := by unfold rdX; omega
  exact ⟨(e 0 0 n0).trans h.1, (e 0 1 n1).trans h.2.1, fun r j a b => (e r j a).trans (h.2.2 r j a b)⟩
theorem hoB.flt {V V' : mV} {p : Int32} (h : hoB V V') : fltV V (sv V' 0 3 p) p := by
  refine ⟨by rw [sv_nj (by decide)]; exact h.1, by rw [sv_nj (by decide)]; exact h.2.1, sv_same, fun r j a b => ?_⟩
  rw [sv_at, if_neg (fun e => b ⟨e.1, by omega⟩)]
  exact h.2.2 r j a (fun q => b ⟨q.1, by omega⟩)
set_option maxHeartbeats 4000000 in
theorem l_house {bc bs : Nat} {h0 : jH} {w : Int32} (hd : 6 ≤ d) : ∀ (m c a : Nat) (g : HD) (V' : mV) (h : jH), n - a ≤ m → c ≤ 60 → bl t n a = a → InvM am V' h → mFr h0 h → PS V' t n a → V' 0 5 = 0 → V' 0 7 = nI c → HR V' g → hoB V V' → G E d bc bs mX11_house 42 [some (vR (nMo am)), some (vI w)] [] h (hoQ am V h0 (hsP t n m c g a)) := by
  intro m
  induction m with
  | zero =>
    intro c a g V' h hm hc hb hI hF hp hf h7 hR hB
    have han : a = n := by have := hp.2.2.2.2; omega
    have hn6 := hp.2.2.1
    have o := hR.2.2.2.2.2.2.2
    refine g_aload_n (pc := 42) dX11_house_42 rfl ?_
    refine g_getfield (pc := 43) f_X11_119_11 dX11_house_43 hI.1 mf_5 ?_
    refine g_if_ne (pc := 46) 71 dX11_house_46 (by decide) (fun c_46 => absurd hf c_46) (fun c_46 => ?_)
    refine g_aload_n (pc := 49) dX11_house_49 rfl ?_
    refine g_getfield (pc := 50) f_X11_112_11 dX11_house_50 hI.1 mf_4 ?_
    rw [hp.2.2.2.1]
    refine g_aload_n (pc := 53) dX11_house_53 rfl ?_
    refine g_getfield (pc := 54) f_X11_109_11 dX11_house_54 hI.1 mf_2 ?_
    rw [hp.2.1]
    refine g_icmp_ge (pc := 57) 71 dX11_house_57 (by decide) (fun c_57 => ?_) (fun c_57 => absurd (by rw [han]; exact nI_le (Nat.le_refl _) (by omega)) c_57)
    refine g_aload_n (pc := 71) dX11_house_71 rfl ?_
    refine g_getfield (pc := 72) f_X11_119_11 dX11_house_72 hI.1 mf_5 ?_
    refine g_if_eq (pc := 75) 83 dX11_house_75 (by decide) (fun c_75 => ?_) (fun c_75 => absurd hf c_75)
    have e12 : bgV (sv V' 0 3 (-1)) (gR g) (gP g) 12 1 = nI (gR g) := by
      have := (bgV_ho (V0 := V) (hR.of (fun r hr => sv_ne (by omega))) (by rw [sv_nj (by decide)]; exact hB.1) (by rw [sv_nj (by decide)]; exact hB.2.1) sv_same (by rw [sv_ne (by decide)]; exact funext fun j => hB.2.2 9 j (by unfold rdX; omega) (by omega)) (by rw [sv_ne (by decide)]; exact funext fun j => hB.2.2 10 j (by unfold rdX; omega) (by omega))).2.2.2.1.2.1
      exact this
    refine g_aload_n (pc := 83) dX11_house_83 rfl ?_
    refine g_iconst (pc := 84) (v := -1) dX11_house_84 (by decide) ?_
    refine m_put (pc := 85) hI w_X11_9_11 rfl (by decide) dX11_house_85 (fun h hI fr => ?_)
    replace hF := mFr.tr hF fr
    refine g_aload_n (pc := 88) dX11_house_88 rfl ?_
    refine m_cVv (pc := 89) (M' := mX11_beginsAnew) (as := []) i_X11_100_11 eX11_beginsAnew hI dX11_house_89 (c_beginsAnew (by omega) hI (gR g) (gP g) (by rw [sv_ne (by decide)]; exact hR.2.1) (by rw [sv_ne (by decide)]; exact hR.2.2.1) o.2.1 o.2.2.1) (by omega) rfl rfl (Nat.le_of_ble_eq_true rfl) (fun h hI fr => ?_)
    replace hF := mFr.tr hF fr
    refine g_aload_n (pc := 92) dX11_house_92 rfl ?_
    refine g_getfield (pc := 93) f_X11_23_11 dX11_house_93 hI.1 mf_12 ?_
    refine g_iconst (pc := 96) (v := 1) dX11_house_96 (by decide) ?_
    refine g_iaload (pc := 97) dX11_house_97 (mA hI 12 3 rfl (by decide)) (j := 1) (by decide) (by omega) (by decide) rfl ?_
    rw [e12]
    refine g_ireturn (pc := 98) dX11_house_98 rfl (by first | exact rfl | exact j_nb _) ?_
    refine ⟨_, hI, hF, ?_⟩
    rw [show hsP t n 0 c g a = .inr (a, g) from rfl]
    exact ⟨rfl, bgV_ho (hR.of (fun r hr => sv_ne (by omega))) (by rw [sv_nj (by decide)]; exact hB.1) (by rw [sv_nj (by decide)]; exact hB.2.1) sv_same (by rw [sv_ne (by decide)]; exact funext fun j => hB.2.2 9 j (by unfold rdX; omega) (by omega)) (by rw [sv_ne (by decide)]; exact funext fun j => hB.2.2 10 j (by unfold rdX; omega) (by omega))⟩
  | succ m ih =>
    intro c a g V' h hm hc hb hI hF hp hf h7 hR hB
    have hn6 := hp.2.2.1
    have o := hR.2.2.2.2.2.2.2
    have hale := hp.2.2.2.2
    refine g_aload_n (pc := 42) dX11_house_42 rfl ?_
    refine g_getfield (pc := 43) f_X11_119_11 dX11_house_43 hI.1 mf_5 ?_
    refine g_if_ne (pc := 46) 71 dX11_house_46 (by decide) (fun c_46 => absurd hf c_46) (fun c_46 => ?_)
    refine g_aload_n (pc := 49) dX11_house_49 rfl ?_
    refine g_getfield (pc := 50) f_X11_112_11 dX11_house_50 hI.1 mf_4 ?_
    rw [hp.2.2.2.1]
    refine g_aload_n (pc := 53) dX11_house_53 rfl ?_
    refine g_getfield (pc := 54) f_X11_109_11 dX11_house_54 hI.1 mf_2 ?_
    rw [hp.2.1]
    refine g_icmp_ge (pc := 57) 71 dX11_house_57 (by decide) (fun c_57 => ?_) (fun c_57 => ?_)
    · refine g_aload_n (pc := 71) dX11_house_71 rfl ?_
      refine g_getfield (pc := 72) f_X11_119_11 dX11_house_72 hI.1 mf_5 ?_
      refine g_if_eq (pc := 75) 83 dX11_house_75 (by decide) (fun c_75 => ?_) (fun c_75 => absurd hf c_75)
      have hge : ¬ a < n := fun w => absurd c_57 (nI_ge w (by omega))
      have e12 : bgV (sv V' 0 3 (-1)) (gR g) (gP g) 12 1 = nI (gR g) := by
        have := (bgV_ho (V0 := V) (hR.of (fun r hr => sv_ne (by omega))) (by rw [sv_nj (by decide)]; exact hB.1) (by rw [sv_nj (by decide)]; exact hB.2.1) sv_same (by rw [sv_ne (by decide)]; exact funext fun j => hB.2.2 9 j (by unfold rdX; omega) (by omega)) (by rw [sv_ne (by decide)]; exact funext fun j => hB.2.2 10 j (by unfold rdX; omega) (by omega))).2.2.2.1.2.1
        exact this
      refine g_aload_n (pc := 83) dX11_house_83 rfl ?_
      refine g_iconst (pc := 84) (v := -1) dX11_house_84 (by decide) ?_
      refine m_put (pc := 85) hI w_X11_9_11 rfl (by decide) dX11_house_85 (fun h hI fr => ?_)
      replace hF := mFr.tr hF fr
      refine g_aload_n (pc := 88) dX11_house_88 rfl ?_
      refine m_cVv (pc := 89) (M' := mX11_beginsAnew) (as := []) i_X11_100_11 eX11_beginsAnew hI dX11_house_89 (c_beginsAnew (by omega) hI (gR g) (gP g) (by rw [sv_ne (by decide)]; exact hR.2.1) (by rw [sv_ne (by decide)]; exact hR.2.2.1) o.2.1 o.2.2.1) (by omega) rfl rfl (Nat.le_of_ble_eq_true rfl) (fun h hI fr => ?_)
      replace hF := mFr.tr hF fr
      refine g_aload_n (pc := 92) dX11_house_92 rfl ?_
      refine g_getfield (pc := 93) f_X11_23_11 dX11_house_93 hI.1 mf_12 ?_
      refine g_iconst (pc := 96) (v := 1) dX11_house_96 (by decide) ?_
      refine g_iaload (pc := 97) dX11_house_97 (mA hI 12 3 rfl (by decide)) (j := 1) (by decide) (by omega) (by decide) rfl ?_
      rw [e12]
      refine g_ireturn (pc := 98) dX11_house_98 rfl (by first | exact rfl | exact j_nb _) ?_
      refine ⟨_, hI, hF, ?_⟩
      rw [show hsP t n (m + 1) c g a = .inr (a, g) from if_neg hge]
      exact ⟨rfl, bgV_ho (hR.of (fun r hr => sv_ne (by omega))) (by rw [sv_nj (by decide)]; exact hB.1) (by rw [sv_nj (by decide)]; exact hB.2.1) sv_same (by rw [sv_ne (by decide)]; exact funext fun j => hB.2.2 9 j (by unfold rdX; omega) (by omega)) (by rw [sv_ne (by decide)]; exact funext fun j => hB.2.2 10 j (by unfold rdX; omega) (by omega))⟩
    · refine g_aload_n (pc := 60) dX11_house_60 rfl ?_
      refine m_cX (pc := 61) (M' := mX11_clause) (as := []) i_X11_190_11 eX11_clause hI dX11_house_61 (c_clause (by omega) hI hp hb hf h7 hc hR) (by omega) rfl rfl (Nat.le_of_ble_eq_true rfl) (fun r9 h9 q9 => ?_)
      obtain ⟨rfl, V2, hI, fr, rd2, q9⟩ := q9
      refine ⟨none, rfl, ?_⟩
      replace hF := mFr.tr hF fr
      have hlt : a < n := by
        rcases Nat.lt_or_ge a n with q | q
        · exact q
        · exact absurd (nI_le q (by omega)) c_57
      have eq9 : hsP t n (m + 1) c g a = pB (clP t n c g a) fun p g' => hsP t n m (c + 1) g' (bl t n p) := if_pos hlt
      rw [eq9]
      cases ecl : clP t n c g a with
      | inl e =>
        rw [ecl] at q9
        obtain ⟨f5, f6, fk, b, hpb⟩ := q9
        have hne : ¬ V2 0 5 = 0 := by rw [f5]; exact nI_ne0 (by omega) (by omega)
        refine g_aload_n (pc := 64) dX11_house_64 rfl ?_
        refine m_cVv (pc := 65) (M' := mX11_blanks) (as := []) i_X11_125_11 eX11_blanks hI dX11_house_65 (cP_blanks (by omega) hI hpb) (by omega) rfl rfl (Nat.le_of_ble_eq_true rfl) (fun h hI fr => ?_)
        replace hF := mFr.tr hF fr
        refine g_goto (pc := 68) 42 dX11_house_68 (by decide) ?_
        refine g_aload_n (pc := 42) dX11_house_42 rfl ?_
        refine g_getfield (pc := 43) f_X11_119_11 dX11_house_43 hI.1 mf_5 ?_
        refine g_if_ne (pc := 46) 71 dX11_house_46 (by decide) (fun c_46 => ?_) (fun c_46 => absurd c_46 hne)
        refine g_aload_n (pc := 71) dX11_house_71 rfl ?_
        refine g_getfield (pc := 72) f_X11_119_11 dX11_house_72 hI.1 mf_5 ?_
        refine g_if_eq (pc := 75) 83 dX11_house_75 (by decide) (fun c_75 => absurd c_75 hne) (fun c_75 => ?_)
        refine g_aload_n (pc := 78) dX11_house_78 rfl ?_
        refine m_cV (pc := 79) (M' := mX11_ends) (as := []) i_X11_193_11 eX11_ends hI dX11_house_79 (c_ends hI) (by omega) rfl rfl (Nat.le_of_ble_eq_true rfl) (fun h hI fr => ?_)
        replace hF := mFr.tr hF fr
        refine g_ireturn (pc := 82) dX11_house_82 rfl (by first | exact rfl | exact j_nb _) ?_
        refine ⟨_, hI, hF, ?_, ?_⟩
        · rw [sv_nj (by decide), f5]
        · rw [sv_nj (by decide), f6]
          exact ((hB.rd rd2).rd (rdE.rf.a4)).flt
      | inr q =>
        obtain ⟨p, g'⟩ := q
        rw [ecl] at q9
        obtain ⟨f5, hp2, f7, hR2⟩ := q9
        have hadv := clP_ok hale ecl
        have hb2 := bl_le (t := t) hp2.2.2.2.2
        refine g_aload_n (pc := 64) dX11_house_64 rfl ?_
        refine m_cVv (pc := 65) (M' := mX11_blanks) (as := []) i_X11_125_11 eX11_blanks hI dX11_house_65 (cP_blanks (by omega) hI hp2) (by omega) rfl rfl (Nat.le_of_ble_eq_true rfl) (fun h hI fr => ?_)
        replace hF := mFr.tr hF fr
        refine g_goto (pc := 68) 42 dX11_house_68 (by decide) ?_
        refine ih (c + 1) (bl t n p) g' _ h (by have := bl_ge (t := t) (n := n) (a := p); omega) (by omega) bl_bl hI hF (hp2.at hb2.2) ((sv_nj (by decide)).trans f5) ((sv_nj (by decide)).trans f7) (hR2.of (fun r hr => sv_ne (by omega))) ((hB.rd rd2).rd rdE.rf.a4)
set_option maxHeartbeats 1000000 in
theorem c_mhouse (hd : 7 ≤ d) (hI : InvM am V h) (hT : TX V t) (n T : Nat) (h1 : V 0 1 = nI T) (hT6 : T ≤ 600) (hn : n ≤ T) : Ct E d 0 0 mX11_house [vR (nMo am), vI (nI n)] h (hoQ am V h (hsP t n n 0 hd0 (bl t n 0))) := by
  refine ct_of (by decide) (Nat.le_of_ble_eq_true rfl) rfl ?_
  have hF : mFr h h := mFr.rf
  have hv : inR (nI n) 0 (V 0 1) = true := by rw [h1]; exact inC_of hn (by omega)
  have hT0 : TX (thr0 V) t := hT.sv (by decide)
  refine g_aload_n (pc := 0) dX11_house_0 rfl ?_
  refine g_iconst (pc := 1) (v := 0) dX11_house_1 (by decide) ?_
  refine m_put (pc := 2) hI w_X11_103_11 rfl (by decide) dX11_house_2 (fun h hI fr => ?_)
  replace hF := mFr.tr hF fr
  change InvM am (thr0 V) h at hI
  refine g_aload_n (pc := 5) dX11_house_5 rfl ?_
  refine g_iload_n (pc := 6) dX11_house_6 rfl ?_
  refine g_iconst (pc := 7) (v := 0) dX11_house_7 (by decide) ?_
  refine g_aload_n (pc := 8) dX11_house_8 rfl ?_
  refine g_getfield (pc := 9) f_X11_106_11 dX11_house_9 hI.1 mf_1 ?_
  rw [show thr0 V 0 1 = V 0 1 from sv_nj (by decide)]
  refine g_cS (pc := 12) (M' := mX11_in) (as := [_, _, _]) i_X11_137 eX11_in dX11_house_12 (c_in _ _ _) (by omega) rfl rfl (Nat.le_of_ble_eq_true rfl) ?_
  refine g_ifB_ne (pc := 15) 22 dX11_house_15 (by decide) (fun c_15 => ?_) (fun c_15 => absurd (hv.symm.trans c_15) (by decide))
  refine g_iconst (pc := 22) (v := 0) dX11_house_22 (by decide) ?_
  refine g_iconst (pc := 23) (v := 1) dX11_house_23 (by decide) ?_
  refine g_iconst (pc := 24) (v := 1) dX11_house_24 (by decide) ?_
  refine m_cV (pc := 25) (M' := mX11_bad) (as := [_, _, _]) i_X11_183_11 eX11_bad hI dX11_house_25 (c_badF hI thr0_0 1 1 (by decide)) (by omega) rfl rfl (Nat.le_of_ble_eq_true rfl) (fun h hI fr => ?_)
  replace hF := mFr.tr hF fr
  refine g_ifB_eq (pc := 28) 33 dX11_house_28 (by decide) (fun c_28 => ?_) (fun c_28 => absurd c_28 (by decide))
  refine g_aload_n (pc := 33) dX11_house_33 rfl ?_
  refine g_iload_n (pc := 34) dX11_house_34 rfl ?_
  refine m_cVv (pc := 35) (M' := mX11_starts) (as := [_]) i_X11_187_11 eX11_starts hI dX11_house_35 (c_starts (by omega) hI hT0 (by omega)) (by omega) rfl rfl (Nat.le_of_ble_eq_true rfl) (fun h hI fr => ?_)
  replace hF := mFr.tr hF fr
  refine g_aload_n (pc := 38) dX11_house_38 rfl ?_
  refine m_cVv (pc := 39) (M' := mX11_tellsNothing) (as := []) i_X11_97_11 eX11_tellsNothing hI dX11_house_39 (c_tellsNothing hI) (by omega) rfl rfl (Nat.le_of_ble_eq_true rfl) (fun h hI fr => ?_)
  replace hF := mFr.tr hF fr
  have hp0 := (stV_PS (V := thr0 V) (t := t) (n := n) hT0 (by omega)).at (bl_le (t := t) (n := n) (Nat.zero_le n)).2
  have key : ∀ j, tnV (sv (stV (thr0 V) (nI n)) 0 4 (nI (bl t n 0))) 0 j = sv (stV (thr0 V) (nI n)) 0 4 (nI (bl t n 0)) 0 j := fun j => by unfold tnV; rw [svR_ne (by decide), svR_ne (by decide)]
  refine l_house (by omega) n 0 (bl t n 0) hd0 _ h (by omega) (by decide) bl_bl hI hF ⟨?_, ?_, by omega, ?_, hp0.2.2.2.2⟩ ?_ ?_ ?_ ?_
  · intro k hk
    unfold tnV
    rw [svR_ne (by decide), svR_ne (by decide)]
    exact hp0.1 k hk
  · rw [key]; exact hp0.2.1
  · rw [key]; exact hp0.2.2.2.1
  · rw [key, sv_nj (by decide)]
    unfold stV
    rw [sv_nj (by decide), sv_nj (by decide), sv_nj (by decide), sv_same]
  · rw [key, sv_nj (by decide)]
    unfold stV
    rw [sv_nj (by decide), sv_same]
    rfl
  · refine ⟨?_, ?_, ?_, fun r hr => absurd hr (Nat.not_lt_zero r), fun r hr => absurd hr (Nat.not_lt_zero r), fun r hr => absurd hr (Nat.not_lt_zero r), fun s hs => ?_, by decide, by decide, by decide, fun r hr => absurd hr (Nat.not_lt_zero r), fun r hr => absurd hr (Nat.not_lt_zero r), fun r hr => absurd hr (Nat.not_lt_zero r), fun s => Or.inl rfl⟩
    · unfold tnV flR
      rw [svR_ne (by decide), svR_row, if_pos (by decide)]
      rfl
    · unfold tnV flR
      rw [svR_ne (by decide), svR_row, if_pos (by decide)]
      rfl
    · unfold tnV flR
      rw [svR_ne (by decide), svR_row, if_pos (by decide)]
      rfl
    · unfold tnV flR
      rw [svR_row, if_pos (by omega)]
      rfl
  · refine ⟨?_, ?_, fun r j a b => ?_⟩
    · rw [key, sv_nj (by decide)]
      unfold stV
      rw [sv_nj (by decide), sv_nj (by decide), sv_nj (by decide), sv_nj (by decide), sv_nj (by decide), sv_nj (by decide), sv_nj (by decide)]
      exact thr0_0
    · rw [key, sv_nj (by decide)]
      unfold stV
      rw [sv_nj (by decide), sv_nj (by decide), sv_nj (by decide), sv_nj (by decide), sv_nj (by decide), sv_nj (by decide), sv_same]
    · unfold rdX at a
      unfold tnV
      rw [svR_ne (by omega), svR_ne (by omega)]
      unfold stV thr0
      repeat rw [sv_at, if_neg (by omega)]
end
