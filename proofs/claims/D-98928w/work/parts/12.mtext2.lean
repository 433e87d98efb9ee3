/-! THE REFERENCE: numbers, words, signs. Printed by m_text2.py -/
set_option maxRecDepth 100000
section
variable {E : jE} {d : Nat} {h : jH} {am : Nat → Nat} {V : mV} {t : Nat → Nat} {n a : Nat}
def nuE (t : Nat → Nat) (n a : Nat) : Nat × Nat := nuF t (n - bl t n a) (bl t n a) 0
def nuK (t : Nat → Nat) (n : Nat) (lo hi : Int32) (a : Nat) : Nat := if isD t n (bl t n a) = true then (if inR (nI (nuE t n a).2) lo hi = true then 0 else 2) else 1
def nuX (t : Nat → Nat) (n : Nat) (lo hi : Int32) (a : Nat) : Int32 := if nuK t n lo hi a = 0 then nI (nuE t n a).2 else 0
def nuV (V : mV) (t : Nat → Nat) (n : Nat) (lo hi : Int32) (a : Nat) : mV := if nuK t n lo hi a = 0 then sv V 0 4 (nI (nuE t n a).1) else sv (sv (sv V 0 4 (nI (nuE t n a).1)) 0 5 (nI (nuK t n lo hi a))) 0 6 (nI (bl t n a))
theorem nuE_no (h : isD t n (bl t n a) = false) : nuE t n a = (bl t n a, 0) := by
  unfold nuE
  cases e : n - bl t n a with
  | zero => rfl
  | succ m =>
    unfold nuF
    rw [if_neg]
    intro q
    have : isD t n (bl t n a) = true := decide_eq_true ⟨by omega, q⟩
    rw [h] at this
    cases this
theorem mWrong_0 {V : mV} {x y : Int32} (h : V 0 5 = 0) : mWrong V x y = sv (sv V 0 5 x) 0 6 y := by unfold mWrong; rw [if_pos h]
theorem mWrong_1 {V : mV} {x y : Int32} (h : ¬ V 0 5 = 0) : mWrong V x y = V := by unfold mWrong; rw [if_neg h]
theorem sv_cm {V : mV} {r j r' j' : Nat} {x y : Int32} (hn : r ≠ r' ∨ j ≠ j') : sv (sv V r j x) r' j' y = sv (sv V r' j' y) r j x := by
  funext q i
  by_cases e : q = r'
  · subst e
    by_cases e1 : q = r
    · subst e1
      have hj : j ≠ j' := by rcases hn with w | w; exact absurd rfl w; exact w
      by_cases e2 : i = j'
      · subst e2; rw [sv_same, sv_nj (fun w => hj w.symm), sv_same]
      · rw [sv_nj e2]
        by_cases e3 : i = j
        · subst e3; rw [sv_same, sv_same]
        · rw [sv_nj e3, sv_nj e3, sv_nj e2]
    · by_cases e2 : i = j'
      · subst e2; rw [sv_same, sv_ne e1, sv_same]
      · rw [sv_nj e2, sv_ne e1, sv_ne e1, sv_nj e2]
  · rw [sv_ne e]
    by_cases e1 : q = r
    · subst e1
      by_cases e3 : i = j
      · subst e3; rw [sv_same, sv_same]
      · rw [sv_nj e3, sv_nj e3, sv_ne e]
    · rw [sv_ne e1, sv_ne e1, sv_ne e]
set_option maxHeartbeats 2000000 in
theorem c_number (hd : 2 ≤ d) (hI : InvM am V h) (hp : PS V t n a) (hf : V 0 5 = 0) (lo hi : Int32) : Ct E d 0 0 mX11_number [vR (nMo am), vI lo, vI hi] h (mQ am (nuV V t n lo hi a) h (some (vI (nuX t n lo hi a)))) := by
  refine ct_of (by decide) (Nat.le_of_ble_eq_true rfl) rfl ?_
  have hF : mFr h h := mFr.rf
  have hb := bl_le (t := t) hp.2.2.2.2
  refine g_aload_n (pc := 0) dX11_number_0 rfl ?_
  refine g_getfield (pc := 1) f_X11_119_11 dX11_number_1 hI.1 mf_5 ?_
  refine g_if_eq (pc := 4) 9 dX11_number_4 (by decide) (fun c_4 => ?_) (fun c_4 => absurd hf c_4)
  refine g_aload_n (pc := 9) dX11_number_9 rfl ?_
  refine m_cVv (pc := 10) (M' := mX11_blanks) (as := []) i_X11_125_11 eX11_blanks hI dX11_number_10 (cP_blanks (by omega) hI hp) (by omega) rfl rfl (Nat.le_of_ble_eq_true rfl) (fun h hI fr => ?_)
  replace hF := mFr.tr hF fr
  replace hp := hp.at hb.2
  refine g_aload_n (pc := 13) dX11_number_13 rfl ?_
  refine g_getfield (pc := 14) f_X11_112_11 dX11_number_14 hI.1 mf_4 ?_
  rw [sv_same]
  refine g_istore_n (pc := 17) (ls' := [_, _, _, _, _]) dX11_number_17 (by decide) rfl rfl ?_
  refine g_iconst (pc := 18) (v := 0) dX11_number_18 (by decide) ?_
  refine g_istore (pc := 19) (ls' := [_, _, _, _, _]) dX11_number_19 (by decide) rfl rfl ?_
  refine g_aload_n (pc := 21) dX11_number_21 rfl ?_
  refine g_aload_n (pc := 22) dX11_number_22 rfl ?_
  refine g_getfield (pc := 23) f_X11_112_11 dX11_number_23 hI.1 mf_4 ?_
  rw [sv_same]
  refine m_cP (pc := 26) (M' := mX11_byteAt) (as := [_]) i_X11_115_11 eX11_byteAt hI dX11_number_26 (cP_byteAt hI hp (by have := hp.2.2; omega)) (by omega) rfl rfl (Nat.le_of_ble_eq_true rfl) ?_
  refine g_cS (pc := 29) (M' := mX11_isDigit) (as := [_]) i_X11_128 eX11_isDigit dX11_number_29 (c_isDigit _) (by omega) rfl rfl (Nat.le_of_ble_eq_true rfl) ?_
  rw [dg_bN (fun q => hp.byte q)]
  refine g_ifB_ne (pc := 32) 44 dX11_number_32 (by decide) (fun c_32 => ?_) (fun c_32 => ?_)
  · refine l_number (by omega) _ _ 0 _ h rfl hp (by decide) hI hF (fun h hI hF => ?_)
    rw [sv_sv] at hI
    have hk : nuK t n lo hi a = if inR (nI (nuE t n a).2) lo hi = true then 0 else 2 := by unfold nuK; rw [if_pos c_32]
    have h5 : sv V 0 4 (nI (nuE t n a).1) 0 5 = 0 := by rw [sv_nj (by decide)]; exact hf
    rw [show nuF t (n - bl t n a) (bl t n a) 0 = nuE t n a from rfl] at hI ⊢
    refine g_iload (pc := 106) dX11_number_106 rfl ?_
    refine g_iload_n (pc := 108) dX11_number_108 rfl ?_
    refine g_iload_n (pc := 109) dX11_number_109 rfl ?_
    refine g_cS (pc := 110) (M' := mX11_in) (as := [_, _, _]) i_X11_137 eX11_in dX11_number_110 (c_in _ _ _) (by omega) rfl rfl (Nat.le_of_ble_eq_true rfl) ?_
    refine g_ifB_ne (pc := 113) 122 dX11_number_113 (by decide) (fun c_113 => ?_) (fun c_113 => ?_)
    · 
      refine g_aload_n (pc := 122) dX11_number_122 rfl ?_
      refine g_getfield (pc := 123) f_X11_119_11 dX11_number_123 hI.1 mf_5 ?_
      refine g_if_ne (pc := 126) 134 dX11_number_126 (by decide) (fun c_126 => ?_) (fun c_126 => ?_)
      · refine g_iconst (pc := 134) (v := 0) dX11_number_134 (by decide) ?_
        refine g_ireturn (pc := 135) dX11_number_135 rfl (by first | exact rfl | exact j_nb _) ?_
        first
          | exact absurd h5 c_126
          | exact absurd c_126 (by rw [sv_nj (by decide), sv_same]; decide)
          | (have hk0 : nuK t n lo hi a = 0 := by rw [hk, if_pos c_113]
             exact ⟨by unfold nuX; rw [if_pos hk0], by unfold nuV; rw [if_pos hk0]; exact hI, hF⟩)
          | (have hk2 : nuK t n lo hi a = 2 := by rw [hk, if_neg (by rw [c_113]; decide)]
             exact ⟨by unfold nuX; rw [hk2]; rfl, by unfold nuV; rw [hk2]; exact hI, hF⟩)
      · refine g_iload (pc := 129) dX11_number_129 rfl ?_
        refine g_goto (pc := 131) 135 dX11_number_131 (by decide) ?_
        refine g_ireturn (pc := 135) dX11_number_135 rfl (by first | exact rfl | exact j_nb _) ?_
        first
          | exact absurd h5 c_126
          | exact absurd c_126 (by rw [sv_nj (by decide), sv_same]; decide)
          | (have hk0 : nuK t n lo hi a = 0 := by rw [hk, if_pos c_113]
             exact ⟨by unfold nuX; rw [if_pos hk0], by unfold nuV; rw [if_pos hk0]; exact hI, hF⟩)
          | (have hk2 : nuK t n lo hi a = 2 := by rw [hk, if_neg (by rw [c_113]; decide)]
             exact ⟨by unfold nuX; rw [hk2]; rfl, by unfold nuV; rw [hk2]; exact hI, hF⟩)
    · refine g_aload_n (pc := 116) dX11_number_116 rfl ?_
      refine g_iconst (pc := 117) (v := 2) dX11_number_117 (by decide) ?_
      refine g_iload_n (pc := 118) dX11_number_118 rfl ?_
      refine m_cVv (pc := 119) (M' := mX11_wrong) (as := [_, _]) i_X11_132_11 eX11_wrong hI dX11_number_119 (c_wrong hI _ _) (by omega) rfl rfl (Nat.le_of_ble_eq_true rfl) (fun h hI fr => ?_)
      replace hF := mFr.tr hF fr
      rw [mWrong_0 h5] at hI
      refine g_aload_n (pc := 122) dX11_number_122 rfl ?_
      refine g_getfield (pc := 123) f_X11_119_11 dX11_number_123 hI.1 mf_5 ?_
      refine g_if_ne (pc := 126) 134 dX11_number_126 (by decide) (fun c_126 => ?_) (fun c_126 => ?_)
      · refine g_iconst (pc := 134) (v := 0) dX11_number_134 (by decide) ?_
        refine g_ireturn (pc := 135) dX11_number_135 rfl (by first | exact rfl | exact j_nb _) ?_
        first
          | exact absurd h5 c_126
          | exact absurd c_126 (by rw [sv_nj (by decide), sv_same]; decide)
          | (have hk0 : nuK t n lo hi a = 0 := by rw [hk, if_pos c_113]
             exact ⟨by unfold nuX; rw [if_pos hk0], by unfold nuV; rw [if_pos hk0]; exact hI, hF⟩)
          | (have hk2 : nuK t n lo hi a = 2 := by rw [hk, if_neg (by rw [c_113]; decide)]
             exact ⟨by unfold nuX; rw [hk2]; rfl, by unfold nuV; rw [hk2]; exact hI, hF⟩)
      · refine g_iload (pc := 129) dX11_number_129 rfl ?_
        refine g_goto (pc := 131) 135 dX11_number_131 (by decide) ?_
        refine g_ireturn (pc := 135) dX11_number_135 rfl (by first | exact rfl | exact j_nb _) ?_
        first
          | exact absurd h5 c_126
          | exact absurd c_126 (by rw [sv_nj (by decide), sv_same]; decide)
          | (have hk0 : nuK t n lo hi a = 0 := by rw [hk, if_pos c_113]
             exact ⟨by unfold nuX; rw [if_pos hk0], by unfold nuV; rw [if_pos hk0]; exact hI, hF⟩)
          | (have hk2 : nuK t n lo hi a = 2 := by rw [hk, if_neg (by rw [c_113]; decide)]
             exact ⟨by unfold nuX; rw [hk2]; rfl, by unfold nuV; rw [hk2]; exact hI, hF⟩)
  · refine g_aload_n (pc := 35) dX11_number_35 rfl ?_
    refine g_iconst (pc := 36) (v := 1) dX11_number_36 (by decide) ?_
    refine g_aload_n (pc := 37) dX11_number_37 rfl ?_
    refine g_getfield (pc := 38) f_X11_112_11 dX11_number_38 hI.1 mf_4 ?_
    rw [sv_same]
    refine m_cVv (pc := 41) (M' := mX11_wrong) (as := [_, _]) i_X11_132_11 eX11_wrong hI dX11_number_41 (c_wrong hI _ _) (by omega) rfl rfl (Nat.le_of_ble_eq_true rfl) (fun h hI fr => ?_)
    replace hF := mFr.tr hF fr
    have h5 : sv V 0 4 (nI (bl t n a)) 0 5 = 0 := by rw [sv_nj (by decide)]; exact hf
    have hk : nuK t n lo hi a = 1 := by unfold nuK; rw [if_neg (by rw [c_32]; decide)]
    rw [mWrong_0 h5] at hI
    replace hp := (hp.out (r := 0) (j := 5) (y := 1) (by decide) (fun _ => by decide)).out (r := 0) (j := 6) (y := nI (bl t n a)) (by decide) (fun _ => by decide)
    refine l_number (by omega) _ _ 0 _ h rfl hp (by decide) hI hF (fun h hI hF => ?_)
    have en : nuF t (n - bl t n a) (bl t n a) 0 = (bl t n a, 0) := nuE_no c_32
    rw [en] at hI ⊢
    have h6 : ¬ sv (sv (sv (sv V 0 4 (nI (bl t n a))) 0 5 1) 0 6 (nI (bl t n a))) 0 4 (nI (bl t n a)) 0 5 = 0 := by rw [sv_nj (by decide), sv_nj (by decide), sv_same]; decide
    have hI : InvM am (nuV V t n lo hi a) h := by
      unfold nuV
      rw [hk, if_neg (by decide), nuE_no c_32]
      rw [sv_cm (V := sv (sv V 0 4 (nI (bl t n a))) 0 5 1) (by decide), sv_cm (V := sv V 0 4 (nI (bl t n a))) (by decide), sv_sv] at hI
      exact hI
    have h7 : ¬ nuV V t n lo hi a 0 5 = 0 := by
      unfold nuV
      rw [hk, if_neg (by decide), sv_nj (by decide), sv_same]
      decide
    refine g_iload (pc := 106) dX11_number_106 rfl ?_
    refine g_iload_n (pc := 108) dX11_number_108 rfl ?_
    refine g_iload_n (pc := 109) dX11_number_109 rfl ?_
    refine g_cS (pc := 110) (M' := mX11_in) (as := [_, _, _]) i_X11_137 eX11_in dX11_number_110 (c_in _ _ _) (by omega) rfl rfl (Nat.le_of_ble_eq_true rfl) ?_
    refine g_ifB_ne (pc := 113) 122 dX11_number_113 (by decide) (fun c_113 => ?_) (fun c_113 => ?_)
    · 
      refine g_aload_n (pc := 122) dX11_number_122 rfl ?_
      refine g_getfield (pc := 123) f_X11_119_11 dX11_number_123 hI.1 mf_5 ?_
      refine g_if_ne (pc := 126) 134 dX11_number_126 (by decide) (fun c_126 => ?_) (fun c_126 => ?_)
      · refine g_iconst (pc := 134) (v := 0) dX11_number_134 (by decide) ?_
        refine g_ireturn (pc := 135) dX11_number_135 rfl (by first | exact rfl | exact j_nb _) ?_
        first
          | exact absurd c_126 h7
          | exact absurd c_126 (by rw [mWrong_1 h7]; exact h7)
          | exact ⟨by unfold nuX; rw [hk]; rfl, hI, hF⟩
      · refine g_iload (pc := 129) dX11_number_129 rfl ?_
        refine g_goto (pc := 131) 135 dX11_number_131 (by decide) ?_
        refine g_ireturn (pc := 135) dX11_number_135 rfl (by first | exact rfl | exact j_nb _) ?_
        first
          | exact absurd c_126 h7
          | exact absurd c_126 (by rw [mWrong_1 h7]; exact h7)
          | exact ⟨by unfold nuX; rw [hk]; rfl, hI, hF⟩
    · refine g_aload_n (pc := 116) dX11_number_116 rfl ?_
      refine g_iconst (pc := 117) (v := 2) dX11_number_117 (by decide) ?_
      refine g_iload_n (pc := 118) dX11_number_118 rfl ?_
      refine m_cVv (pc := 119) (M' := mX11_wrong) (as := [_, _]) i_X11_132_11 eX11_wrong hI dX11_number_119 (c_wrong hI _ _) (by omega) rfl rfl (Nat.le_of_ble_eq_true rfl) (fun h hI fr => ?_)
      replace hF := mFr.tr hF fr
      rw [mWrong_1 h7] at hI
      refine g_aload_n (pc := 122) dX11_number_122 rfl ?_
      refine g_getfield (pc := 123) f_X11_119_11 dX11_number_123 hI.1 mf_5 ?_
      refine g_if_ne (pc := 126) 134 dX11_number_126 (by decide) (fun c_126 => ?_) (fun c_126 => ?_)
      · refine g_iconst (pc := 134) (v := 0) dX11_number_134 (by decide) ?_
        refine g_ireturn (pc := 135) dX11_number_135 rfl (by first | exact rfl | exact j_nb _) ?_
        first
          | exact absurd c_126 h7
          | exact absurd c_126 (by rw [mWrong_1 h7]; exact h7)
          | exact ⟨by unfold nuX; rw [hk]; rfl, hI, hF⟩
      · refine g_iload (pc := 129) dX11_number_129 rfl ?_
        refine g_goto (pc := 131) 135 dX11_number_131 (by decide) ?_
        refine g_ireturn (pc := 135) dX11_number_135 rfl (by first | exact rfl | exact j_nb _) ?_
        first
          | exact absurd c_126 h7
          | exact absurd c_126 (by rw [mWrong_1 h7]; exact h7)
          | exact ⟨by unfold nuX; rw [hk]; rfl, hI, hF⟩
def wlF (t : Nat → Nat) : Nat → Nat → Nat
  | 0, _ => 0
  | m + 1, a => if 97 ≤ t a ∧ t a ≤ 122 then wlF t m (a + 1) + 1 else 0
def wl (t : Nat → Nat) (n a : Nat) : Nat := wlF t (n - a) a
def wv (t : Nat → Nat) (a : Nat) : Nat → Nat
  | 0 => 0
  | k + 1 => 27 * wv t a k + (t (a + k) - 96)
theorem wlF_le (t : Nat → Nat) : ∀ m a, wlF t m a ≤ m
  | 0, _ => Nat.le_refl _
  | m + 1, a => by
    unfold wlF
    have := wlF_le t m (a + 1)
    by_cases q : 97 ≤ t a ∧ t a ≤ 122
    · rw [if_pos q]; omega
    · rw [if_neg q]; omega
theorem wl_le : a + wl t n a ≤ max a n := by
  have := wlF_le t (n - a) a
  unfold wl
  omega
theorem w_step {v c : Nat} (hc : 97 ≤ c) : (27 : Int32) * nI v + nI c - 97 + 1 = nI (27 * v + (c - 96)) := by
  rw [show (27 : Int32) = nI 27 from rfl, show (97 : Int32) = nI 97 from rfl, pk_mul, nI_add, pk_sub (by omega), nI_1]
  congr 1
  omega
set_option maxHeartbeats 2000000 in
theorem l_X11_wordHere {bc bs : Nat} {Q : jR → jH → Prop} (hd : 1 ≤ d) (hI : InvM am V h) (hp : PS V t n a) : ∀ (m k : Nat), n - (a + k) = m → k ≤ 600 → G E d bc bs mX11_wordHere 61 [some (vR (nMo am)), some (vI (nI (wv t a (min (k + wlF t m (a + k)) 6)))), some (vI (nI (k + wlF t m (a + k))))] [] h Q → G E d bc bs mX11_wordHere 8 [some (vR (nMo am)), some (vI (nI (wv t a (min k 6)))), some (vI (nI k))] [] h Q := by
  intro m
  induction m with
  | zero =>
    intro k hm hk kk
    refine g_aload_n (pc := 8) dX11_wordHere_8 rfl ?_
    refine g_aload_n (pc := 9) dX11_wordHere_9 rfl ?_
    refine g_getfield (pc := 10) f_X11_112_11 dX11_wordHere_10 hI.1 mf_4 ?_
    refine g_iload_n (pc := 13) dX11_wordHere_13 rfl ?_
    rw [hp.2.2.2.1]
    refine g_iadd (pc := 14) dX11_wordHere_14 ?_
    rw [nI_add]
    refine m_cP (pc := 15) (M' := mX11_byteAt) (as := [_]) i_X11_115_11 eX11_byteAt hI dX11_wordHere_15 (cP_byteAt hI hp (by have := hp.2.2; omega)) (by omega) rfl rfl (Nat.le_of_ble_eq_true rfl) ?_
    refine g_cS (pc := 18) (M' := mX11_isSmall) (as := [_]) i_X11_141 eX11_isSmall dX11_wordHere_18 (c_isSmall _) (by omega) rfl rfl (Nat.le_of_ble_eq_true rfl) ?_
    refine g_ifB_eq (pc := 21) 61 dX11_wordHere_21 (by decide) (fun c_21 => ?_) (fun c_21 => absurd c_21 (by rw [sm_bN (fun q => hp.byte q)]; unfold isL; simp; omega))
    exact kk
  | succ m ih =>
    intro k hm hk kk
    refine g_aload_n (pc := 8) dX11_wordHere_8 rfl ?_
    refine g_aload_n (pc := 9) dX11_wordHere_9 rfl ?_
    refine g_getfield (pc := 10) f_X11_112_11 dX11_wordHere_10 hI.1 mf_4 ?_
    refine g_iload_n (pc := 13) dX11_wordHere_13 rfl ?_
    rw [hp.2.2.2.1]
    refine g_iadd (pc := 14) dX11_wordHere_14 ?_
    rw [nI_add]
    refine m_cP (pc := 15) (M' := mX11_byteAt) (as := [_]) i_X11_115_11 eX11_byteAt hI dX11_wordHere_15 (cP_byteAt hI hp (by have := hp.2.2; omega)) (by omega) rfl rfl (Nat.le_of_ble_eq_true rfl) ?_
    refine g_cS (pc := 18) (M' := mX11_isSmall) (as := [_]) i_X11_141 eX11_isSmall dX11_wordHere_18 (c_isSmall _) (by omega) rfl rfl (Nat.le_of_ble_eq_true rfl) ?_
    refine g_ifB_eq (pc := 21) 61 dX11_wordHere_21 (by decide) (fun c_21 => ?_) (fun c_21 => ?_)
    · have q := c_21
      rw [sm_bN (fun q => hp.byte q)] at q
      have ew : wlF t (m + 1) (a + k) = 0 := by
        show (if _ then _ else _) = _
        rw [if_neg]
        intro w
        have : isL t n (a + k) = true := decide_eq_true ⟨by omega, w⟩
        rw [this] at q
        cases q
      rw [ew] at kk
      exact kk
    · have q := c_21
      rw [sm_bN (fun q => hp.byte q)] at q
      have q' : a + k < n ∧ 97 ≤ t (a + k) ∧ t (a + k) ≤ 122 := by simpa [isL] using q
      have hn6 := hp.2.2.1
      have ew : wlF t (m + 1) (a + k) = wlF t m (a + k + 1) + 1 := by
        show (if _ then _ else _) = _
        rw [if_pos q'.2]
      rw [ew, show k + (wlF t m (a + k + 1) + 1) = (k + 1) + wlF t m (a + (k + 1)) by rw [Nat.add_assoc a k 1]; omega] at kk
      refine g_iload_n (pc := 24) dX11_wordHere_24 rfl ?_
      refine g_bipush (pc := 25) (v := 6) dX11_wordHere_25 (by decide) ?_
      refine g_icmp_ge (pc := 27) 53 dX11_wordHere_27 (by decide) (fun c_27 => ?_) (fun c_27 => ?_)
      · have k6 : ¬ k < 6 := fun w => k2_nle (nI_lt (b := 6) w (by decide)) c_27
        rw [show min k 6 = min (k + 1) 6 by omega]
        refine g_iload_n (pc := 53) dX11_wordHere_53 rfl ?_
        refine g_istore_n (pc := 54) (ls' := [_, _, _]) dX11_wordHere_54 (by decide) rfl rfl ?_
        refine g_iinc (pc := 55) (ls' := [_, _, _]) dX11_wordHere_55 rfl (by first | exact nI_1 _ | exact rfl) (by decide) rfl rfl ?_
        refine g_goto (pc := 58) 8 dX11_wordHere_58 (by decide) ?_
        exact ih (k + 1) (by omega) (by omega) kk
      · refine g_bipush (pc := 30) (v := 27) dX11_wordHere_30 (by decide) ?_
        refine g_iload_n (pc := 32) dX11_wordHere_32 rfl ?_
        refine g_imul (pc := 33) dX11_wordHere_33 ?_
        refine g_aload_n (pc := 34) dX11_wordHere_34 rfl ?_
        refine g_aload_n (pc := 35) dX11_wordHere_35 rfl ?_
        refine g_getfield (pc := 36) f_X11_112_11 dX11_wordHere_36 hI.1 mf_4 ?_
        refine g_iload_n (pc := 39) dX11_wordHere_39 rfl ?_
        rw [hp.2.2.2.1]
        refine g_iadd (pc := 40) dX11_wordHere_40 ?_
        rw [nI_add]
        refine m_cP (pc := 41) (M' := mX11_byteAt) (as := [_]) i_X11_115_11 eX11_byteAt hI dX11_wordHere_41 (cP_byteAt hI hp (by have := hp.2.2; omega)) (by omega) rfl rfl (Nat.le_of_ble_eq_true rfl) ?_
        rw [show bN t n (a + k) = nI (t (a + k)) by unfold bN; rw [if_pos q'.1]]
        refine g_iadd (pc := 44) dX11_wordHere_44 ?_
        refine g_bipush (pc := 45) (v := 97) dX11_wordHere_45 (by decide) ?_
        refine g_isub (pc := 47) dX11_wordHere_47 ?_
        refine g_iconst (pc := 48) (v := 1) dX11_wordHere_48 (by decide) ?_
        refine g_iadd (pc := 49) dX11_wordHere_49 ?_
        rw [w_step q'.2.1]
        have k6 : k < 6 := (nI_ltI (b := 6) (by omega) (by decide)).mp (k2_lt c_27)
        rw [show min k 6 = k by omega, show 27 * wv t a k + (t (a + k) - 96) = wv t a (min (k + 1) 6) by rw [show min (k + 1) 6 = k + 1 by omega]; rfl]
        refine g_goto (pc := 50) 54 dX11_wordHere_50 (by decide) ?_
        refine g_istore_n (pc := 54) (ls' := [_, _, _]) dX11_wordHere_54 (by decide) rfl rfl ?_
        refine g_iinc (pc := 55) (ls' := [_, _, _]) dX11_wordHere_55 rfl (by first | exact nI_1 _ | exact rfl) (by decide) rfl rfl ?_
        refine g_goto (pc := 58) 8 dX11_wordHere_58 (by decide) ?_
        exact ih (k + 1) (by omega) (by omega) kk
set_option maxHeartbeats 2000000 in
theorem l_X11_isPilgrim {bc bs : Nat} {Q : jR → jH → Prop} (hd : 1 ≤ d) (hI : InvM am V h) (hp : PS V t n a) : ∀ (m k : Nat), n - (a + k) = m → k ≤ 600 → G E d bc bs mX11_isPilgrim 61 [some (vR (nMo am)), some (vI (nI (wv t a (min (k + wlF t m (a + k)) 6)))), some (vI (nI (k + wlF t m (a + k))))] [] h Q → G E d bc bs mX11_isPilgrim 8 [some (vR (nMo am)), some (vI (nI (wv t a (min k 6)))), some (vI (nI k))] [] h Q := by
  intro m
  induction m with
  | zero =>
    intro k hm hk kk
    refine g_aload_n (pc := 8) dX11_isPilgrim_8 rfl ?_
    refine g_aload_n (pc := 9) dX11_isPilgrim_9 rfl ?_
    refine g_getfield (pc := 10) f_X11_112_11 dX11_isPilgrim_10 hI.1 mf_4 ?_
    refine g_iload_n (pc := 13) dX11_isPilgrim_13 rfl ?_
    rw [hp.2.2.2.1]
    refine g_iadd (pc := 14) dX11_isPilgrim_14 ?_
    rw [nI_add]
    refine m_cP (pc := 15) (M' := mX11_byteAt) (as := [_]) i_X11_115_11 eX11_byteAt hI dX11_isPilgrim_15 (cP_byteAt hI hp (by have := hp.2.2; omega)) (by omega) rfl rfl (Nat.le_of_ble_eq_true rfl) ?_
    refine g_cS (pc := 18) (M' := mX11_isSmall) (as := [_]) i_X11_141 eX11_isSmall dX11_isPilgrim_18 (c_isSmall _) (by omega) rfl rfl (Nat.le_of_ble_eq_true rfl) ?_
    refine g_ifB_eq (pc := 21) 61 dX11_isPilgrim_21 (by decide) (fun c_21 => ?_) (fun c_21 => absurd c_21 (by rw [sm_bN (fun q => hp.byte q)]; unfold isL; simp; omega))
    exact kk
  | succ m ih =>
    intro k hm hk kk
    refine g_aload_n (pc := 8) dX11_isPilgrim_8 rfl ?_
    refine g_aload_n (pc := 9) dX11_isPilgrim_9 rfl ?_
    refine g_getfield (pc := 10) f_X11_112_11 dX11_isPilgrim_10 hI.1 mf_4 ?_
    refine g_iload_n (pc := 13) dX11_isPilgrim_13 rfl ?_
    rw [hp.2.2.2.1]
    refine g_iadd (pc := 14) dX11_isPilgrim_14 ?_
    rw [nI_add]
    refine m_cP (pc := 15) (M' := mX11_byteAt) (as := [_]) i_X11_115_11 eX11_byteAt hI dX11_isPilgrim_15 (cP_byteAt hI hp (by have := hp.2.2; omega)) (by omega) rfl rfl (Nat.le_of_ble_eq_true rfl) ?_
    refine g_cS (pc := 18) (M' := mX11_isSmall) (as := [_]) i_X11_141 eX11_isSmall dX11_isPilgrim_18 (c_isSmall _) (by omega) rfl rfl (Nat.le_of_ble_eq_true rfl) ?_
    refine g_ifB_eq (pc := 21) 61 dX11_isPilgrim_21 (by decide) (fun c_21 => ?_) (fun c_21 => ?_)
    · have q := c_21
      rw [sm_bN (fun q => hp.byte q)] at q
      have ew : wlF t (m + 1) (a + k) = 0 := by
        show (if _ then _ else _) = _
        rw [if_neg]
        intro w
        have : isL t n (a + k) = true := decide_eq_true ⟨by omega, w⟩
        rw [this] at q
        cases q
      rw [ew] at kk
      exact kk
    · have q := c_21
      rw [sm_bN (fun q => hp.byte q)] at q
      have q' : a + k < n ∧ 97 ≤ t (a + k) ∧ t (a + k) ≤ 122 := by simpa [isL] using q
      have hn6 := hp.2.2.1
      have ew : wlF t (m + 1) (a + k) = wlF t m (a + k + 1) + 1 := by
        show (if _ then _ else _) = _
        rw [if_pos q'.2]
      rw [ew, show k + (wlF t m (a + k + 1) + 1) = (k + 1) + wlF t m (a + (k + 1)) by rw [Nat.add_assoc a k 1]; omega] at kk
      refine g_iload_n (pc := 24) dX11_isPilgrim_24 rfl ?_
      refine g_bipush (pc := 25) (v := 6) dX11_isPilgrim_25 (by decide) ?_
      refine g_icmp_ge (pc := 27) 53 dX11_isPilgrim_27 (by decide) (fun c_27 => ?_) (fun c_27 => ?_)
      · have k6 : ¬ k < 6 := fun w => k2_nle (nI_lt (b := 6) w (by decide)) c_27
        rw [show min k 6 = min (k + 1) 6 by omega]
        refine g_iload_n (pc := 53) dX11_isPilgrim_53 rfl ?_
        refine g_istore_n (pc := 54) (ls' := [_, _, _]) dX11_isPilgrim_54 (by decide) rfl rfl ?_
        refine g_iinc (pc := 55) (ls' := [_, _, _]) dX11_isPilgrim_55 rfl (by first | exact nI_1 _ | exact rfl) (by decide) rfl rfl ?_
        refine g_goto (pc := 58) 8 dX11_isPilgrim_58 (by decide) ?_
        exact ih (k + 1) (by omega) (by omega) kk
      · refine g_bipush (pc := 30) (v := 27) dX11_isPilgrim_30 (by decide) ?_
        refine g_iload_n (pc := 32) dX11_isPilgrim_32 rfl ?_
        refine g_imul (pc := 33) dX11_isPilgrim_33 ?_
        refine g_aload_n (pc := 34) dX11_isPilgrim_34 rfl ?_
        refine g_aload_n (pc := 35) dX11_isPilgrim_35 rfl ?_
        refine g_getfield (pc := 36) f_X11_112_11 dX11_isPilgrim_36 hI.1 mf_4 ?_
        refine g_iload_n (pc := 39) dX11_isPilgrim_39 rfl ?_
        rw [hp.2.2.2.1]
        refine g_iadd (pc := 40) dX11_isPilgrim_40 ?_
        rw [nI_add]
        refine m_cP (pc := 41) (M' := mX11_byteAt) (as := [_]) i_X11_115_11 eX11_byteAt hI dX11_isPilgrim_41 (cP_byteAt hI hp (by have := hp.2.2; omega)) (by omega) rfl rfl (Nat.le_of_ble_eq_true rfl) ?_
        rw [show bN t n (a + k) = nI (t (a + k)) by unfold bN; rw [if_pos q'.1]]
        refine g_iadd (pc := 44) dX11_isPilgrim_44 ?_
        refine g_bipush (pc := 45) (v := 97) dX11_isPilgrim_45 (by decide) ?_
        refine g_isub (pc := 47) dX11_isPilgrim_47 ?_
        refine g_iconst (pc := 48) (v := 1) dX11_isPilgrim_48 (by decide) ?_
        refine g_iadd (pc := 49) dX11_isPilgrim_49 ?_
        rw [w_step q'.2.1]
        have k6 : k < 6 := (nI_ltI (b := 6) (by omega) (by decide)).mp (k2_lt c_27)
        rw [show min k 6 = k by omega, show 27 * wv t a k + (t (a + k) - 96) = wv t a (min (k + 1) 6) by rw [show min (k + 1) 6 = k + 1 by omega]; rfl]
        refine g_goto (pc := 50) 54 dX11_isPilgrim_50 (by decide) ?_
        refine g_istore_n (pc := 54) (ls' := [_, _, _]) dX11_isPilgrim_54 (by decide) rfl rfl ?_
        refine g_iinc (pc := 55) (ls' := [_, _, _]) dX11_isPilgrim_55 rfl (by first | exact nI_1 _ | exact rfl) (by decide) rfl rfl ?_
        refine g_goto (pc := 58) 8 dX11_isPilgrim_58 (by decide) ?_
        exact ih (k + 1) (by omega) (by omega) kk
def wH (t : Nat → Nat) (n a : Nat) : Int32 := if wl t n a ≤ 6 then nI (wv t a (wl t n a)) else -1
set_option maxHeartbeats 2000000 in
theorem c_wordHere (hd : 2 ≤ d) (hI : InvM am V h) (hp : PS V t n a) : Ct E d 0 0 mX11_wordHere [vR (nMo am)] h (mQ am (sv V 0 4 (nI (bl t n a))) h (some (vI (wH t n (bl t n a))))) := by
  refine ct_of (by decide) (Nat.le_of_ble_eq_true rfl) rfl ?_
  have hF : mFr h h := mFr.rf
  have hb := bl_le (t := t) hp.2.2.2.2
  refine g_aload_n (pc := 0) dX11_wordHere_0 rfl ?_
  refine m_cVv (pc := 1) (M' := mX11_blanks) (as := []) i_X11_125_11 eX11_blanks hI dX11_wordHere_1 (cP_blanks (by omega) hI hp) (by omega) rfl rfl (Nat.le_of_ble_eq_true rfl) (fun h hI fr => ?_)
  replace hF := mFr.tr hF fr
  replace hp := hp.at hb.2
  refine g_iconst (pc := 4) (v := 0) dX11_wordHere_4 (by decide) ?_
  refine g_istore_n (pc := 5) (ls' := [_, _, _]) dX11_wordHere_5 (by decide) rfl rfl ?_
  refine g_iconst (pc := 6) (v := 0) dX11_wordHere_6 (by decide) ?_
  refine g_istore_n (pc := 7) (ls' := [_, _, _]) dX11_wordHere_7 (by decide) rfl rfl ?_
  refine l_X11_wordHere (by omega) hI hp _ 0 rfl (by decide) ?_
  rw [Nat.zero_add, show wlF t (n - (bl t n a + 0)) (bl t n a + 0) = wl t n (bl t n a) from rfl]
  have hw := wl_le (t := t) (n := n) (a := bl t n a)
  have hn6 := hp.2.2.1
  refine g_iload_n (pc := 61) dX11_wordHere_61 rfl ?_
  refine g_bipush (pc := 62) (v := 6) dX11_wordHere_62 (by decide) ?_
  refine g_icmp_le (pc := 64) 71 dX11_wordHere_64 (by decide) (fun c_64 => ?_) (fun c_64 => ?_)
  · refine g_iload_n (pc := 71) dX11_wordHere_71 rfl ?_
    refine g_ireturn (pc := 72) dX11_wordHere_72 rfl (by first | exact rfl | exact j_nb _) ?_
    first
      | (have q : wl t n (bl t n a) ≤ 6 := (nI_leI (b := 6) (by omega) (by decide)).mp c_64
         exact ⟨by unfold wH; rw [if_pos q, show min (wl t n (bl t n a)) 6 = wl t n (bl t n a) by omega], hI, hF⟩)
      | (have q : ¬ wl t n (bl t n a) ≤ 6 := fun w => c_64 (nI_le (b := 6) w (by decide))
         exact ⟨by unfold wH; rw [if_neg q], hI, hF⟩)
  · refine g_iconst (pc := 67) (v := -1) dX11_wordHere_67 (by decide) ?_
    refine g_goto (pc := 68) 72 dX11_wordHere_68 (by decide) ?_
    refine g_ireturn (pc := 72) dX11_wordHere_72 rfl (by first | exact rfl | exact j_nb _) ?_
    first
      | (have q : wl t n (bl t n a) ≤ 6 := (nI_leI (b := 6) (by omega) (by decide)).mp c_64
         exact ⟨by unfold wH; rw [if_pos q, show min (wl t n (bl t n a)) 6 = wl t n (bl t n a) by omega], hI, hF⟩)
      | (have q : ¬ wl t n (bl t n a) ≤ 6 := fun w => c_64 (nI_le (b := 6) w (by decide))
         exact ⟨by unfold wH; rw [if_neg q], hI, hF⟩)
theorem c_isWord (hd : 3 ≤ d) (hI : InvM am V h) (hp : PS V t n a) (hf : V 0 5 = 0) (w1 w2 w3 w4 w5 w6 : Int32) : Ct E d 0 0 mX11_isWord [vR (nMo am), vI w1, vI w2, vI w3, vI w4, vI w5, vI w6] h (mQ am (sv V 0 4 (nI (bl t n a))) h (some (vI (bI (decide (wH t n (bl t n a) = sixI w1 w2 w3 w4 w5 w6)))))) := by
  refine ct_of (by decide) (Nat.le_of_ble_eq_true rfl) rfl ?_
  have hF : mFr h h := mFr.rf
  refine g_aload_n (pc := 0) dX11_isWord_0 rfl ?_
  refine g_getfield (pc := 1) f_X11_119_11 dX11_isWord_1 hI.1 mf_5 ?_
  refine g_if_ne (pc := 4) 30 dX11_isWord_4 (by decide) (fun c_4 => absurd hf c_4) (fun c_4 => ?_)
  refine g_aload_n (pc := 7) dX11_isWord_7 rfl ?_
  refine m_cV (pc := 8) (M' := mX11_wordHere) (as := []) i_X11_144_11 eX11_wordHere hI dX11_isWord_8 (c_wordHere (by omega) hI hp) (by omega) rfl rfl (Nat.le_of_ble_eq_true rfl) (fun h hI fr => ?_)
  replace hF := mFr.tr hF fr
  refine g_iload_n (pc := 11) dX11_isWord_11 rfl ?_
  refine g_iload_n (pc := 12) dX11_isWord_12 rfl ?_
  refine g_iload_n (pc := 13) dX11_isWord_13 rfl ?_
  refine g_iload (pc := 14) dX11_isWord_14 rfl ?_
  refine g_iload (pc := 16) dX11_isWord_16 rfl ?_
  refine g_iload (pc := 18) dX11_isWord_18 rfl ?_
  refine g_cS (pc := 20) (M' := mX11_six) (as := [_, _, _, _, _, _]) i_X11_148 eX11_six dX11_isWord_20 (c_six _ _ _ _ _ _) (by omega) rfl rfl (Nat.le_of_ble_eq_true rfl) ?_
  refine g_icmp_ne (pc := 23) 30 dX11_isWord_23 (by decide) (fun c_23 => ?_) (fun c_23 => ?_)
  · refine g_iconst (pc := 30) (v := 0) dX11_isWord_30 (by decide) ?_
    refine g_ireturn (pc := 31) dX11_isWord_31 rfl (by first | exact rfl | exact j_nb _) ?_
    exact ⟨by simp [bI, c_23], hI, hF⟩
  · refine g_iconst (pc := 26) (v := 1) dX11_isWord_26 (by decide) ?_
    refine g_goto (pc := 27) 31 dX11_isWord_27 (by decide) ?_
    refine g_ireturn (pc := 31) dX11_isWord_31 rfl (by first | exact rfl | exact j_nb _) ?_
    exact ⟨by simp [bI, c_23], hI, hF⟩
theorem c_isWord1 (hI : InvM am V h) (hf : ¬ V 0 5 = 0) (w1 w2 w3 w4 w5 w6 : Int32) : Ct E d 0 0 mX11_isWord [vR (nMo am), vI w1, vI w2, vI w3, vI w4, vI w5, vI w6] h (qR (some (vI (bI false))) h) := by
  refine ct_of (by decide) (Nat.le_of_ble_eq_true rfl) rfl ?_
  refine g_aload_n (pc := 0) dX11_isWord_0 rfl ?_
  refine g_getfield (pc := 1) f_X11_119_11 dX11_isWord_1 hI.1 mf_5 ?_
  refine g_if_ne (pc := 4) 30 dX11_isWord_4 (by decide) (fun c_4 => ?_) (fun c_4 => absurd c_4 hf)
  refine g_iconst (pc := 30) (v := 0) dX11_isWord_30 (by decide) ?_
  refine g_ireturn (pc := 31) dX11_isWord_31 rfl (by first | exact rfl | exact j_nb _) ?_
  exact ⟨rfl, rfl⟩
theorem l_skip {h0 : jH} {bc bs : Nat} (hd : 1 ≤ d) : ∀ (m a : Nat) (V : mV) (h : jH), n - a = m → PS V t n a → InvM am V h → mFr h0 h → G E d bc bs mX11_skipWord 0 [some (vR (nMo am))] [] h (mQ am (sv V 0 4 (nI (a + wlF t m a))) h0 none) := by
  intro m
  induction m with
  | zero =>
    intro a V h hm hp hI hF
    refine g_aload_n (pc := 0) dX11_skipWord_0 rfl ?_
    refine g_aload_n (pc := 1) dX11_skipWord_1 rfl ?_
    refine g_getfield (pc := 2) f_X11_112_11 dX11_skipWord_2 hI.1 mf_4 ?_
    rw [hp.2.2.2.1]
    refine m_cP (pc := 5) (M' := mX11_byteAt) (as := [_]) i_X11_115_11 eX11_byteAt hI dX11_skipWord_5 (cP_byteAt hI hp (by have := hp.2.2; omega)) (by omega) rfl rfl (Nat.le_of_ble_eq_true rfl) ?_
    refine g_cS (pc := 8) (M' := mX11_isSmall) (as := [_]) i_X11_141 eX11_isSmall dX11_skipWord_8 (c_isSmall _) (by omega) rfl rfl (Nat.le_of_ble_eq_true rfl) ?_
    refine g_ifB_eq (pc := 11) 27 dX11_skipWord_11 (by decide) (fun c_11 => ?_) (fun c_11 => absurd c_11 (by rw [sm_bN (fun q => hp.byte q)]; unfold isL; simp; omega))
    refine g_return (pc := 27) dX11_skipWord_27 rfl ?_
    refine ⟨rfl, ?_, hF⟩
    show InvM am (sv V 0 4 (nI a)) h
    rw [← hp.2.2.2.1, sv_self]
    exact hI
  | succ m ih =>
    intro a V h hm hp hI hF
    refine g_aload_n (pc := 0) dX11_skipWord_0 rfl ?_
    refine g_aload_n (pc := 1) dX11_skipWord_1 rfl ?_
    refine g_getfield (pc := 2) f_X11_112_11 dX11_skipWord_2 hI.1 mf_4 ?_
    rw [hp.2.2.2.1]
    refine m_cP (pc := 5) (M' := mX11_byteAt) (as := [_]) i_X11_115_11 eX11_byteAt hI dX11_skipWord_5 (cP_byteAt hI hp (by have := hp.2.2; omega)) (by omega) rfl rfl (Nat.le_of_ble_eq_true rfl) ?_
    refine g_cS (pc := 8) (M' := mX11_isSmall) (as := [_]) i_X11_141 eX11_isSmall dX11_skipWord_8 (c_isSmall _) (by omega) rfl rfl (Nat.le_of_ble_eq_true rfl) ?_
    refine g_ifB_eq (pc := 11) 27 dX11_skipWord_11 (by decide) (fun c_11 => ?_) (fun c_11 => ?_)
    · refine g_return (pc := 27) dX11_skipWord_27 rfl ?_
      refine ⟨rfl, ?_, hF⟩
      have q := c_11
      rw [sm_bN (fun q => hp.byte q)] at q
      have ew : wlF t (m + 1) a = 0 := by
        show (if _ then _ else _) = _
        rw [if_neg]
        intro w
        have : isL t n a = true := decide_eq_true ⟨by omega, w⟩
        rw [this] at q
        cases q
      rw [ew, Nat.add_zero, ← hp.2.2.2.1, sv_self]
      exact hI
    · have q := c_11
      rw [sm_bN (fun q => hp.byte q)] at q
      have q' : a < n ∧ 97 ≤ t a ∧ t a ≤ 122 := by simpa [isL] using q
      refine g_aload_n (pc := 14) dX11_skipWord_14 rfl ?_
      refine g_dup (pc := 15) dX11_skipWord_15 rfl ?_
      refine g_getfield (pc := 16) f_X11_112_11 dX11_skipWord_16 hI.1 mf_4 ?_
      refine g_iconst (pc := 19) (v := 1) dX11_skipWord_19 (by decide) ?_
      refine g_iadd (pc := 20) dX11_skipWord_20 ?_
      refine m_put (pc := 21) hI w_X11_112_11 rfl (by decide) dX11_skipWord_21 (fun h hI fr => ?_)
      replace hF := mFr.tr hF fr
      refine g_goto (pc := 24) 0 dX11_skipWord_24 (by decide) ?_
      have hV := ih (a + 1) _ h (by omega) ⟨hp.1.sv (by decide), by rw [sv_nj (by decide)]; exact hp.2.1, hp.2.2.1, by rw [sv_same, hp.2.2.2.1]; exact nI_1 a, by omega⟩ hI hF
      rw [sv_sv] at hV
      rw [show a + wlF t (m + 1) a = a + 1 + wlF t m (a + 1) by rw [show wlF t (m + 1) a = wlF t m (a + 1) + 1 by show (if _ then _ else _) = _; rw [if_pos q'.2]]; omega]
      exact hV
theorem c_skipWord (hd : 1 ≤ d) (hI : InvM am V h) (hp : PS V t n a) : Ct E d 0 0 mX11_skipWord [vR (nMo am)] h (mQ am (sv V 0 4 (nI (a + wl t n a))) h none) := ct_of (by decide) (Nat.le_of_ble_eq_true rfl) rfl (l_skip hd (n - a) a V h rfl hp hI mFr.rf)
/-- what stands at the next place that is no blank -/
def sgI (t : Nat → Nat) (n a : Nat) : Int32 := bN t n (bl t n a)
theorem c_sign (hd : 2 ≤ d) (hI : InvM am V h) (hp : PS V t n a) (hf : V 0 5 = 0) (c : Int32) : Ct E d 0 0 mX11_sign [vR (nMo am), vI c] h (mQ am (if sgI t n a = c then sv V 0 4 (nI (bl t n a + 1)) else sv (sv (sv V 0 4 (nI (bl t n a))) 0 5 1) 0 6 (nI (bl t n a))) h none) := by
  refine ct_of (by decide) (Nat.le_of_ble_eq_true rfl) rfl ?_
  have hF : mFr h h := mFr.rf
  have hb := bl_le (t := t) hp.2.2.2.2
  refine g_aload_n (pc := 0) dX11_sign_0 rfl ?_
  refine g_getfield (pc := 1) f_X11_119_11 dX11_sign_1 hI.1 mf_5 ?_
  refine g_if_eq (pc := 4) 8 dX11_sign_4 (by decide) (fun c_4 => ?_) (fun c_4 => absurd hf c_4)
  refine g_aload_n (pc := 8) dX11_sign_8 rfl ?_
  refine m_cVv (pc := 9) (M' := mX11_blanks) (as := []) i_X11_125_11 eX11_blanks hI dX11_sign_9 (cP_blanks (by omega) hI hp) (by omega) rfl rfl (Nat.le_of_ble_eq_true rfl) (fun h hI fr => ?_)
  replace hF := mFr.tr hF fr
  replace hp := hp.at hb.2
  refine g_aload_n (pc := 12) dX11_sign_12 rfl ?_
  refine g_aload_n (pc := 13) dX11_sign_13 rfl ?_
  refine g_getfield (pc := 14) f_X11_112_11 dX11_sign_14 hI.1 mf_4 ?_
  rw [sv_same]
  refine m_cP (pc := 17) (M' := mX11_byteAt) (as := [_]) i_X11_115_11 eX11_byteAt hI dX11_sign_17 (cP_byteAt hI hp (by have := hp.2.2; omega)) (by omega) rfl rfl (Nat.le_of_ble_eq_true rfl) ?_
  refine g_iload_n (pc := 20) dX11_sign_20 rfl ?_
  refine g_icmp_ne (pc := 21) 37 dX11_sign_21 (by decide) (fun c_21 => ?_) (fun c_21 => ?_)
  · refine g_aload_n (pc := 37) dX11_sign_37 rfl ?_
    refine g_iconst (pc := 38) (v := 1) dX11_sign_38 (by decide) ?_
    refine g_aload_n (pc := 39) dX11_sign_39 rfl ?_
    refine g_getfield (pc := 40) f_X11_112_11 dX11_sign_40 hI.1 mf_4 ?_
    rw [sv_same]
    refine m_cVv (pc := 43) (M' := mX11_wrong) (as := [_, _]) i_X11_132_11 eX11_wrong hI dX11_sign_43 (c_wrong hI _ _) (by omega) rfl rfl (Nat.le_of_ble_eq_true rfl) (fun h hI fr => ?_)
    replace hF := mFr.tr hF fr
    refine g_return (pc := 46) dX11_sign_46 rfl ?_
    refine ⟨rfl, ?_, hF⟩
    first
      | (rw [if_pos (show sgI t n a = c from c_21)]; rw [sv_sv, nI_1] at hI; exact hI)
      | (rw [if_neg (show ¬ sgI t n a = c from c_21)]; rw [mWrong_0 (by rw [sv_nj (by decide)]; exact hf)] at hI; exact hI)
  · refine g_aload_n (pc := 24) dX11_sign_24 rfl ?_
    refine g_dup (pc := 25) dX11_sign_25 rfl ?_
    refine g_getfield (pc := 26) f_X11_112_11 dX11_sign_26 hI.1 mf_4 ?_
    rw [sv_same]
    refine g_iconst (pc := 29) (v := 1) dX11_sign_29 (by decide) ?_
    refine g_iadd (pc := 30) dX11_sign_30 ?_
    refine m_put (pc := 31) hI w_X11_112_11 rfl (by decide) dX11_sign_31 (fun h hI fr => ?_)
    replace hF := mFr.tr hF fr
    refine g_goto (pc := 34) 46 dX11_sign_34 (by decide) ?_
    refine g_return (pc := 46) dX11_sign_46 rfl ?_
    refine ⟨rfl, ?_, hF⟩
    first
      | (rw [if_pos (show sgI t n a = c from c_21)]; rw [sv_sv, nI_1] at hI; exact hI)
      | (rw [if_neg (show ¬ sgI t n a = c from c_21)]; rw [mWrong_0 (by rw [sv_nj (by decide)]; exact hf)] at hI; exact hI)
theorem c_sign1 (hI : InvM am V h) (hf : ¬ V 0 5 = 0) (c : Int32) : Ct E d 0 0 mX11_sign [vR (nMo am), vI c] h (mQ am V h none) := by
  refine ct_of (by decide) (Nat.le_of_ble_eq_true rfl) rfl ?_
  have hF : mFr h h := mFr.rf
  refine g_aload_n (pc := 0) dX11_sign_0 rfl ?_
  refine g_getfield (pc := 1) f_X11_119_11 dX11_sign_1 hI.1 mf_5 ?_
  refine g_if_eq (pc := 4) 8 dX11_sign_4 (by decide) (fun c_4 => absurd c_4 hf) (fun c_4 => ?_)
  refine g_return (pc := 7) dX11_sign_7 rfl ?_
  exact ⟨rfl, hI, hF⟩
theorem c_takesSign (hd : 2 ≤ d) (hI : InvM am V h) (hp : PS V t n a) (hf : V 0 5 = 0) (c : Int32) : Ct E d 0 0 mX11_takesSign [vR (nMo am), vI c] h (mQ am (if sgI t n a = c then sv V 0 4 (nI (bl t n a + 1)) else sv V 0 4 (nI (bl t n a))) h (some (vI (bI (decide (sgI t n a = c)))))) := by
  refine ct_of (by decide) (Nat.le_of_ble_eq_true rfl) rfl ?_
  have hF : mFr h h := mFr.rf
  have hb := bl_le (t := t) hp.2.2.2.2
  refine g_aload_n (pc := 0) dX11_takesSign_0 rfl ?_
  refine g_getfield (pc := 1) f_X11_119_11 dX11_takesSign_1 hI.1 mf_5 ?_
  refine g_if_eq (pc := 4) 9 dX11_takesSign_4 (by decide) (fun c_4 => ?_) (fun c_4 => absurd hf c_4)
  refine g_aload_n (pc := 9) dX11_takesSign_9 rfl ?_
  refine m_cVv (pc := 10) (M' := mX11_blanks) (as := []) i_X11_125_11 eX11_blanks hI dX11_takesSign_10 (cP_blanks (by omega) hI hp) (by omega) rfl rfl (Nat.le_of_ble_eq_true rfl) (fun h hI fr => ?_)
  replace hF := mFr.tr hF fr
  replace hp := hp.at hb.2
  refine g_aload_n (pc := 13) dX11_takesSign_13 rfl ?_
  refine g_aload_n (pc := 14) dX11_takesSign_14 rfl ?_
  refine g_getfield (pc := 15) f_X11_112_11 dX11_takesSign_15 hI.1 mf_4 ?_
  rw [sv_same]
  refine m_cP (pc := 18) (M' := mX11_byteAt) (as := [_]) i_X11_115_11 eX11_byteAt hI dX11_takesSign_18 (cP_byteAt hI hp (by have := hp.2.2; omega)) (by omega) rfl rfl (Nat.le_of_ble_eq_true rfl) ?_
  refine g_iload_n (pc := 21) dX11_takesSign_21 rfl ?_
  refine g_icmp_ne (pc := 22) 29 dX11_takesSign_22 (by decide) (fun c_22 => ?_) (fun c_22 => ?_)
  · refine g_iconst (pc := 29) (v := 0) dX11_takesSign_29 (by decide) ?_
    refine g_istore_n (pc := 30) (ls' := [_, _, _]) dX11_takesSign_30 (by decide) rfl rfl ?_
    refine g_iload_n (pc := 31) dX11_takesSign_31 rfl ?_
    refine g_if_eq (pc := 32) 45 dX11_takesSign_32 (by decide) (fun c_32 => ?_) (fun c_32 => ?_)
    · refine g_iload_n (pc := 45) dX11_takesSign_45 rfl ?_
      refine g_ireturn (pc := 46) dX11_takesSign_46 rfl (by first | exact rfl | exact j_nb _) ?_
      first
        | exact absurd c_32 (by decide)
        | (have q : sgI t n a = c := c_22
           exact ⟨by simp [q, bI], by rw [if_pos q]; rw [sv_sv, nI_1] at hI; exact hI, hF⟩)
        | (have q : ¬ sgI t n a = c := c_22
           exact ⟨by simp [q, bI], by rw [if_neg q]; exact hI, hF⟩)
    · refine g_aload_n (pc := 35) dX11_takesSign_35 rfl ?_
      refine g_dup (pc := 36) dX11_takesSign_36 rfl ?_
      refine g_getfield (pc := 37) f_X11_112_11 dX11_takesSign_37 hI.1 mf_4 ?_
      rw [sv_same]
      refine g_iconst (pc := 40) (v := 1) dX11_takesSign_40 (by decide) ?_
      refine g_iadd (pc := 41) dX11_takesSign_41 ?_
      refine m_put (pc := 42) hI w_X11_112_11 rfl (by decide) dX11_takesSign_42 (fun h hI fr => ?_)
      replace hF := mFr.tr hF fr
      refine g_iload_n (pc := 45) dX11_takesSign_45 rfl ?_
      refine g_ireturn (pc := 46) dX11_takesSign_46 rfl (by first | exact rfl | exact j_nb _) ?_
      first
        | exact absurd c_32 (by decide)
        | (have q : sgI t n a = c := c_22
           exact ⟨by simp [q, bI], by rw [if_pos q]; rw [sv_sv, nI_1] at hI; exact hI, hF⟩)
        | (have q : ¬ sgI t n a = c := c_22
           exact ⟨by simp [q, bI], by rw [if_neg q]; exact hI, hF⟩)
  · refine g_iconst (pc := 25) (v := 1) dX11_takesSign_25 (by decide) ?_
    refine g_goto (pc := 26) 30 dX11_takesSign_26 (by decide) ?_
    refine g_istore_n (pc := 30) (ls' := [_, _, _]) dX11_takesSign_30 (by decide) rfl rfl ?_
    refine g_iload_n (pc := 31) dX11_takesSign_31 rfl ?_
    refine g_if_eq (pc := 32) 45 dX11_takesSign_32 (by decide) (fun c_32 => ?_) (fun c_32 => ?_)
    · refine g_iload_n (pc := 45) dX11_takesSign_45 rfl ?_
      refine g_ireturn (pc := 46) dX11_takesSign_46 rfl (by first | exact rfl | exact j_nb _) ?_
      first
        | exact absurd c_32 (by decide)
        | (have q : sgI t n a = c := c_22
           exact ⟨by simp [q, bI], by rw [if_pos q]; rw [sv_sv, nI_1] at hI; exact hI, hF⟩)
        | (have q : ¬ sgI t n a = c := c_22
           exact ⟨by simp [q, bI], by rw [if_neg q]; exact hI, hF⟩)
    · refine g_aload_n (pc := 35) dX11_takesSign_35 rfl ?_
      refine g_dup (pc := 36) dX11_takesSign_36 rfl ?_
      refine g_getfield (pc := 37) f_X11_112_11 dX11_takesSign_37 hI.1 mf_4 ?_
      rw [sv_same]
      refine g_iconst (pc := 40) (v := 1) dX11_takesSign_40 (by decide) ?_
      refine g_iadd (pc := 41) dX11_takesSign_41 ?_
      refine m_put (pc := 42) hI w_X11_112_11 rfl (by decide) dX11_takesSign_42 (fun h hI fr => ?_)
      replace hF := mFr.tr hF fr
      refine g_iload_n (pc := 45) dX11_takesSign_45 rfl ?_
      refine g_ireturn (pc := 46) dX11_takesSign_46 rfl (by first | exact rfl | exact j_nb _) ?_
      first
        | exact absurd c_32 (by decide)
        | (have q : sgI t n a = c := c_22
           exact ⟨by simp [q, bI], by rw [if_pos q]; rw [sv_sv, nI_1] at hI; exact hI, hF⟩)
        | (have q : ¬ sgI t n a = c := c_22
           exact ⟨by simp [q, bI], by rw [if_neg q]; exact hI, hF⟩)
theorem c_takesSign1 (hI : InvM am V h) (hf : ¬ V 0 5 = 0) (c : Int32) : Ct E d 0 0 mX11_takesSign [vR (nMo am), vI c] h (qR (some (vI (bI false))) h) := by
  refine ct_of (by decide) (Nat.le_of_ble_eq_true rfl) rfl ?_
  refine g_aload_n (pc := 0) dX11_takesSign_0 rfl ?_
  refine g_getfield (pc := 1) f_X11_119_11 dX11_takesSign_1 hI.1 mf_5 ?_
  refine g_if_eq (pc := 4) 9 dX11_takesSign_4 (by decide) (fun c_4 => absurd c_4 hf) (fun c_4 => ?_)
  refine g_iconst (pc := 7) (v := 0) dX11_takesSign_7 (by decide) ?_
  refine g_ireturn (pc := 8) dX11_takesSign_8 rfl (by first | exact rfl | exact j_nb _) ?_
  exact ⟨rfl, rfl⟩
theorem c_ends (hI : InvM am V h) : Ct E d 0 0 mX11_ends [vR (nMo am)] h (mQ am (sv V 0 3 (V 0 6)) h (some (vI (V 0 5 - 10)))) := by
  refine ct_of (by decide) (Nat.le_of_ble_eq_true rfl) rfl ?_
  have hF : mFr h h := mFr.rf
  refine g_aload_n (pc := 0) dX11_ends_0 rfl ?_
  refine g_aload_n (pc := 1) dX11_ends_1 rfl ?_
  refine g_getfield (pc := 2) f_X11_122_11 dX11_ends_2 hI.1 mf_6 ?_
  refine m_put (pc := 5) hI w_X11_9_11 rfl (by decide) dX11_ends_5 (fun h hI fr => ?_)
  replace hF := mFr.tr hF fr
  refine g_aload_n (pc := 8) dX11_ends_8 rfl ?_
  refine g_getfield (pc := 9) f_X11_119_11 dX11_ends_9 hI.1 mf_5 ?_
  rw [sv_nj (by decide)]
  refine g_bipush (pc := 12) (v := 10) dX11_ends_12 (by decide) ?_
  refine g_isub (pc := 14) dX11_ends_14 ?_
  refine g_ireturn (pc := 15) dX11_ends_15 rfl (by first | exact rfl | exact j_nb _) ?_
  exact ⟨rfl, hI, hF⟩
def stV (V : mV) (n : Int32) : mV := sv (sv (sv (sv (sv (sv (sv V 0 1 0) 0 2 n) 0 4 0) 0 5 0) 0 6 (-1)) 0 7 0) 0 8 0
theorem stV_PS {V : mV} (hT : TX V t) (hn : n ≤ 600) : PS (stV V (nI n)) t n 0 := by
  unfold stV
  refine ⟨(((((((hT.sv (by decide)).sv (by decide)).sv (by decide)).sv (by decide)).sv (by decide)).sv (by decide)).sv (by decide)), ?_, hn, ?_, Nat.zero_le _⟩
  · rw [sv_nj (by decide), sv_nj (by decide), sv_nj (by decide), sv_nj (by decide), sv_nj (by decide), sv_same]
  · rw [sv_nj (by decide), sv_nj (by decide), sv_nj (by decide), sv_nj (by decide), sv_same]; rfl
theorem c_starts (hd : 2 ≤ d) (hI : InvM am V h) (hT : TX V t) (hn : n ≤ 600) : Ct E d 0 0 mX11_starts [vR (nMo am), vI (nI n)] h (mQ am (sv (stV V (nI n)) 0 4 (nI (bl t n 0))) h none) := by
  refine ct_of (by decide) (Nat.le_of_ble_eq_true rfl) rfl ?_
  have hF : mFr h h := mFr.rf
  refine g_aload_n (pc := 0) dX11_starts_0 rfl ?_
  refine g_iconst (pc := 1) (v := 0) dX11_starts_1 (by decide) ?_
  refine m_put (pc := 2) hI w_X11_106_11 rfl (by decide) dX11_starts_2 (fun h hI fr => ?_)
  replace hF := mFr.tr hF fr
  refine g_aload_n (pc := 5) dX11_starts_5 rfl ?_
  refine g_iload_n (pc := 6) dX11_starts_6 rfl ?_
  refine m_put (pc := 7) hI w_X11_109_11 rfl (by decide) dX11_starts_7 (fun h hI fr => ?_)
  replace hF := mFr.tr hF fr
  refine g_aload_n (pc := 10) dX11_starts_10 rfl ?_
  refine g_iconst (pc := 11) (v := 0) dX11_starts_11 (by decide) ?_
  refine m_put (pc := 12) hI w_X11_112_11 rfl (by decide) dX11_starts_12 (fun h hI fr => ?_)
  replace hF := mFr.tr hF fr
  refine g_aload_n (pc := 15) dX11_starts_15 rfl ?_
  refine g_iconst (pc := 16) (v := 0) dX11_starts_16 (by decide) ?_
  refine m_put (pc := 17) hI w_X11_119_11 rfl (by decide) dX11_starts_17 (fun h hI fr => ?_)
  replace hF := mFr.tr hF fr
  refine g_aload_n (pc := 20) dX11_starts_20 rfl ?_
  refine g_iconst (pc := 21) (v := -1) dX11_starts_21 (by decide) ?_
  refine m_put (pc := 22) hI w_X11_122_11 rfl (by decide) dX11_starts_22 (fun h hI fr => ?_)
  replace hF := mFr.tr hF fr
  refine g_aload_n (pc := 25) dX11_starts_25 rfl ?_
  refine g_iconst (pc := 26) (v := 0) dX11_starts_26 (by decide) ?_
  refine m_put (pc := 27) hI w_X11_159_11 rfl (by decide) dX11_starts_27 (fun h hI fr => ?_)
  replace hF := mFr.tr hF fr
  refine g_aload_n (pc := 30) dX11_starts_30 rfl ?_
  refine g_iconst (pc := 31) (v := 0) dX11_starts_31 (by decide) ?_
  refine m_put (pc := 32) hI w_X11_162_11 rfl (by decide) dX11_starts_32 (fun h hI fr => ?_)
  replace hF := mFr.tr hF fr
  refine g_aload_n (pc := 35) dX11_starts_35 rfl ?_
  change InvM am (stV V (nI n)) h at hI
  refine m_cVv (pc := 36) (M' := mX11_blanks) (as := []) i_X11_125_11 eX11_blanks hI dX11_starts_36 (cP_blanks (by omega) hI (stV_PS hT hn)) (by omega) rfl rfl (Nat.le_of_ble_eq_true rfl) (fun h hI fr => ?_)
  replace hF := mFr.tr hF fr
  refine g_return (pc := 39) dX11_starts_39 rfl ?_
  exact ⟨rfl, hI, hF⟩
end
