/-! THE REFERENCE: steps are read. Printed by m_r7.py -/
set_option maxRecDepth 100000
def stI (k : Nat) : Int32 := if k = 7 then -1 else nI k
/-- row k holds the step x (what its kind has no use for may be anything) -/
def RW (V : mV) (k : Nat) (x : sr) : Prop := V (1000 * 29 + k) 0 = nI x.1 ∧ (¬ x.1 = 5 → V (1000 * 29 + k) 1 = nI x.2.1) ∧ (x.1 = 3 → V (1000 * 29 + k) 2 = nI x.2.2.1) ∧ V (1000 * 29 + k) 3 = nI x.2.2.2
theorem RW.of {V V' : mV} {k : Nat} {x : sr} (h : RW V k x) (e : V' (1000 * 29 + k) = V (1000 * 29 + k)) : RW V' k x := by unfold RW; rw [e]; exact h
def tdS (V : mV) (g : HD) : Prop := V 12 0 = nI (gS g) ∧ V 12 1 = nI (gR g) ∧ V 12 2 = nI (gP g) ∧ okH g
def wkS (V : mV) (t : Nat → Nat) (n a o i : Nat) (g : HD) : Prop := PS V t n a ∧ V 0 5 = 0 ∧ V 0 8 = nI o ∧ V 0 30 = nI i ∧ 4 * i ≤ a ∧ n ≤ 150 ∧ o ≤ 6 ∧ tdS V g
/-- what a step's reader leaves -/
abbrev wkQ (am : Nat → Nat) (V : mV) (h : jH) (t : Nat → Nat) (n o i : Nat) (x : pR (List sr)) : jR → jH → Prop := rdQ am V h t n x (fun V' c => V' 0 8 = nI o ∧ V' 0 30 = nI (i + c.length) ∧ (∀ k, k < i → V' (1000 * 29 + k) = V (1000 * 29 + k)) ∧ ∀ j, j < c.length → RW V' (i + j) (c.getD j s0))
theorem rdX29 {i j : Nat} (h : i < 1000) : rdX (1000 * 29 + i) j := by unfold rdX; omega
theorem rdX30 : rdX 0 30 := Or.inl ⟨rfl, by omega⟩
theorem tdS.rd {V V' : mV} {g : HD} (h : tdS V g) (e : rdE V V') : tdS V' g := by
  have n12 : ∀ j, ¬ rdX 12 j := fun j => by unfold rdX; omega
  exact ⟨(e 12 0 (n12 0)).trans h.1, (e 12 1 (n12 1)).trans h.2.1, (e 12 2 (n12 2)).trans h.2.2.1, h.2.2.2⟩
theorem FS.f0I {am : Nat → Nat} {h : jH} {t : Nat → Nat} {n : Nat} {V0 V : mV} {k p j : Nat} {y : Int32} (_hI : InvM am (sv V 0 j y) h) (fs : FS t n V0 V k p) (hx : rdX 0 j) (hj : j ≠ 5 ∧ j ≠ 6 ∧ j ≠ 2 ∧ j ≠ 4) : FS t n V0 (sv V 0 j y) k p := fs.f0 hx hj
section
variable {E : jE} {d : Nat} {h : jH} {am : Nat → Nat} {V : mV} {t : Nat → Nat} {n a o i : Nat} {g : HD}
set_option maxHeartbeats 2000000 in
theorem c_stepHere (hd : 4 ≤ d) (hI : InvM am V h) (hp : PS V t n a) (hf : V 0 5 = 0) (hb : bl t n a = a) : Ct E d 0 0 mX11_stepHere [vR (nMo am)] h (mQ am V h (some (vI (stI (stN t n a))))) := by
  refine ct_of (by decide) (Nat.le_of_ble_eq_true rfl) rfl ?_
  have hF : mFr h h := mFr.rf
  refine g_aload_n (pc := 0) dX11_stepHere_0 rfl ?_
  refine g_bipush (pc := 1) (v := 7) dX11_stepHere_1 (by decide) ?_
  refine g_bipush (pc := 3) (v := 9) dX11_stepHere_3 (by decide) ?_
  refine g_bipush (pc := 5) (v := 22) dX11_stepHere_5 (by decide) ?_
  refine g_iconst (pc := 7) (v := 5) dX11_stepHere_7 (by decide) ?_
  refine g_iconst (pc := 8) (v := 0) dX11_stepHere_8 (by decide) ?_
  refine g_iconst (pc := 9) (v := 0) dX11_stepHere_9 (by decide) ?_
  refine m_cV (pc := 10) (M' := mX11_isWord) (as := [_, _, _, _, _, _]) i_X11_152_11 eX11_isWord hI dX11_stepHere_10 (c_w_give (by omega) hI hp hf) (by omega) rfl rfl (Nat.le_of_ble_eq_true rfl) (fun h hI fr => ?_)
  replace hF := mFr.tr hF fr
  rw [hb, ← hp.2.2.2.1, sv_self] at hI
  rw [hb]
  refine g_ifB_eq (pc := 13) 18 dX11_stepHere_13 (by decide) (fun c_13 => ?_) (fun c_13 => ?_)
  · refine g_aload_n (pc := 18) dX11_stepHere_18 rfl ?_
    refine g_iconst (pc := 19) (v := 2) dX11_stepHere_19 (by decide) ?_
    refine g_iconst (pc := 20) (v := 1) dX11_stepHere_20 (by decide) ?_
    refine g_iconst (pc := 21) (v := 3) dX11_stepHere_21 (by decide) ?_
    refine g_bipush (pc := 22) (v := 11) dX11_stepHere_22 (by decide) ?_
    refine g_iconst (pc := 24) (v := 0) dX11_stepHere_24 (by decide) ?_
    refine g_iconst (pc := 25) (v := 0) dX11_stepHere_25 (by decide) ?_
    refine m_cV (pc := 26) (M' := mX11_isWord) (as := [_, _, _, _, _, _]) i_X11_152_11 eX11_isWord hI dX11_stepHere_26 (c_w_back (by omega) hI hp hf) (by omega) rfl rfl (Nat.le_of_ble_eq_true rfl) (fun h hI fr => ?_)
    replace hF := mFr.tr hF fr
    rw [hb, ← hp.2.2.2.1, sv_self] at hI
    rw [hb]
    refine g_ifB_eq (pc := 29) 34 dX11_stepHere_29 (by decide) (fun c_29 => ?_) (fun c_29 => ?_)
    · refine g_aload_n (pc := 34) dX11_stepHere_34 rfl ?_
      refine g_bipush (pc := 35) (v := 12) dX11_stepHere_35 (by decide) ?_
      refine g_iconst (pc := 37) (v := 1) dX11_stepHere_37 (by decide) ?_
      refine g_bipush (pc := 38) (v := 16) dX11_stepHere_38 (by decide) ?_
      refine g_bipush (pc := 40) (v := 19) dX11_stepHere_40 (by decide) ?_
      refine g_iconst (pc := 42) (v := 5) dX11_stepHere_42 (by decide) ?_
      refine g_iconst (pc := 43) (v := 0) dX11_stepHere_43 (by decide) ?_
      refine m_cV (pc := 44) (M' := mX11_isWord) (as := [_, _, _, _, _, _]) i_X11_152_11 eX11_isWord hI dX11_stepHere_44 (c_w_lapse (by omega) hI hp hf) (by omega) rfl rfl (Nat.le_of_ble_eq_true rfl) (fun h hI fr => ?_)
      replace hF := mFr.tr hF fr
      rw [hb, ← hp.2.2.2.1, sv_self] at hI
      rw [hb]
      refine g_ifB_eq (pc := 47) 52 dX11_stepHere_47 (by decide) (fun c_47 => ?_) (fun c_47 => ?_)
      · refine g_aload_n (pc := 52) dX11_stepHere_52 rfl ?_
        refine g_iconst (pc := 53) (v := 3) dX11_stepHere_53 (by decide) ?_
        refine g_bipush (pc := 54) (v := 21) dX11_stepHere_54 (by decide) ?_
        refine g_bipush (pc := 56) (v := 18) dX11_stepHere_56 (by decide) ?_
        refine g_iconst (pc := 58) (v := 5) dX11_stepHere_58 (by decide) ?_
        refine g_iconst (pc := 59) (v := 0) dX11_stepHere_59 (by decide) ?_
        refine g_iconst (pc := 60) (v := 0) dX11_stepHere_60 (by decide) ?_
        refine m_cV (pc := 61) (M' := mX11_isWord) (as := [_, _, _, _, _, _]) i_X11_152_11 eX11_isWord hI dX11_stepHere_61 (c_w_cure (by omega) hI hp hf) (by omega) rfl rfl (Nat.le_of_ble_eq_true rfl) (fun h hI fr => ?_)
        replace hF := mFr.tr hF fr
        rw [hb, ← hp.2.2.2.1, sv_self] at hI
        rw [hb]
        refine g_ifB_eq (pc := 64) 69 dX11_stepHere_64 (by decide) (fun c_64 => ?_) (fun c_64 => ?_)
        · refine g_aload_n (pc := 69) dX11_stepHere_69 rfl ?_
          refine g_iconst (pc := 70) (v := 4) dX11_stepHere_70 (by decide) ?_
          refine g_bipush (pc := 71) (v := 9) dX11_stepHere_71 (by decide) ?_
          refine g_iconst (pc := 73) (v := 5) dX11_stepHere_73 (by decide) ?_
          refine g_iconst (pc := 74) (v := 0) dX11_stepHere_74 (by decide) ?_
          refine g_iconst (pc := 75) (v := 0) dX11_stepHere_75 (by decide) ?_
          refine g_iconst (pc := 76) (v := 0) dX11_stepHere_76 (by decide) ?_
          refine m_cV (pc := 77) (M' := mX11_isWord) (as := [_, _, _, _, _, _]) i_X11_152_11 eX11_isWord hI dX11_stepHere_77 (c_w_die (by omega) hI hp hf) (by omega) rfl rfl (Nat.le_of_ble_eq_true rfl) (fun h hI fr => ?_)
          replace hF := mFr.tr hF fr
          rw [hb, ← hp.2.2.2.1, sv_self] at hI
          rw [hb]
          refine g_ifB_eq (pc := 80) 85 dX11_stepHere_80 (by decide) (fun c_80 => ?_) (fun c_80 => ?_)
          · refine g_aload_n (pc := 85) dX11_stepHere_85 rfl ?_
            refine g_iconst (pc := 86) (v := 4) dX11_stepHere_86 (by decide) ?_
            refine g_iconst (pc := 87) (v := 1) dX11_stepHere_87 (by decide) ?_
            refine g_bipush (pc := 88) (v := 25) dX11_stepHere_88 (by decide) ?_
            refine g_iconst (pc := 90) (v := 0) dX11_stepHere_90 (by decide) ?_
            refine g_iconst (pc := 91) (v := 0) dX11_stepHere_91 (by decide) ?_
            refine g_iconst (pc := 92) (v := 0) dX11_stepHere_92 (by decide) ?_
            refine m_cV (pc := 93) (M' := mX11_isWord) (as := [_, _, _, _, _, _]) i_X11_152_11 eX11_isWord hI dX11_stepHere_93 (c_w_day (by omega) hI hp hf) (by omega) rfl rfl (Nat.le_of_ble_eq_true rfl) (fun h hI fr => ?_)
            replace hF := mFr.tr hF fr
            rw [hb, ← hp.2.2.2.1, sv_self] at hI
            rw [hb]
            refine g_ifB_eq (pc := 96) 101 dX11_stepHere_96 (by decide) (fun c_96 => ?_) (fun c_96 => ?_)
            · refine g_aload_n (pc := 101) dX11_stepHere_101 rfl ?_
              refine g_iconst (pc := 102) (v := 1) dX11_stepHere_102 (by decide) ?_
              refine g_bipush (pc := 103) (v := 7) dX11_stepHere_103 (by decide) ?_
              refine g_iconst (pc := 105) (v := 1) dX11_stepHere_105 (by decide) ?_
              refine g_bipush (pc := 106) (v := 9) dX11_stepHere_106 (by decide) ?_
              refine g_bipush (pc := 108) (v := 14) dX11_stepHere_108 (by decide) ?_
              refine g_iconst (pc := 110) (v := 0) dX11_stepHere_110 (by decide) ?_
              refine m_cV (pc := 111) (M' := mX11_isWord) (as := [_, _, _, _, _, _]) i_X11_152_11 eX11_isWord hI dX11_stepHere_111 (c_w_again (by omega) hI hp hf) (by omega) rfl rfl (Nat.le_of_ble_eq_true rfl) (fun h hI fr => ?_)
              replace hF := mFr.tr hF fr
              rw [hb, ← hp.2.2.2.1, sv_self] at hI
              rw [hb]
              refine g_ifB_eq (pc := 114) 122 dX11_stepHere_114 (by decide) (fun c_114 => ?_) (fun c_114 => ?_)
              · refine g_iconst (pc := 122) (v := -1) dX11_stepHere_122 (by decide) ?_
                refine g_ireturn (pc := 123) dX11_stepHere_123 rfl (by first | exact rfl | exact j_nb _) ?_
                have ek : stN t n a = 7 := by
                  unfold stN
                  rw [if_neg (show ¬ wdB t n a W_give = true by rw [c_13]; decide), if_neg (show ¬ wdB t n a W_back = true by rw [c_29]; decide), if_neg (show ¬ wdB t n a W_lapse = true by rw [c_47]; decide), if_neg (show ¬ wdB t n a W_cure = true by rw [c_64]; decide), if_neg (show ¬ wdB t n a W_die = true by rw [c_80]; decide), if_neg (show ¬ wdB t n a W_day = true by rw [c_96]; decide), if_neg (show ¬ wdB t n a W_again = true by rw [c_114]; decide)]
                exact ⟨by rw [ek]; rfl, hI, hF⟩
              · refine g_bipush (pc := 117) (v := 6) dX11_stepHere_117 (by decide) ?_
                refine g_goto (pc := 119) 123 dX11_stepHere_119 (by decide) ?_
                refine g_ireturn (pc := 123) dX11_stepHere_123 rfl (by first | exact rfl | exact j_nb _) ?_
                have ek : stN t n a = 6 := by
                  unfold stN
                  rw [if_neg (show ¬ wdB t n a W_give = true by rw [c_13]; decide), if_neg (show ¬ wdB t n a W_back = true by rw [c_29]; decide), if_neg (show ¬ wdB t n a W_lapse = true by rw [c_47]; decide), if_neg (show ¬ wdB t n a W_cure = true by rw [c_64]; decide), if_neg (show ¬ wdB t n a W_die = true by rw [c_80]; decide), if_neg (show ¬ wdB t n a W_day = true by rw [c_96]; decide), if_pos c_114]
                exact ⟨by rw [ek]; rfl, hI, hF⟩
            · refine g_iconst (pc := 99) (v := 5) dX11_stepHere_99 (by decide) ?_
              refine g_ireturn (pc := 100) dX11_stepHere_100 rfl (by first | exact rfl | exact j_nb _) ?_
              have ek : stN t n a = 5 := by
                unfold stN
                rw [if_neg (show ¬ wdB t n a W_give = true by rw [c_13]; decide), if_neg (show ¬ wdB t n a W_back = true by rw [c_29]; decide), if_neg (show ¬ wdB t n a W_lapse = true by rw [c_47]; decide), if_neg (show ¬ wdB t n a W_cure = true by rw [c_64]; decide), if_neg (show ¬ wdB t n a W_die = true by rw [c_80]; decide), if_pos c_96]
              exact ⟨by rw [ek]; rfl, hI, hF⟩
          · refine g_iconst (pc := 83) (v := 4) dX11_stepHere_83 (by decide) ?_
            refine g_ireturn (pc := 84) dX11_stepHere_84 rfl (by first | exact rfl | exact j_nb _) ?_
            have ek : stN t n a = 4 := by
              unfold stN
              rw [if_neg (show ¬ wdB t n a W_give = true by rw [c_13]; decide), if_neg (show ¬ wdB t n a W_back = true by rw [c_29]; decide), if_neg (show ¬ wdB t n a W_lapse = true by rw [c_47]; decide), if_neg (show ¬ wdB t n a W_cure = true by rw [c_64]; decide), if_pos c_80]
            exact ⟨by rw [ek]; rfl, hI, hF⟩
        · refine g_iconst (pc := 67) (v := 3) dX11_stepHere_67 (by decide) ?_
          refine g_ireturn (pc := 68) dX11_stepHere_68 rfl (by first | exact rfl | exact j_nb _) ?_
          have ek : stN t n a = 3 := by
            unfold stN
            rw [if_neg (show ¬ wdB t n a W_give = true by rw [c_13]; decide), if_neg (show ¬ wdB t n a W_back = true by rw [c_29]; decide), if_neg (show ¬ wdB t n a W_lapse = true by rw [c_47]; decide), if_pos c_64]
          exact ⟨by rw [ek]; rfl, hI, hF⟩
      · refine g_iconst (pc := 50) (v := 2) dX11_stepHere_50 (by decide) ?_
        refine g_ireturn (pc := 51) dX11_stepHere_51 rfl (by first | exact rfl | exact j_nb _) ?_
        have ek : stN t n a = 2 := by
          unfold stN
          rw [if_neg (show ¬ wdB t n a W_give = true by rw [c_13]; decide), if_neg (show ¬ wdB t n a W_back = true by rw [c_29]; decide), if_pos c_47]
        exact ⟨by rw [ek]; rfl, hI, hF⟩
    · refine g_iconst (pc := 32) (v := 1) dX11_stepHere_32 (by decide) ?_
      refine g_ireturn (pc := 33) dX11_stepHere_33 rfl (by first | exact rfl | exact j_nb _) ?_
      have ek : stN t n a = 1 := by
        unfold stN
        rw [if_neg (show ¬ wdB t n a W_give = true by rw [c_13]; decide), if_pos c_29]
      exact ⟨by rw [ek]; rfl, hI, hF⟩
  · refine g_iconst (pc := 16) (v := 0) dX11_stepHere_16 (by decide) ?_
    refine g_ireturn (pc := 17) dX11_stepHere_17 rfl (by first | exact rfl | exact j_nb _) ?_
    have ek : stN t n a = 0 := by
      unfold stN
      rw [if_pos c_13]
    exact ⟨by rw [ek]; rfl, hI, hF⟩
def WKa (E : jE) (am : Nat → Nat) (t : Nat → Nat) (n : Nat) (g : HD) (m : Nat) : Prop := ∀ (d : Nat) (V : mV) (h : jH) (o i a : Nat), InvM am V h → wkS V t n a o i g → bl t n a = a → 2 * (n - a) + 1 ≤ m → 2 * (6 - o) + 8 ≤ d → Ct E d 0 0 mX11_readsStep [vR (nMo am)] h (wkQ am V h t n o i (wk t n g m 0 o i a []))
def WKb (E : jE) (am : Nat → Nat) (t : Nat → Nat) (n : Nat) (g : HD) (m : Nat) : Prop := ∀ (d bc bs : Nat) (V V0 Vb : mV) (h h0 : jH) (o i a i0 : Nat) (acc : List sr) (Q : jR → jH → Prop), i0 < 80 → InvM am V h → mFr h0 h → rdE V0 V → wkS V t n a o (i + acc.length) g → bl t n a = a → 2 * (n - a) + 2 ≤ m → 2 * (6 - o) + 9 ≤ d → (∀ k, k < i → V (1000 * 29 + k) = Vb (1000 * 29 + k)) → (∀ j, j < acc.length → RW V (i + j) (acc.getD j s0)) →
  (∀ kk pp V' h', wk t n g m 1 o i a acc = .inl (kk, pp) → InvM am V' h' → mFr h0 h' → FS t n V0 V' kk pp → G E d bc bs mX11_readsStep 199 [some (vR (nMo am)), some (vI 6), some (vR (nMr am 29 i0))] [] h' Q) →
  (∀ p c V' h', wk t n g m 1 o i a acc = .inr (p, c) → InvM am V' h' → mFr h0 h' → rdE V0 V' → wkS V' t n p o (i + c.length) g → (∀ k, k < i → V' (1000 * 29 + k) = Vb (1000 * 29 + k)) → (∀ j, j < c.length → RW V' (i + j) (c.getD j s0)) → G E d bc bs mX11_readsStep 199 [some (vR (nMo am)), some (vI 6), some (vR (nMr am 29 i0))] [] h' Q) →
  G E d bc bs mX11_readsStep 168 [some (vR (nMo am)), some (vI 6), some (vR (nMr am 29 i0))] [] h Q
set_option maxHeartbeats 4000000 in
theorem wk_loop {m : Nat} (ih : WKa E am t n g m) (ihb : WKb E am t n g m) : WKb E am t n g (m + 1) := by
  intro d bc bs V V0 Vb h h0 o i a i0 acc Q hi0 hI hF rd hs hb hm hd e1 e2 kf kg
  refine g_aload_n (pc := 168) dX11_readsStep_168 rfl ?_
  refine g_getfield (pc := 169) f_X11_119_11 dX11_readsStep_169 hI.1 mf_5 ?_
  refine g_if_ne (pc := 172) 199 dX11_readsStep_172 (by decide) (fun c_172 => absurd hs.2.1 c_172) (fun c_172 => ?_)
  refine g_aload_n (pc := 175) dX11_readsStep_175 rfl ?_
  refine g_aload_n (pc := 176) dX11_readsStep_176 rfl ?_
  refine g_getfield (pc := 177) f_X11_112_11 dX11_readsStep_177 hI.1 mf_4 ?_
  rw [hs.1.2.2.2.1]
  refine m_cP (pc := 180) (M' := mX11_byteAt) (as := [_]) i_X11_115_11 eX11_byteAt hI dX11_readsStep_180 (cP_byteAt hI hs.1 (by have := hs.1.2.2; omega)) (by omega) rfl rfl (Nat.le_of_ble_eq_true rfl) ?_
  refine g_bipush (pc := 183) (v := 93) dX11_readsStep_183 (by decide) ?_
  refine g_icmp_eq (pc := 185) 199 dX11_readsStep_185 (by decide) (fun c_185 => ?_) (fun c_185 => ?_)
  · have ew : wk t n g (m + 1) 1 o i a acc = .inr (a, acc) := by
      show (if _ then _ else _) = _
      rw [if_neg (by decide), if_pos rfl, if_pos c_185]
    exact kg a acc V h ew hI hF rd hs e1 e2
  · refine g_aload_n (pc := 188) dX11_readsStep_188 rfl ?_
    refine m_cX (pc := 189) (M' := mX11_readsStep) (as := []) i_X11_260_11 eX11_readsStep hI dX11_readsStep_189 (ih (d - 1) V h o (i + acc.length) a hI hs hb (by omega) (by omega)) (by omega) rfl rfl (Nat.le_of_ble_eq_true rfl) (fun r9 h9 q9 => ?_)
    obtain ⟨rfl, V2, hI, fr, rd2, q9⟩ := q9
    refine ⟨none, rfl, ?_⟩
    replace hF := mFr.tr hF fr
    have ew : wk t n g (m + 1) 1 o i a acc = pB (wk t n g m 0 o (i + acc.length) a []) fun p c => wk t n g m 1 o i (bl t n p) (acc ++ c) := by
      show (if _ then _ else _) = _
      rw [if_neg (by decide), if_pos rfl, if_neg c_185]
    rw [ew] at kf kg
    cases ex : wk t n g m 0 o (i + acc.length) a [] with
    | inl e =>
      rw [ex] at q9 kf
      obtain ⟨f5, f6, fk, b, hpb⟩ := q9
      have hne : ¬ V2 0 5 = 0 := by rw [f5]; exact nI_ne0 (by omega) (by omega)
      refine g_aload_n (pc := 192) dX11_readsStep_192 rfl ?_
      refine m_cVv (pc := 193) (M' := mX11_blanks) (as := []) i_X11_125_11 eX11_blanks hI dX11_readsStep_193 (cP_blanks (by omega) hI hpb) (by omega) rfl rfl (Nat.le_of_ble_eq_true rfl) (fun h hI fr => ?_)
      replace hF := mFr.tr hF fr
      refine g_goto (pc := 196) 168 dX11_readsStep_196 (by decide) ?_
      refine g_aload_n (pc := 168) dX11_readsStep_168 rfl ?_
      refine g_getfield (pc := 169) f_X11_119_11 dX11_readsStep_169 hI.1 mf_5 ?_
      refine g_if_ne (pc := 172) 199 dX11_readsStep_172 (by decide) (fun c_172 => ?_) (fun c_172 => absurd c_172 (by rw [sv_nj (by decide)]; exact hne))
      exact kf e.1 e.2 _ h rfl hI hF ⟨by rw [sv_nj (by decide)]; exact f5, by rw [sv_nj (by decide)]; exact f6, fk, (rd.tr rd2).a4, _, hpb.at (bl_le (t := t) hpb.2.2.2.2).2⟩
    | inr q =>
      obtain ⟨p, c⟩ := q
      rw [ex] at q9 kf kg
      obtain ⟨f5, fp, f8, f30, fo, fn⟩ := q9
      have fp : PS V2 t n p := fp
      have f30 : V2 0 30 = nI (i + acc.length + c.length) := f30
      have fn : ∀ j, j < c.length → RW V2 (i + acc.length + j) (c.getD j s0) := fn
      have hale := hs.1.2.2.2.2
      obtain ⟨r1, r2, -⟩ := wk_ok hs.2.2.2.2.2.2.2.2.2.2 m 0 o (i + acc.length) a [] p c (by omega) hale ex
      obtain ⟨r3, r4, r5⟩ := r2 rfl
      have hbp := bl_le (t := t) r1
      have h4i := hs.2.2.2.2.1
      refine g_aload_n (pc := 192) dX11_readsStep_192 rfl ?_
      refine m_cVv (pc := 193) (M' := mX11_blanks) (as := []) i_X11_125_11 eX11_blanks hI dX11_readsStep_193 (cP_blanks (by omega) hI fp) (by omega) rfl rfl (Nat.le_of_ble_eq_true rfl) (fun h hI fr => ?_)
      replace hF := mFr.tr hF fr
      refine g_goto (pc := 196) 168 dX11_readsStep_196 (by decide) ?_
      refine ihb d bc bs _ V0 Vb h h0 o i (bl t n p) i0 (acc ++ c) Q hi0 hI hF (rd.tr rd2).a4 ⟨fp.at hbp.2, by rw [sv_nj (by decide)]; exact f5, by rw [sv_nj (by decide)]; exact f8, by rw [sv_nj (by decide), List.length_append, ← Nat.add_assoc]; exact f30, by rw [List.length_append]; omega, hs.2.2.2.2.2.1, hs.2.2.2.2.2.2.1, hs.2.2.2.2.2.2.2.rd rd2.a4⟩ bl_bl (by omega) hd (fun k hk => ?_) (fun j hj => ?_) kf kg
      · rw [sv_ne (by omega), fo k (by omega)]
        exact e1 k hk
      · rw [List.length_append] at hj
        by_cases w : j < acc.length
        · rw [getD_l w]
          exact (e2 j w).of (by rw [sv_ne (by omega), fo (i + j) (by omega)])
        · rw [getD_r (by omega)]
          have := fn (j - acc.length) (by omega)
          rw [show i + acc.length + (j - acc.length) = i + j by omega] at this
          exact this.of (sv_ne (by omega))
set_option maxHeartbeats 1000000 in
theorem l_kf0_94 {bc bs kk pp : Nat} {V0 : mV} {h0 : jH} {x : pR (List sr)} {i0 : Nat} (hd : 3 ≤ d) (hi : i < 80) (hI : InvM am V h) (hF : mFr h0 h) (fs : FS t n V0 V kk pp) (hx : x = .inl (kk, pp)) : G E d bc bs mX11_readsStep 94 [some (vR (nMo am)), some (vI 0), some (vR (nMr am 29 i))] [vI 0, vI 1, vR (nMr am 29 i)] h (wkQ am V0 h0 t n o i0 x) := by
  subst hx
  refine m_rast (pc := 94) (k := 29) (n := 4) hI rfl (by show _ < 80; omega) dX11_readsStep_94 (j := 1) rfl (by omega) (by decide) (fun h hI fr => ?_)
  replace hF := mFr.tr hF fr
  replace fs := FS.rowI hI fs (by omega) (rdX29 (by omega))
  refine g_iload_n (pc := 95) dX11_readsStep_95 rfl ?_
  refine g_iconst (pc := 96) (v := 2) dX11_readsStep_96 (by decide) ?_
  refine g_icmp_eq (pc := 97) 105 dX11_readsStep_97 (by decide) (fun c_97 => absurd c_97 (by decide)) (fun c_97 => ?_)
  refine g_iload_n (pc := 100) dX11_readsStep_100 rfl ?_
  refine g_iconst (pc := 101) (v := 4) dX11_readsStep_101 (by decide) ?_
  refine g_icmp_ne (pc := 102) 121 dX11_readsStep_102 (by decide) (fun c_102 => ?_) (fun c_102 => absurd c_102 (by decide))
  
  refine g_iload_n (pc := 121) dX11_readsStep_121 rfl ?_
  refine g_iconst (pc := 122) (v := 3) dX11_readsStep_122 (by decide) ?_
  refine g_icmp_ne (pc := 123) 142 dX11_readsStep_123 (by decide) (fun c_123 => ?_) (fun c_123 => absurd c_123 (by decide))
  
  refine g_iload_n (pc := 142) dX11_readsStep_142 rfl ?_
  refine g_bipush (pc := 143) (v := 6) dX11_readsStep_143 (by decide) ?_
  refine g_icmp_ne (pc := 145) 215 dX11_readsStep_145 (by decide) (fun c_145 => ?_) (fun c_145 => absurd c_145 (by decide))
  
  refine g_aload_n (pc := 215) dX11_readsStep_215 rfl ?_
  refine g_iconst (pc := 216) (v := 3) dX11_readsStep_216 (by decide) ?_
  refine g_aload_n (pc := 217) dX11_readsStep_217 rfl ?_
  refine g_getfield (pc := 218) f_X11_257_11 dX11_readsStep_218 hI.1 mf_30 ?_
  refine m_rast (pc := 221) (k := 29) (n := 4) hI rfl (by show _ < 80; omega) dX11_readsStep_221 (j := 3) rfl (by omega) (by decide) (fun h hI fr => ?_)
  replace hF := mFr.tr hF fr
  replace fs := FS.rowI hI fs (by omega) (rdX29 (by omega))
  refine g_aload_n (pc := 222) dX11_readsStep_222 rfl ?_
  refine g_bipush (pc := 223) (v := 59) dX11_readsStep_223 (by decide) ?_
  refine m_cVv (pc := 225) (M' := mX11_sign) (as := [_]) i_X11_179_11 eX11_sign hI dX11_readsStep_225 (c_sign1 hI fs.ne _) (by omega) rfl rfl (Nat.le_of_ble_eq_true rfl) (fun h hI fr => ?_)
  replace hF := mFr.tr hF fr
  refine g_return (pc := 228) dX11_readsStep_228 rfl ?_
  exact ⟨rfl, _, hI, hF, fs.2.2.2.1, fs.1, fs.2.1, fs.2.2.1, fs.2.2.2.2⟩
set_option maxHeartbeats 1000000 in
theorem l_kf1_94 {bc bs kk pp : Nat} {V0 : mV} {h0 : jH} {x : pR (List sr)} {i0 : Nat} (hd : 3 ≤ d) (hi : i < 80) (hI : InvM am V h) (hF : mFr h0 h) (fs : FS t n V0 V kk pp) (hx : x = .inl (kk, pp)) : G E d bc bs mX11_readsStep 94 [some (vR (nMo am)), some (vI 1), some (vR (nMr am 29 i))] [vI 0, vI 1, vR (nMr am 29 i)] h (wkQ am V0 h0 t n o i0 x) := by
  subst hx
  refine m_rast (pc := 94) (k := 29) (n := 4) hI rfl (by show _ < 80; omega) dX11_readsStep_94 (j := 1) rfl (by omega) (by decide) (fun h hI fr => ?_)
  replace hF := mFr.tr hF fr
  replace fs := FS.rowI hI fs (by omega) (rdX29 (by omega))
  refine g_iload_n (pc := 95) dX11_readsStep_95 rfl ?_
  refine g_iconst (pc := 96) (v := 2) dX11_readsStep_96 (by decide) ?_
  refine g_icmp_eq (pc := 97) 105 dX11_readsStep_97 (by decide) (fun c_97 => absurd c_97 (by decide)) (fun c_97 => ?_)
  refine g_iload_n (pc := 100) dX11_readsStep_100 rfl ?_
  refine g_iconst (pc := 101) (v := 4) dX11_readsStep_101 (by decide) ?_
  refine g_icmp_ne (pc := 102) 121 dX11_readsStep_102 (by decide) (fun c_102 => ?_) (fun c_102 => absurd c_102 (by decide))
  
  refine g_iload_n (pc := 121) dX11_readsStep_121 rfl ?_
  refine g_iconst (pc := 122) (v := 3) dX11_readsStep_122 (by decide) ?_
  refine g_icmp_ne (pc := 123) 142 dX11_readsStep_123 (by decide) (fun c_123 => ?_) (fun c_123 => absurd c_123 (by decide))
  
  refine g_iload_n (pc := 142) dX11_readsStep_142 rfl ?_
  refine g_bipush (pc := 143) (v := 6) dX11_readsStep_143 (by decide) ?_
  refine g_icmp_ne (pc := 145) 215 dX11_readsStep_145 (by decide) (fun c_145 => ?_) (fun c_145 => absurd c_145 (by decide))
  
  refine g_aload_n (pc := 215) dX11_readsStep_215 rfl ?_
  refine g_iconst (pc := 216) (v := 3) dX11_readsStep_216 (by decide) ?_
  refine g_aload_n (pc := 217) dX11_readsStep_217 rfl ?_
  refine g_getfield (pc := 218) f_X11_257_11 dX11_readsStep_218 hI.1 mf_30 ?_
  refine m_rast (pc := 221) (k := 29) (n := 4) hI rfl (by show _ < 80; omega) dX11_readsStep_221 (j := 3) rfl (by omega) (by decide) (fun h hI fr => ?_)
  replace hF := mFr.tr hF fr
  replace fs := FS.rowI hI fs (by omega) (rdX29 (by omega))
  refine g_aload_n (pc := 222) dX11_readsStep_222 rfl ?_
  refine g_bipush (pc := 223) (v := 59) dX11_readsStep_223 (by decide) ?_
  refine m_cVv (pc := 225) (M' := mX11_sign) (as := [_]) i_X11_179_11 eX11_sign hI dX11_readsStep_225 (c_sign1 hI fs.ne _) (by omega) rfl rfl (Nat.le_of_ble_eq_true rfl) (fun h hI fr => ?_)
  replace hF := mFr.tr hF fr
  refine g_return (pc := 228) dX11_readsStep_228 rfl ?_
  exact ⟨rfl, _, hI, hF, fs.2.2.2.1, fs.1, fs.2.1, fs.2.2.1, fs.2.2.2.2⟩
set_option maxHeartbeats 1000000 in
theorem l_kf3_94 {bc bs kk pp : Nat} {V0 : mV} {h0 : jH} {x : pR (List sr)} {i0 : Nat} (hd : 3 ≤ d) (hi : i < 80) (hI : InvM am V h) (hF : mFr h0 h) (fs : FS t n V0 V kk pp) (hx : x = .inl (kk, pp)) : G E d bc bs mX11_readsStep 94 [some (vR (nMo am)), some (vI 3), some (vR (nMr am 29 i))] [vI 0, vI 1, vR (nMr am 29 i)] h (wkQ am V0 h0 t n o i0 x) := by
  subst hx
  refine m_rast (pc := 94) (k := 29) (n := 4) hI rfl (by show _ < 80; omega) dX11_readsStep_94 (j := 1) rfl (by omega) (by decide) (fun h hI fr => ?_)
  replace hF := mFr.tr hF fr
  replace fs := FS.rowI hI fs (by omega) (rdX29 (by omega))
  refine g_iload_n (pc := 95) dX11_readsStep_95 rfl ?_
  refine g_iconst (pc := 96) (v := 2) dX11_readsStep_96 (by decide) ?_
  refine g_icmp_eq (pc := 97) 105 dX11_readsStep_97 (by decide) (fun c_97 => absurd c_97 (by decide)) (fun c_97 => ?_)
  refine g_iload_n (pc := 100) dX11_readsStep_100 rfl ?_
  refine g_iconst (pc := 101) (v := 4) dX11_readsStep_101 (by decide) ?_
  refine g_icmp_ne (pc := 102) 121 dX11_readsStep_102 (by decide) (fun c_102 => ?_) (fun c_102 => absurd c_102 (by decide))
  
  refine g_iload_n (pc := 121) dX11_readsStep_121 rfl ?_
  refine g_iconst (pc := 122) (v := 3) dX11_readsStep_122 (by decide) ?_
  refine g_icmp_ne (pc := 123) 142 dX11_readsStep_123 (by decide) (fun c_123 => absurd rfl c_123) (fun c_123 => ?_)
  refine g_aload_n (pc := 126) dX11_readsStep_126 rfl ?_
  refine g_iconst (pc := 127) (v := 2) dX11_readsStep_127 (by decide) ?_
  refine g_aload_n (pc := 128) dX11_readsStep_128 rfl ?_
  refine g_iconst (pc := 129) (v := 0) dX11_readsStep_129 (by decide) ?_
  refine g_aload_n (pc := 130) dX11_readsStep_130 rfl ?_
  refine g_getfield (pc := 131) f_X11_23_11 dX11_readsStep_131 hI.1 mf_12 ?_
  refine g_iconst (pc := 134) (v := 2) dX11_readsStep_134 (by decide) ?_
  refine g_iaload (pc := 135) dX11_readsStep_135 (mA hI 12 3 rfl (by decide)) (j := 2) (by decide) (by omega) (by decide) rfl ?_
  refine g_iconst (pc := 136) (v := 1) dX11_readsStep_136 (by decide) ?_
  refine g_isub (pc := 137) dX11_readsStep_137 ?_
  refine m_cP (pc := 138) (M' := mX11_number) (as := [_, _]) i_X11_175_11 eX11_number hI dX11_readsStep_138 (c_number1 hI fs.ne _ _) (by omega) rfl rfl (Nat.le_of_ble_eq_true rfl) ?_
  refine m_rast (pc := 141) (k := 29) (n := 4) hI rfl (by show _ < 80; omega) dX11_readsStep_141 (j := 2) rfl (by omega) (by decide) (fun h hI fr => ?_)
  replace hF := mFr.tr hF fr
  replace fs := FS.rowI hI fs (by omega) (rdX29 (by omega))
  refine g_iload_n (pc := 142) dX11_readsStep_142 rfl ?_
  refine g_bipush (pc := 143) (v := 6) dX11_readsStep_143 (by decide) ?_
  refine g_icmp_ne (pc := 145) 215 dX11_readsStep_145 (by decide) (fun c_145 => ?_) (fun c_145 => absurd c_145 (by decide))
  
  refine g_aload_n (pc := 215) dX11_readsStep_215 rfl ?_
  refine g_iconst (pc := 216) (v := 3) dX11_readsStep_216 (by decide) ?_
  refine g_aload_n (pc := 217) dX11_readsStep_217 rfl ?_
  refine g_getfield (pc := 218) f_X11_257_11 dX11_readsStep_218 hI.1 mf_30 ?_
  refine m_rast (pc := 221) (k := 29) (n := 4) hI rfl (by show _ < 80; omega) dX11_readsStep_221 (j := 3) rfl (by omega) (by decide) (fun h hI fr => ?_)
  replace hF := mFr.tr hF fr
  replace fs := FS.rowI hI fs (by omega) (rdX29 (by omega))
  refine g_aload_n (pc := 222) dX11_readsStep_222 rfl ?_
  refine g_bipush (pc := 223) (v := 59) dX11_readsStep_223 (by decide) ?_
  refine m_cVv (pc := 225) (M' := mX11_sign) (as := [_]) i_X11_179_11 eX11_sign hI dX11_readsStep_225 (c_sign1 hI fs.ne _) (by omega) rfl rfl (Nat.le_of_ble_eq_true rfl) (fun h hI fr => ?_)
  replace hF := mFr.tr hF fr
  refine g_return (pc := 228) dX11_readsStep_228 rfl ?_
  exact ⟨rfl, _, hI, hF, fs.2.2.2.1, fs.1, fs.2.1, fs.2.2.1, fs.2.2.2.2⟩
set_option maxHeartbeats 1000000 in
theorem l_kf2_120 {bc bs kk pp : Nat} {V0 : mV} {h0 : jH} {x : pR (List sr)} {i0 : Nat} (hd : 3 ≤ d) (hi : i < 80) (hI : InvM am V h) (hF : mFr h0 h) (fs : FS t n V0 V kk pp) (hx : x = .inl (kk, pp)) : G E d bc bs mX11_readsStep 120 [some (vR (nMo am)), some (vI 2), some (vR (nMr am 29 i))] [vI 0, vI 1, vR (nMr am 29 i)] h (wkQ am V0 h0 t n o i0 x) := by
  subst hx
  refine m_rast (pc := 120) (k := 29) (n := 4) hI rfl (by show _ < 80; omega) dX11_readsStep_120 (j := 1) rfl (by omega) (by decide) (fun h hI fr => ?_)
  replace hF := mFr.tr hF fr
  replace fs := FS.rowI hI fs (by omega) (rdX29 (by omega))
  refine g_iload_n (pc := 121) dX11_readsStep_121 rfl ?_
  refine g_iconst (pc := 122) (v := 3) dX11_readsStep_122 (by decide) ?_
  refine g_icmp_ne (pc := 123) 142 dX11_readsStep_123 (by decide) (fun c_123 => ?_) (fun c_123 => absurd c_123 (by decide))
  
  refine g_iload_n (pc := 142) dX11_readsStep_142 rfl ?_
  refine g_bipush (pc := 143) (v := 6) dX11_readsStep_143 (by decide) ?_
  refine g_icmp_ne (pc := 145) 215 dX11_readsStep_145 (by decide) (fun c_145 => ?_) (fun c_145 => absurd c_145 (by decide))
  
  refine g_aload_n (pc := 215) dX11_readsStep_215 rfl ?_
  refine g_iconst (pc := 216) (v := 3) dX11_readsStep_216 (by decide) ?_
  refine g_aload_n (pc := 217) dX11_readsStep_217 rfl ?_
  refine g_getfield (pc := 218) f_X11_257_11 dX11_readsStep_218 hI.1 mf_30 ?_
  refine m_rast (pc := 221) (k := 29) (n := 4) hI rfl (by show _ < 80; omega) dX11_readsStep_221 (j := 3) rfl (by omega) (by decide) (fun h hI fr => ?_)
  replace hF := mFr.tr hF fr
  replace fs := FS.rowI hI fs (by omega) (rdX29 (by omega))
  refine g_aload_n (pc := 222) dX11_readsStep_222 rfl ?_
  refine g_bipush (pc := 223) (v := 59) dX11_readsStep_223 (by decide) ?_
  refine m_cVv (pc := 225) (M' := mX11_sign) (as := [_]) i_X11_179_11 eX11_sign hI dX11_readsStep_225 (c_sign1 hI fs.ne _) (by omega) rfl rfl (Nat.le_of_ble_eq_true rfl) (fun h hI fr => ?_)
  replace hF := mFr.tr hF fr
  refine g_return (pc := 228) dX11_readsStep_228 rfl ?_
  exact ⟨rfl, _, hI, hF, fs.2.2.2.1, fs.1, fs.2.1, fs.2.2.1, fs.2.2.2.2⟩
set_option maxHeartbeats 1000000 in
theorem l_kf4_120 {bc bs kk pp : Nat} {V0 : mV} {h0 : jH} {x : pR (List sr)} {i0 : Nat} (hd : 3 ≤ d) (hi : i < 80) (hI : InvM am V h) (hF : mFr h0 h) (fs : FS t n V0 V kk pp) (hx : x = .inl (kk, pp)) : G E d bc bs mX11_readsStep 120 [some (vR (nMo am)), some (vI 4), some (vR (nMr am 29 i))] [vI 0, vI 1, vR (nMr am 29 i)] h (wkQ am V0 h0 t n o i0 x) := by
  subst hx
  refine m_rast (pc := 120) (k := 29) (n := 4) hI rfl (by show _ < 80; omega) dX11_readsStep_120 (j := 1) rfl (by omega) (by decide) (fun h hI fr => ?_)
  replace hF := mFr.tr hF fr
  replace fs := FS.rowI hI fs (by omega) (rdX29 (by omega))
  refine g_iload_n (pc := 121) dX11_readsStep_121 rfl ?_
  refine g_iconst (pc := 122) (v := 3) dX11_readsStep_122 (by decide) ?_
  refine g_icmp_ne (pc := 123) 142 dX11_readsStep_123 (by decide) (fun c_123 => ?_) (fun c_123 => absurd c_123 (by decide))
  
  refine g_iload_n (pc := 142) dX11_readsStep_142 rfl ?_
  refine g_bipush (pc := 143) (v := 6) dX11_readsStep_143 (by decide) ?_
  refine g_icmp_ne (pc := 145) 215 dX11_readsStep_145 (by decide) (fun c_145 => ?_) (fun c_145 => absurd c_145 (by decide))
  
  refine g_aload_n (pc := 215) dX11_readsStep_215 rfl ?_
  refine g_iconst (pc := 216) (v := 3) dX11_readsStep_216 (by decide) ?_
  refine g_aload_n (pc := 217) dX11_readsStep_217 rfl ?_
  refine g_getfield (pc := 218) f_X11_257_11 dX11_readsStep_218 hI.1 mf_30 ?_
  refine m_rast (pc := 221) (k := 29) (n := 4) hI rfl (by show _ < 80; omega) dX11_readsStep_221 (j := 3) rfl (by omega) (by decide) (fun h hI fr => ?_)
  replace hF := mFr.tr hF fr
  replace fs := FS.rowI hI fs (by omega) (rdX29 (by omega))
  refine g_aload_n (pc := 222) dX11_readsStep_222 rfl ?_
  refine g_bipush (pc := 223) (v := 59) dX11_readsStep_223 (by decide) ?_
  refine m_cVv (pc := 225) (M' := mX11_sign) (as := [_]) i_X11_179_11 eX11_sign hI dX11_readsStep_225 (c_sign1 hI fs.ne _) (by omega) rfl rfl (Nat.le_of_ble_eq_true rfl) (fun h hI fr => ?_)
  replace hF := mFr.tr hF fr
  refine g_return (pc := 228) dX11_readsStep_228 rfl ?_
  exact ⟨rfl, _, hI, hF, fs.2.2.2.1, fs.1, fs.2.1, fs.2.2.1, fs.2.2.2.2⟩
set_option maxHeartbeats 1000000 in
theorem l_kf3_141 {bc bs kk pp : Nat} {V0 : mV} {h0 : jH} {x : pR (List sr)} {i0 : Nat} (hd : 3 ≤ d) (hi : i < 80) (hI : InvM am V h) (hF : mFr h0 h) (fs : FS t n V0 V kk pp) (hx : x = .inl (kk, pp)) : G E d bc bs mX11_readsStep 141 [some (vR (nMo am)), some (vI 3), some (vR (nMr am 29 i))] [vI 0, vI 2, vR (nMr am 29 i)] h (wkQ am V0 h0 t n o i0 x) := by
  subst hx
  refine m_rast (pc := 141) (k := 29) (n := 4) hI rfl (by show _ < 80; omega) dX11_readsStep_141 (j := 2) rfl (by omega) (by decide) (fun h hI fr => ?_)
  replace hF := mFr.tr hF fr
  replace fs := FS.rowI hI fs (by omega) (rdX29 (by omega))
  refine g_iload_n (pc := 142) dX11_readsStep_142 rfl ?_
  refine g_bipush (pc := 143) (v := 6) dX11_readsStep_143 (by decide) ?_
  refine g_icmp_ne (pc := 145) 215 dX11_readsStep_145 (by decide) (fun c_145 => ?_) (fun c_145 => absurd c_145 (by decide))
  
  refine g_aload_n (pc := 215) dX11_readsStep_215 rfl ?_
  refine g_iconst (pc := 216) (v := 3) dX11_readsStep_216 (by decide) ?_
  refine g_aload_n (pc := 217) dX11_readsStep_217 rfl ?_
  refine g_getfield (pc := 218) f_X11_257_11 dX11_readsStep_218 hI.1 mf_30 ?_
  refine m_rast (pc := 221) (k := 29) (n := 4) hI rfl (by show _ < 80; omega) dX11_readsStep_221 (j := 3) rfl (by omega) (by decide) (fun h hI fr => ?_)
  replace hF := mFr.tr hF fr
  replace fs := FS.rowI hI fs (by omega) (rdX29 (by omega))
  refine g_aload_n (pc := 222) dX11_readsStep_222 rfl ?_
  refine g_bipush (pc := 223) (v := 59) dX11_readsStep_223 (by decide) ?_
  refine m_cVv (pc := 225) (M' := mX11_sign) (as := [_]) i_X11_179_11 eX11_sign hI dX11_readsStep_225 (c_sign1 hI fs.ne _) (by omega) rfl rfl (Nat.le_of_ble_eq_true rfl) (fun h hI fr => ?_)
  replace hF := mFr.tr hF fr
  refine g_return (pc := 228) dX11_readsStep_228 rfl ?_
  exact ⟨rfl, _, hI, hF, fs.2.2.2.1, fs.1, fs.2.1, fs.2.2.1, fs.2.2.2.2⟩
set_option maxHeartbeats 1000000 in
theorem l_kf6_157 {bc bs kk pp : Nat} {V0 : mV} {h0 : jH} {x : pR (List sr)} {i0 : Nat} (hd : 3 ≤ d) (hi : i < 80) (hI : InvM am V h) (hF : mFr h0 h) (fs : FS t n V0 V kk pp) (hx : x = .inl (kk, pp)) : G E d bc bs mX11_readsStep 157 [some (vR (nMo am)), some (vI 6), some (vR (nMr am 29 i))] [vI 0, vI 1, vR (nMr am 29 i)] h (wkQ am V0 h0 t n o i0 x) := by
  subst hx
  refine m_rast (pc := 157) (k := 29) (n := 4) hI rfl (by show _ < 80; omega) dX11_readsStep_157 (j := 1) rfl (by omega) (by decide) (fun h hI fr => ?_)
  replace hF := mFr.tr hF fr
  replace fs := FS.rowI hI fs (by omega) (rdX29 (by omega))
  refine g_aload_n (pc := 158) dX11_readsStep_158 rfl ?_
  refine g_bipush (pc := 159) (v := 91) dX11_readsStep_159 (by decide) ?_
  refine m_cVv (pc := 161) (M' := mX11_sign) (as := [_]) i_X11_179_11 eX11_sign hI dX11_readsStep_161 (c_sign1 hI fs.ne _) (by omega) rfl rfl (Nat.le_of_ble_eq_true rfl) (fun h hI fr => ?_)
  replace hF := mFr.tr hF fr
  refine g_aload_n (pc := 164) dX11_readsStep_164 rfl ?_
  refine m_cVv (pc := 165) (M' := mX11_blanks) (as := []) i_X11_125_11 eX11_blanks hI dX11_readsStep_165 (cP_blanks (by omega) hI fs.2.2.2.2.choose_spec) (by omega) rfl rfl (Nat.le_of_ble_eq_true rfl) (fun h hI fr => ?_)
  replace hF := mFr.tr hF fr
  replace fs : FS t n V0 _ kk pp := ⟨by rw [sv_nj (by decide)]; exact fs.1, by rw [sv_nj (by decide)]; exact fs.2.1, fs.2.2.1, fs.2.2.2.1.a4 (y := nI (bl t n fs.2.2.2.2.choose)), _, fs.2.2.2.2.choose_spec.at (bl_le (t := t) fs.2.2.2.2.choose_spec.2.2.2.2).2⟩
  refine g_aload_n (pc := 168) dX11_readsStep_168 rfl ?_
  refine g_getfield (pc := 169) f_X11_119_11 dX11_readsStep_169 hI.1 mf_5 ?_
  refine g_if_ne (pc := 172) 199 dX11_readsStep_172 (by decide) (fun c_172 => ?_) (fun c_172 => absurd c_172 fs.ne)
  refine g_aload_n (pc := 199) dX11_readsStep_199 rfl ?_
  refine g_bipush (pc := 200) (v := 93) dX11_readsStep_200 (by decide) ?_
  refine m_cVv (pc := 202) (M' := mX11_sign) (as := [_]) i_X11_179_11 eX11_sign hI dX11_readsStep_202 (c_sign1 hI fs.ne _) (by omega) rfl rfl (Nat.le_of_ble_eq_true rfl) (fun h hI fr => ?_)
  replace hF := mFr.tr hF fr
  refine g_aload_n (pc := 205) dX11_readsStep_205 rfl ?_
  refine g_dup (pc := 206) dX11_readsStep_206 rfl ?_
  refine g_getfield (pc := 207) f_X11_162_11 dX11_readsStep_207 hI.1 mf_8 ?_
  refine g_iconst (pc := 210) (v := 1) dX11_readsStep_210 (by decide) ?_
  refine g_isub (pc := 211) dX11_readsStep_211 ?_
  refine m_put (pc := 212) hI w_X11_162_11 rfl (by decide) dX11_readsStep_212 (fun h hI fr => ?_)
  replace hF := mFr.tr hF fr
  replace fs := FS.f0I hI fs (Or.inl ⟨rfl, by omega⟩) (by decide)
  refine g_aload_n (pc := 215) dX11_readsStep_215 rfl ?_
  refine g_iconst (pc := 216) (v := 3) dX11_readsStep_216 (by decide) ?_
  refine g_aload_n (pc := 217) dX11_readsStep_217 rfl ?_
  refine g_getfield (pc := 218) f_X11_257_11 dX11_readsStep_218 hI.1 mf_30 ?_
  refine m_rast (pc := 221) (k := 29) (n := 4) hI rfl (by show _ < 80; omega) dX11_readsStep_221 (j := 3) rfl (by omega) (by decide) (fun h hI fr => ?_)
  replace hF := mFr.tr hF fr
  replace fs := FS.rowI hI fs (by omega) (rdX29 (by omega))
  refine g_aload_n (pc := 222) dX11_readsStep_222 rfl ?_
  refine g_bipush (pc := 223) (v := 59) dX11_readsStep_223 (by decide) ?_
  refine m_cVv (pc := 225) (M' := mX11_sign) (as := [_]) i_X11_179_11 eX11_sign hI dX11_readsStep_225 (c_sign1 hI fs.ne _) (by omega) rfl rfl (Nat.le_of_ble_eq_true rfl) (fun h hI fr => ?_)
  replace hF := mFr.tr hF fr
  refine g_return (pc := 228) dX11_readsStep_228 rfl ?_
  exact ⟨rfl, _, hI, hF, fs.2.2.2.1, fs.1, fs.2.1, fs.2.2.1, fs.2.2.2.2⟩
set_option maxHeartbeats 1000000 in
theorem l_kf6_164 {bc bs kk pp : Nat} {V0 : mV} {h0 : jH} {x : pR (List sr)} {i0 : Nat} (hd : 3 ≤ d) (hi : i < 80) (hI : InvM am V h) (hF : mFr h0 h) (fs : FS t n V0 V kk pp) (hx : x = .inl (kk, pp)) : G E d bc bs mX11_readsStep 164 [some (vR (nMo am)), some (vI 6), some (vR (nMr am 29 i))] [] h (wkQ am V0 h0 t n o i0 x) := by
  subst hx
  refine g_aload_n (pc := 164) dX11_readsStep_164 rfl ?_
  refine m_cVv (pc := 165) (M' := mX11_blanks) (as := []) i_X11_125_11 eX11_blanks hI dX11_readsStep_165 (cP_blanks (by omega) hI fs.2.2.2.2.choose_spec) (by omega) rfl rfl (Nat.le_of_ble_eq_true rfl) (fun h hI fr => ?_)
  replace hF := mFr.tr hF fr
  replace fs : FS t n V0 _ kk pp := ⟨by rw [sv_nj (by decide)]; exact fs.1, by rw [sv_nj (by decide)]; exact fs.2.1, fs.2.2.1, fs.2.2.2.1.a4 (y := nI (bl t n fs.2.2.2.2.choose)), _, fs.2.2.2.2.choose_spec.at (bl_le (t := t) fs.2.2.2.2.choose_spec.2.2.2.2).2⟩
  refine g_aload_n (pc := 168) dX11_readsStep_168 rfl ?_
  refine g_getfield (pc := 169) f_X11_119_11 dX11_readsStep_169 hI.1 mf_5 ?_
  refine g_if_ne (pc := 172) 199 dX11_readsStep_172 (by decide) (fun c_172 => ?_) (fun c_172 => absurd c_172 fs.ne)
  refine g_aload_n (pc := 199) dX11_readsStep_199 rfl ?_
  refine g_bipush (pc := 200) (v := 93) dX11_readsStep_200 (by decide) ?_
  refine m_cVv (pc := 202) (M' := mX11_sign) (as := [_]) i_X11_179_11 eX11_sign hI dX11_readsStep_202 (c_sign1 hI fs.ne _) (by omega) rfl rfl (Nat.le_of_ble_eq_true rfl) (fun h hI fr => ?_)
  replace hF := mFr.tr hF fr
  refine g_aload_n (pc := 205) dX11_readsStep_205 rfl ?_
  refine g_dup (pc := 206) dX11_readsStep_206 rfl ?_
  refine g_getfield (pc := 207) f_X11_162_11 dX11_readsStep_207 hI.1 mf_8 ?_
  refine g_iconst (pc := 210) (v := 1) dX11_readsStep_210 (by decide) ?_
  refine g_isub (pc := 211) dX11_readsStep_211 ?_
  refine m_put (pc := 212) hI w_X11_162_11 rfl (by decide) dX11_readsStep_212 (fun h hI fr => ?_)
  replace hF := mFr.tr hF fr
  replace fs := FS.f0I hI fs (Or.inl ⟨rfl, by omega⟩) (by decide)
  refine g_aload_n (pc := 215) dX11_readsStep_215 rfl ?_
  refine g_iconst (pc := 216) (v := 3) dX11_readsStep_216 (by decide) ?_
  refine g_aload_n (pc := 217) dX11_readsStep_217 rfl ?_
  refine g_getfield (pc := 218) f_X11_257_11 dX11_readsStep_218 hI.1 mf_30 ?_
  refine m_rast (pc := 221) (k := 29) (n := 4) hI rfl (by show _ < 80; omega) dX11_readsStep_221 (j := 3) rfl (by omega) (by decide) (fun h hI fr => ?_)
  replace hF := mFr.tr hF fr
  replace fs := FS.rowI hI fs (by omega) (rdX29 (by omega))
  refine g_aload_n (pc := 222) dX11_readsStep_222 rfl ?_
  refine g_bipush (pc := 223) (v := 59) dX11_readsStep_223 (by decide) ?_
  refine m_cVv (pc := 225) (M' := mX11_sign) (as := [_]) i_X11_179_11 eX11_sign hI dX11_readsStep_225 (c_sign1 hI fs.ne _) (by omega) rfl rfl (Nat.le_of_ble_eq_true rfl) (fun h hI fr => ?_)
  replace hF := mFr.tr hF fr
  refine g_return (pc := 228) dX11_readsStep_228 rfl ?_
  exact ⟨rfl, _, hI, hF, fs.2.2.2.1, fs.1, fs.2.1, fs.2.2.1, fs.2.2.2.2⟩
set_option maxHeartbeats 1000000 in
theorem l_kf6_199 {bc bs kk pp : Nat} {V0 : mV} {h0 : jH} {x : pR (List sr)} {i0 : Nat} (hd : 3 ≤ d) (hi : i < 80) (hI : InvM am V h) (hF : mFr h0 h) (fs : FS t n V0 V kk pp) (hx : x = .inl (kk, pp)) : G E d bc bs mX11_readsStep 199 [some (vR (nMo am)), some (vI 6), some (vR (nMr am 29 i))] [] h (wkQ am V0 h0 t n o i0 x) := by
  subst hx
  refine g_aload_n (pc := 199) dX11_readsStep_199 rfl ?_
  refine g_bipush (pc := 200) (v := 93) dX11_readsStep_200 (by decide) ?_
  refine m_cVv (pc := 202) (M' := mX11_sign) (as := [_]) i_X11_179_11 eX11_sign hI dX11_readsStep_202 (c_sign1 hI fs.ne _) (by omega) rfl rfl (Nat.le_of_ble_eq_true rfl) (fun h hI fr => ?_)
  replace hF := mFr.tr hF fr
  refine g_aload_n (pc := 205) dX11_readsStep_205 rfl ?_
  refine g_dup (pc := 206) dX11_readsStep_206 rfl ?_
  refine g_getfield (pc := 207) f_X11_162_11 dX11_readsStep_207 hI.1 mf_8 ?_
  refine g_iconst (pc := 210) (v := 1) dX11_readsStep_210 (by decide) ?_
  refine g_isub (pc := 211) dX11_readsStep_211 ?_
  refine m_put (pc := 212) hI w_X11_162_11 rfl (by decide) dX11_readsStep_212 (fun h hI fr => ?_)
  replace hF := mFr.tr hF fr
  replace fs := FS.f0I hI fs (Or.inl ⟨rfl, by omega⟩) (by decide)
  refine g_aload_n (pc := 215) dX11_readsStep_215 rfl ?_
  refine g_iconst (pc := 216) (v := 3) dX11_readsStep_216 (by decide) ?_
  refine g_aload_n (pc := 217) dX11_readsStep_217 rfl ?_
  refine g_getfield (pc := 218) f_X11_257_11 dX11_readsStep_218 hI.1 mf_30 ?_
  refine m_rast (pc := 221) (k := 29) (n := 4) hI rfl (by show _ < 80; omega) dX11_readsStep_221 (j := 3) rfl (by omega) (by decide) (fun h hI fr => ?_)
  replace hF := mFr.tr hF fr
  replace fs := FS.rowI hI fs (by omega) (rdX29 (by omega))
  refine g_aload_n (pc := 222) dX11_readsStep_222 rfl ?_
  refine g_bipush (pc := 223) (v := 59) dX11_readsStep_223 (by decide) ?_
  refine m_cVv (pc := 225) (M' := mX11_sign) (as := [_]) i_X11_179_11 eX11_sign hI dX11_readsStep_225 (c_sign1 hI fs.ne _) (by omega) rfl rfl (Nat.le_of_ble_eq_true rfl) (fun h hI fr => ?_)
  replace hF := mFr.tr hF fr
  refine g_return (pc := 228) dX11_readsStep_228 rfl ?_
  exact ⟨rfl, _, hI, hF, fs.2.2.2.1, fs.1, fs.2.1, fs.2.2.1, fs.2.2.2.2⟩
set_option maxHeartbeats 1000000 in
theorem l_kf6_205 {bc bs kk pp : Nat} {V0 : mV} {h0 : jH} {x : pR (List sr)} {i0 : Nat} (hd : 3 ≤ d) (hi : i < 80) (hI : InvM am V h) (hF : mFr h0 h) (fs : FS t n V0 V kk pp) (hx : x = .inl (kk, pp)) : G E d bc bs mX11_readsStep 205 [some (vR (nMo am)), some (vI 6), some (vR (nMr am 29 i))] [] h (wkQ am V0 h0 t n o i0 x) := by
  subst hx
  refine g_aload_n (pc := 205) dX11_readsStep_205 rfl ?_
  refine g_dup (pc := 206) dX11_readsStep_206 rfl ?_
  refine g_getfield (pc := 207) f_X11_162_11 dX11_readsStep_207 hI.1 mf_8 ?_
  refine g_iconst (pc := 210) (v := 1) dX11_readsStep_210 (by decide) ?_
  refine g_isub (pc := 211) dX11_readsStep_211 ?_
  refine m_put (pc := 212) hI w_X11_162_11 rfl (by decide) dX11_readsStep_212 (fun h hI fr => ?_)
  replace hF := mFr.tr hF fr
  replace fs := FS.f0I hI fs (Or.inl ⟨rfl, by omega⟩) (by decide)
  refine g_aload_n (pc := 215) dX11_readsStep_215 rfl ?_
  refine g_iconst (pc := 216) (v := 3) dX11_readsStep_216 (by decide) ?_
  refine g_aload_n (pc := 217) dX11_readsStep_217 rfl ?_
  refine g_getfield (pc := 218) f_X11_257_11 dX11_readsStep_218 hI.1 mf_30 ?_
  refine m_rast (pc := 221) (k := 29) (n := 4) hI rfl (by show _ < 80; omega) dX11_readsStep_221 (j := 3) rfl (by omega) (by decide) (fun h hI fr => ?_)
  replace hF := mFr.tr hF fr
  replace fs := FS.rowI hI fs (by omega) (rdX29 (by omega))
  refine g_aload_n (pc := 222) dX11_readsStep_222 rfl ?_
  refine g_bipush (pc := 223) (v := 59) dX11_readsStep_223 (by decide) ?_
  refine m_cVv (pc := 225) (M' := mX11_sign) (as := [_]) i_X11_179_11 eX11_sign hI dX11_readsStep_225 (c_sign1 hI fs.ne _) (by omega) rfl rfl (Nat.le_of_ble_eq_true rfl) (fun h hI fr => ?_)
  replace hF := mFr.tr hF fr
  refine g_return (pc := 228) dX11_readsStep_228 rfl ?_
  exact ⟨rfl, _, hI, hF, fs.2.2.2.1, fs.1, fs.2.1, fs.2.2.1, fs.2.2.2.2⟩
/-- a step is begun: its row is i, its kind k -/
def kS (V0 W : mV) (t : Nat → Nat) (n p o i k : Nat) (g : HD) : Prop := rdE V0 W ∧ PS W t n p ∧ W 0 5 = 0 ∧ W 0 8 = nI o ∧ W 0 30 = nI (i + 1) ∧ (∀ q, q < i → W (1000 * 29 + q) = V0 (1000 * 29 + q)) ∧ W (1000 * 29 + i) 0 = nI k ∧ tdS W g
theorem kS.at {V0 W : mV} {t : Nat → Nat} {n p o i k q : Nat} {g : HD} (h : kS V0 W t n p o i k g) (hq : q ≤ n) : kS V0 (sv W 0 4 (nI q)) t n q o i k g := by
  obtain ⟨h1, h2, h3, h4, h5, h6, h7, h8⟩ := h
  exact ⟨h1.a4, h2.at hq, by rw [sv_nj (by decide)]; exact h3, by rw [sv_nj (by decide)]; exact h4, by rw [sv_nj (by decide)]; exact h5, fun r hr => by rw [sv_ne (by omega)]; exact h6 r hr, by rw [sv_ne (by omega)]; exact h7, h8.rd rdE.rf.a4⟩
theorem kS.row {V0 W : mV} {t : Nat → Nat} {n p o i k j : Nat} {g : HD} {y : Int32} (h : kS V0 W t n p o i k g) (hi : i < 80) (hj : ¬ j = 0) : kS V0 (sv W (1000 * 29 + i) j y) t n p o i k g := by
  obtain ⟨h1, h2, h3, h4, h5, h6, h7, h8⟩ := h
  exact ⟨h1.svv (rdX29 (by omega)), h2.out (by omega) (fun e => by omega), by rw [sv_ne (by omega)]; exact h3, by rw [sv_ne (by omega)]; exact h4, by rw [sv_ne (by omega)]; exact h5, fun r hr => by rw [sv_ne (by omega)]; exact h6 r hr, by rw [sv_nj (fun e => hj e.symm)]; exact h7, h8.rd (rdE.rf.svv (rdX29 (by omega)))⟩

set_option maxHeartbeats 1000000 in
theorem l_kend {bc bs p k x y : Nat} {z : Int32} {V0 : mV} {h0 : jH} {c : List sr} (hd : 3 ≤ d) (hi : i < 80) (hI : InvM am V h) (hF : mFr h0 h) (rd : rdE V0 V) (hp : PS V t n p) (hf : V 0 5 = 0) (h8 : V 0 8 = nI o) (h30 : V 0 30 = nI (i + 1 + c.length)) (e1 : ∀ q, q < i → V (1000 * 29 + q) = V0 (1000 * 29 + q)) (r0 : V (1000 * 29 + i) 0 = nI k) (r1 : ¬ k = 5 → V (1000 * 29 + i) 1 = nI x) (r2 : k = 3 → V (1000 * 29 + i) 2 = nI y) (e2 : ∀ j, j < c.length → RW V (i + 1 + j) (c.getD j s0)) : G E d bc bs mX11_readsStep 215 [some (vR (nMo am)), some (vI z), some (vR (nMr am 29 i))] [] h (wkQ am V0 h0 t n o i (stE t n ((k, x, y, i + 1 + c.length) :: c) p)) := by
  refine g_aload_n (pc := 215) dX11_readsStep_215 rfl ?_
  refine g_iconst (pc := 216) (v := 3) dX11_readsStep_216 (by decide) ?_
  refine g_aload_n (pc := 217) dX11_readsStep_217 rfl ?_
  refine g_getfield (pc := 218) f_X11_257_11 dX11_readsStep_218 hI.1 mf_30 ?_
  rw [h30]
  refine m_rast (pc := 221) (k := 29) (n := 4) hI rfl (by show _ < 80; omega) dX11_readsStep_221 (j := 3) rfl (by omega) (by decide) (fun h hI fr => ?_)
  replace hF := mFr.tr hF fr
  have hp2 : PS (sv V (1000 * 29 + i) 3 (nI (i + 1 + c.length))) t n p := hp.out (by omega) (fun e => by omega)
  have hf2 : sv V (1000 * 29 + i) 3 (nI (i + 1 + c.length)) 0 5 = 0 := by rw [sv_ne (by omega)]; exact hf
  refine g_aload_n (pc := 222) dX11_readsStep_222 rfl ?_
  refine g_bipush (pc := 223) (v := 59) dX11_readsStep_223 (by decide) ?_
  refine m_cVv (pc := 225) (M' := mX11_sign) (as := [_]) i_X11_179_11 eX11_sign hI dX11_readsStep_225 (c_sign (by omega) hI hp2 hf2 59) (by omega) rfl rfl (Nat.le_of_ble_eq_true rfl) (fun h hI fr => ?_)
  replace hF := mFr.tr hF fr
  refine g_return (pc := 228) dX11_readsStep_228 rfl ?_
  refine sg_cases' (c := 59) (by decide) hp2 hf2 (rd.svv (rdX29 (by omega))) (fun e3 ny fs => ?_) (fun e3 y3 hp5 hf5 rd5 hlt5 => ?_)
  · rw [if_neg ny] at hI
    rw [show stE t n ((k, x, y, i + 1 + c.length) :: c) p = .inl (1, bl t n p) by unfold stE; rw [e3]; rfl]
    exact ⟨rfl, _, hI, hF, fs.2.2.2.1, fs.1, fs.2.1, fs.2.2.1, fs.2.2.2.2⟩
  · rw [if_pos y3] at hI
    rw [show stE t n ((k, x, y, i + 1 + c.length) :: c) p = .inr (bl t n p + 1, (k, x, y, i + 1 + c.length) :: c) by unfold stE; rw [e3]; rfl]
    refine ⟨rfl, _, hI, hF, rd5, hf5, hp5, ?_, ?_, fun q hq => ?_, fun j hj => ?_⟩
    · rw [sv_nj (by decide), sv_ne (by omega)]; exact h8
    · rw [sv_nj (by decide), sv_ne (by omega), h30]
      show nI (i + 1 + c.length) = nI (i + (c.length + 1))
      rw [show i + 1 + c.length = i + (c.length + 1) by omega]
    · rw [sv_ne (by omega), sv_ne (by omega)]; exact e1 q hq
    · cases j with
      | zero =>
        have E0 : ∀ w, ¬ w = 3 → sv (sv V (1000 * 29 + i) 3 (nI (i + 1 + c.length))) 0 4 (nI (bl t n p + 1)) (1000 * 29 + (i + 0)) w = V (1000 * 29 + i) w := fun w hw => by
          rw [show i + 0 = i from rfl, sv_ne (by omega), sv_nj hw]
        refine ⟨(E0 0 (by decide)).trans r0, fun z => (E0 1 (by decide)).trans (r1 z), fun z => (E0 2 (by decide)).trans (r2 z), ?_⟩
        rw [show i + 0 = i from rfl, sv_ne (by omega), sv_same]
        rfl
      | succ j =>
        have hj2 : j < c.length := by simpa using hj
        have := e2 j hj2
        rw [show i + 1 + j = i + (j + 1) by omega] at this
        refine RW.of this ?_
        rw [sv_ne (by omega), sv_ne (by omega)]
set_option maxHeartbeats 2000000 in
theorem l_k0 {bc bs : Nat} {V0 : mV} {h0 : jH} (hd : 3 ≤ d) (hi : i < 80) (hI : InvM am V h) (hF : mFr h0 h) (ks : kS V0 V t n a o i 0 g) : G E d bc bs mX11_readsStep 69 [some (vR (nMo am)), some (vI 0), some (vR (nMr am 29 i))] [] h (wkQ am V0 h0 t n o i (pB (nuP t n 0 (nI (gR g) - 1) a) fun p x => stE t n [(0, x, 0, i + 1)] p)) := by
  have hale := ks.2.1.2.2.2.2
  refine g_iload_n (pc := 69) dX11_readsStep_69 rfl ?_
  refine g_iconst (pc := 70) (v := 2) dX11_readsStep_70 (by decide) ?_
  refine g_icmp_lt (pc := 71) 79 dX11_readsStep_71 (by decide) (fun c_71 => ?_) (fun c_71 => absurd (show (0 : Int32) < 2 by decide) c_71)
  refine g_aload_n (pc := 79) dX11_readsStep_79 rfl ?_
  refine g_iconst (pc := 80) (v := 1) dX11_readsStep_80 (by decide) ?_
  refine g_aload_n (pc := 81) dX11_readsStep_81 rfl ?_
  refine g_iconst (pc := 82) (v := 0) dX11_readsStep_82 (by decide) ?_
  refine g_aload_n (pc := 83) dX11_readsStep_83 rfl ?_
  refine g_getfield (pc := 84) f_X11_23_11 dX11_readsStep_84 hI.1 mf_12 ?_
  refine g_iconst (pc := 87) (v := 1) dX11_readsStep_87 (by decide) ?_
  refine g_iaload (pc := 88) dX11_readsStep_88 (mA hI 12 3 rfl (by decide)) (j := 1) rfl (by omega) (by decide) rfl ?_
  rw [ks.2.2.2.2.2.2.2.2.1]
  refine g_iconst (pc := 89) (v := 1) dX11_readsStep_89 (by decide) ?_
  refine g_isub (pc := 90) dX11_readsStep_90 ?_
  refine m_cV (pc := 91) (M' := mX11_number) (as := [_, _]) i_X11_175_11 eX11_number hI dX11_readsStep_91 (c_number (by omega) hI ks.2.1 ks.2.2.1 _ _) (by omega) rfl rfl (Nat.le_of_ble_eq_true rfl) (fun h hI fr => ?_)
  replace hF := mFr.tr hF fr
  refine num_cases (lo := 0) (hi := nI (gR g) - 1) hale ks.2.1 ks.2.2.1 ks.1 (fun kk pp ex1 fs ez => ?_) (fun p1 x1 ex1 ev ez hv hin hpn hp3 rd3 hf3 => ?_)
  · rw [ez, ex1]
    exact l_kf0_94 hd hi hI hF fs rfl
  · rw [ez, ex1]
    rw [ev] at hI
    change G _ _ _ _ _ _ _ _ _ (wkQ am V0 h0 t n o i (stE t n [(0, x1, 0, i + 1)] p1))
    refine m_rast (pc := 94) (k := 29) (n := 4) hI rfl (by show _ < 80; omega) dX11_readsStep_94 (j := 1) rfl (by omega) (by decide) (fun h hI fr => ?_)
    replace hF := mFr.tr hF fr
    have ks : kS V0 (sv (sv V 0 4 (nI p1)) (1000 * 29 + i) 1 (nI x1)) t n p1 o i 0 g := (ks.at hpn).row hi (by decide)
    refine g_iload_n (pc := 95) dX11_readsStep_95 rfl ?_
    refine g_iconst (pc := 96) (v := 2) dX11_readsStep_96 (by decide) ?_
    refine g_icmp_eq (pc := 97) 105 dX11_readsStep_97 (by decide) (fun c_97 => absurd c_97 (by decide)) (fun c_97 => ?_)
    refine g_iload_n (pc := 100) dX11_readsStep_100 rfl ?_
    refine g_iconst (pc := 101) (v := 4) dX11_readsStep_101 (by decide) ?_
    refine g_icmp_ne (pc := 102) 121 dX11_readsStep_102 (by decide) (fun c_102 => ?_) (fun c_102 => absurd c_102 (by decide))
    refine g_iload_n (pc := 121) dX11_readsStep_121 rfl ?_
    refine g_iconst (pc := 122) (v := 3) dX11_readsStep_122 (by decide) ?_
    refine g_icmp_ne (pc := 123) 142 dX11_readsStep_123 (by decide) (fun c_123 => ?_) (fun c_123 => absurd c_123 (by decide))
    refine g_iload_n (pc := 142) dX11_readsStep_142 rfl ?_
    refine g_bipush (pc := 143) (v := 6) dX11_readsStep_143 (by decide) ?_
    refine g_icmp_ne (pc := 145) 215 dX11_readsStep_145 (by decide) (fun c_145 => ?_) (fun c_145 => absurd c_145 (by decide))
    refine l_kend (c := []) (k := 0) (x := x1) (y := 0) hd hi hI hF ks.1 ks.2.1 ks.2.2.1 ks.2.2.2.1 ks.2.2.2.2.1 ks.2.2.2.2.2.1 ks.2.2.2.2.2.2.1 (fun e => by rw [sv_same]) (fun e => absurd e (by decide)) (fun j hj => absurd hj (Nat.not_lt_zero j))
set_option maxHeartbeats 2000000 in
theorem l_k1 {bc bs : Nat} {V0 : mV} {h0 : jH} (hd : 3 ≤ d) (hi : i < 80) (hI : InvM am V h) (hF : mFr h0 h) (ks : kS V0 V t n a o i 1 g) : G E d bc bs mX11_readsStep 69 [some (vR (nMo am)), some (vI 1), some (vR (nMr am 29 i))] [] h (wkQ am V0 h0 t n o i (pB (nuP t n 0 (nI (gR g) - 1) a) fun p x => stE t n [(1, x, 0, i + 1)] p)) := by
  have hale := ks.2.1.2.2.2.2
  refine g_iload_n (pc := 69) dX11_readsStep_69 rfl ?_
  refine g_iconst (pc := 70) (v := 2) dX11_readsStep_70 (by decide) ?_
  refine g_icmp_lt (pc := 71) 79 dX11_readsStep_71 (by decide) (fun c_71 => ?_) (fun c_71 => absurd (show (1 : Int32) < 2 by decide) c_71)
  refine g_aload_n (pc := 79) dX11_readsStep_79 rfl ?_
  refine g_iconst (pc := 80) (v := 1) dX11_readsStep_80 (by decide) ?_
  refine g_aload_n (pc := 81) dX11_readsStep_81 rfl ?_
  refine g_iconst (pc := 82) (v := 0) dX11_readsStep_82 (by decide) ?_
  refine g_aload_n (pc := 83) dX11_readsStep_83 rfl ?_
  refine g_getfield (pc := 84) f_X11_23_11 dX11_readsStep_84 hI.1 mf_12 ?_
  refine g_iconst (pc := 87) (v := 1) dX11_readsStep_87 (by decide) ?_
  refine g_iaload (pc := 88) dX11_readsStep_88 (mA hI 12 3 rfl (by decide)) (j := 1) rfl (by omega) (by decide) rfl ?_
  rw [ks.2.2.2.2.2.2.2.2.1]
  refine g_iconst (pc := 89) (v := 1) dX11_readsStep_89 (by decide) ?_
  refine g_isub (pc := 90) dX11_readsStep_90 ?_
  refine m_cV (pc := 91) (M' := mX11_number) (as := [_, _]) i_X11_175_11 eX11_number hI dX11_readsStep_91 (c_number (by omega) hI ks.2.1 ks.2.2.1 _ _) (by omega) rfl rfl (Nat.le_of_ble_eq_true rfl) (fun h hI fr => ?_)
  replace hF := mFr.tr hF fr
  refine num_cases (lo := 0) (hi := nI (gR g) - 1) hale ks.2.1 ks.2.2.1 ks.1 (fun kk pp ex1 fs ez => ?_) (fun p1 x1 ex1 ev ez hv hin hpn hp3 rd3 hf3 => ?_)
  · rw [ez, ex1]
    exact l_kf1_94 hd hi hI hF fs rfl
  · rw [ez, ex1]
    rw [ev] at hI
    change G _ _ _ _ _ _ _ _ _ (wkQ am V0 h0 t n o i (stE t n [(1, x1, 0, i + 1)] p1))
    refine m_rast (pc := 94) (k := 29) (n := 4) hI rfl (by show _ < 80; omega) dX11_readsStep_94 (j := 1) rfl (by omega) (by decide) (fun h hI fr => ?_)
    replace hF := mFr.tr hF fr
    have ks : kS V0 (sv (sv V 0 4 (nI p1)) (1000 * 29 + i) 1 (nI x1)) t n p1 o i 1 g := (ks.at hpn).row hi (by decide)
    refine g_iload_n (pc := 95) dX11_readsStep_95 rfl ?_
    refine g_iconst (pc := 96) (v := 2) dX11_readsStep_96 (by decide) ?_
    refine g_icmp_eq (pc := 97) 105 dX11_readsStep_97 (by decide) (fun c_97 => absurd c_97 (by decide)) (fun c_97 => ?_)
    refine g_iload_n (pc := 100) dX11_readsStep_100 rfl ?_
    refine g_iconst (pc := 101) (v := 4) dX11_readsStep_101 (by decide) ?_
    refine g_icmp_ne (pc := 102) 121 dX11_readsStep_102 (by decide) (fun c_102 => ?_) (fun c_102 => absurd c_102 (by decide))
    refine g_iload_n (pc := 121) dX11_readsStep_121 rfl ?_
    refine g_iconst (pc := 122) (v := 3) dX11_readsStep_122 (by decide) ?_
    refine g_icmp_ne (pc := 123) 142 dX11_readsStep_123 (by decide) (fun c_123 => ?_) (fun c_123 => absurd c_123 (by decide))
    refine g_iload_n (pc := 142) dX11_readsStep_142 rfl ?_
    refine g_bipush (pc := 143) (v := 6) dX11_readsStep_143 (by decide) ?_
    refine g_icmp_ne (pc := 145) 215 dX11_readsStep_145 (by decide) (fun c_145 => ?_) (fun c_145 => absurd c_145 (by decide))
    refine l_kend (c := []) (k := 1) (x := x1) (y := 0) hd hi hI hF ks.1 ks.2.1 ks.2.2.1 ks.2.2.2.1 ks.2.2.2.2.1 ks.2.2.2.2.2.1 ks.2.2.2.2.2.2.1 (fun e => by rw [sv_same]) (fun e => absurd e (by decide)) (fun j hj => absurd hj (Nat.not_lt_zero j))
set_option maxHeartbeats 2000000 in
theorem l_k2 {bc bs : Nat} {V0 : mV} {h0 : jH} (hd : 3 ≤ d) (hi : i < 80) (hI : InvM am V h) (hF : mFr h0 h) (ks : kS V0 V t n a o i 2 g) : G E d bc bs mX11_readsStep 69 [some (vR (nMo am)), some (vI 2), some (vR (nMr am 29 i))] [] h (wkQ am V0 h0 t n o i (pB (nuP t n 0 (nI (gS g) - 1) a) fun p x => stE t n [(2, x, 0, i + 1)] p)) := by
  have hale := ks.2.1.2.2.2.2
  refine g_iload_n (pc := 69) dX11_readsStep_69 rfl ?_
  refine g_iconst (pc := 70) (v := 2) dX11_readsStep_70 (by decide) ?_
  refine g_icmp_lt (pc := 71) 79 dX11_readsStep_71 (by decide) (fun c_71 => absurd c_71 (by decide)) (fun c_71 => ?_)
  refine g_iload_n (pc := 74) dX11_readsStep_74 rfl ?_
  refine g_iconst (pc := 75) (v := 3) dX11_readsStep_75 (by decide) ?_
  refine g_icmp_ne (pc := 76) 95 dX11_readsStep_76 (by decide) (fun c_76 => ?_) (fun c_76 => absurd c_76 (by decide))
  refine g_iload_n (pc := 95) dX11_readsStep_95 rfl ?_
  refine g_iconst (pc := 96) (v := 2) dX11_readsStep_96 (by decide) ?_
  refine g_icmp_eq (pc := 97) 105 dX11_readsStep_97 (by decide) (fun c_97 => ?_) (fun c_97 => absurd rfl c_97)
  refine g_aload_n (pc := 105) dX11_readsStep_105 rfl ?_
  refine g_iconst (pc := 106) (v := 1) dX11_readsStep_106 (by decide) ?_
  refine g_aload_n (pc := 107) dX11_readsStep_107 rfl ?_
  refine g_iconst (pc := 108) (v := 0) dX11_readsStep_108 (by decide) ?_
  refine g_aload_n (pc := 109) dX11_readsStep_109 rfl ?_
  refine g_getfield (pc := 110) f_X11_23_11 dX11_readsStep_110 hI.1 mf_12 ?_
  refine g_iconst (pc := 113) (v := 0) dX11_readsStep_113 (by decide) ?_
  refine g_iaload (pc := 114) dX11_readsStep_114 (mA hI 12 3 rfl (by decide)) (j := 0) rfl (by omega) (by decide) rfl ?_
  rw [ks.2.2.2.2.2.2.2.1]
  refine g_iconst (pc := 115) (v := 1) dX11_readsStep_115 (by decide) ?_
  refine g_isub (pc := 116) dX11_readsStep_116 ?_
  refine m_cV (pc := 117) (M' := mX11_number) (as := [_, _]) i_X11_175_11 eX11_number hI dX11_readsStep_117 (c_number (by omega) hI ks.2.1 ks.2.2.1 _ _) (by omega) rfl rfl (Nat.le_of_ble_eq_true rfl) (fun h hI fr => ?_)
  replace hF := mFr.tr hF fr
  refine num_cases (lo := 0) (hi := nI (gS g) - 1) hale ks.2.1 ks.2.2.1 ks.1 (fun kk pp ex1 fs ez => ?_) (fun p1 x1 ex1 ev ez hv hin hpn hp3 rd3 hf3 => ?_)
  · rw [ez, ex1]
    exact l_kf2_120 hd hi hI hF fs rfl
  · rw [ez, ex1]
    rw [ev] at hI
    change G _ _ _ _ _ _ _ _ _ (wkQ am V0 h0 t n o i (stE t n [(2, x1, 0, i + 1)] p1))
    refine m_rast (pc := 120) (k := 29) (n := 4) hI rfl (by show _ < 80; omega) dX11_readsStep_120 (j := 1) rfl (by omega) (by decide) (fun h hI fr => ?_)
    replace hF := mFr.tr hF fr
    have ks : kS V0 (sv (sv V 0 4 (nI p1)) (1000 * 29 + i) 1 (nI x1)) t n p1 o i 2 g := (ks.at hpn).row hi (by decide)
    refine g_iload_n (pc := 121) dX11_readsStep_121 rfl ?_
    refine g_iconst (pc := 122) (v := 3) dX11_readsStep_122 (by decide) ?_
    refine g_icmp_ne (pc := 123) 142 dX11_readsStep_123 (by decide) (fun c_123 => ?_) (fun c_123 => absurd c_123 (by decide))
    refine g_iload_n (pc := 142) dX11_readsStep_142 rfl ?_
    refine g_bipush (pc := 143) (v := 6) dX11_readsStep_143 (by decide) ?_
    refine g_icmp_ne (pc := 145) 215 dX11_readsStep_145 (by decide) (fun c_145 => ?_) (fun c_145 => absurd c_145 (by decide))
    refine l_kend (c := []) (k := 2) (x := x1) (y := 0) hd hi hI hF ks.1 ks.2.1 ks.2.2.1 ks.2.2.2.1 ks.2.2.2.2.1 ks.2.2.2.2.2.1 ks.2.2.2.2.2.2.1 (fun e => by rw [sv_same]) (fun e => absurd e (by decide)) (fun j hj => absurd hj (Nat.not_lt_zero j))
set_option maxHeartbeats 2000000 in
theorem l_k3 {bc bs : Nat} {V0 : mV} {h0 : jH} (hd : 3 ≤ d) (hi : i < 80) (hI : InvM am V h) (hF : mFr h0 h) (ks : kS V0 V t n a o i 3 g) : G E d bc bs mX11_readsStep 69 [some (vR (nMo am)), some (vI 3), some (vR (nMr am 29 i))] [] h (wkQ am V0 h0 t n o i (pB (nuP t n 0 (nI (gR g) - 1) a) fun p x => pB (nuP t n 0 (nI (gP g) - 1) p) fun p y => stE t n [(3, x, y, i + 1)] p)) := by
  have hale := ks.2.1.2.2.2.2
  refine g_iload_n (pc := 69) dX11_readsStep_69 rfl ?_
  refine g_iconst (pc := 70) (v := 2) dX11_readsStep_70 (by decide) ?_
  refine g_icmp_lt (pc := 71) 79 dX11_readsStep_71 (by decide) (fun c_71 => absurd c_71 (by decide)) (fun c_71 => ?_)
  refine g_iload_n (pc := 74) dX11_readsStep_74 rfl ?_
  refine g_iconst (pc := 75) (v := 3) dX11_readsStep_75 (by decide) ?_
  refine g_icmp_ne (pc := 76) 95 dX11_readsStep_76 (by decide) (fun c_76 => absurd rfl c_76) (fun c_76 => ?_)
  refine g_aload_n (pc := 79) dX11_readsStep_79 rfl ?_
  refine g_iconst (pc := 80) (v := 1) dX11_readsStep_80 (by decide) ?_
  refine g_aload_n (pc := 81) dX11_readsStep_81 rfl ?_
  refine g_iconst (pc := 82) (v := 0) dX11_readsStep_82 (by decide) ?_
  refine g_aload_n (pc := 83) dX11_readsStep_83 rfl ?_
  refine g_getfield (pc := 84) f_X11_23_11 dX11_readsStep_84 hI.1 mf_12 ?_
  refine g_iconst (pc := 87) (v := 1) dX11_readsStep_87 (by decide) ?_
  refine g_iaload (pc := 88) dX11_readsStep_88 (mA hI 12 3 rfl (by decide)) (j := 1) rfl (by omega) (by decide) rfl ?_
  rw [ks.2.2.2.2.2.2.2.2.1]
  refine g_iconst (pc := 89) (v := 1) dX11_readsStep_89 (by decide) ?_
  refine g_isub (pc := 90) dX11_readsStep_90 ?_
  refine m_cV (pc := 91) (M' := mX11_number) (as := [_, _]) i_X11_175_11 eX11_number hI dX11_readsStep_91 (c_number (by omega) hI ks.2.1 ks.2.2.1 _ _) (by omega) rfl rfl (Nat.le_of_ble_eq_true rfl) (fun h hI fr => ?_)
  replace hF := mFr.tr hF fr
  refine num_cases (lo := 0) (hi := nI (gR g) - 1) hale ks.2.1 ks.2.2.1 ks.1 (fun kk pp ex1 fs ez => ?_) (fun p1 x1 ex1 ev ez hv hin hpn hp3 rd3 hf3 => ?_)
  · rw [ez, ex1]
    exact l_kf3_94 hd hi hI hF fs rfl
  · rw [ez, ex1]
    rw [ev] at hI
    change G _ _ _ _ _ _ _ _ _ (wkQ am V0 h0 t n o i (pB (nuP t n 0 (nI (gP g) - 1) p1) fun p y => stE t n [(3, x1, y, i + 1)] p))
    refine m_rast (pc := 94) (k := 29) (n := 4) hI rfl (by show _ < 80; omega) dX11_readsStep_94 (j := 1) rfl (by omega) (by decide) (fun h hI fr => ?_)
    replace hF := mFr.tr hF fr
    have ks : kS V0 (sv (sv V 0 4 (nI p1)) (1000 * 29 + i) 1 (nI x1)) t n p1 o i 3 g := (ks.at hpn).row hi (by decide)
    refine g_iload_n (pc := 95) dX11_readsStep_95 rfl ?_
    refine g_iconst (pc := 96) (v := 2) dX11_readsStep_96 (by decide) ?_
    refine g_icmp_eq (pc := 97) 105 dX11_readsStep_97 (by decide) (fun c_97 => absurd c_97 (by decide)) (fun c_97 => ?_)
    refine g_iload_n (pc := 100) dX11_readsStep_100 rfl ?_
    refine g_iconst (pc := 101) (v := 4) dX11_readsStep_101 (by decide) ?_
    refine g_icmp_ne (pc := 102) 121 dX11_readsStep_102 (by decide) (fun c_102 => ?_) (fun c_102 => absurd c_102 (by decide))
    refine g_iload_n (pc := 121) dX11_readsStep_121 rfl ?_
    refine g_iconst (pc := 122) (v := 3) dX11_readsStep_122 (by decide) ?_
    refine g_icmp_ne (pc := 123) 142 dX11_readsStep_123 (by decide) (fun c_123 => absurd rfl c_123) (fun c_123 => ?_)
    refine g_aload_n (pc := 126) dX11_readsStep_126 rfl ?_
    refine g_iconst (pc := 127) (v := 2) dX11_readsStep_127 (by decide) ?_
    refine g_aload_n (pc := 128) dX11_readsStep_128 rfl ?_
    refine g_iconst (pc := 129) (v := 0) dX11_readsStep_129 (by decide) ?_
    refine g_aload_n (pc := 130) dX11_readsStep_130 rfl ?_
    refine g_getfield (pc := 131) f_X11_23_11 dX11_readsStep_131 hI.1 mf_12 ?_
    refine g_iconst (pc := 134) (v := 2) dX11_readsStep_134 (by decide) ?_
    refine g_iaload (pc := 135) dX11_readsStep_135 (mA hI 12 3 rfl (by decide)) (j := 2) rfl (by omega) (by decide) rfl ?_
    rw [ks.2.2.2.2.2.2.2.2.2.1]
    refine g_iconst (pc := 136) (v := 1) dX11_readsStep_136 (by decide) ?_
    refine g_isub (pc := 137) dX11_readsStep_137 ?_
    refine m_cV (pc := 138) (M' := mX11_number) (as := [_, _]) i_X11_175_11 eX11_number hI dX11_readsStep_138 (c_number (by omega) hI ks.2.1 ks.2.2.1 _ _) (by omega) rfl rfl (Nat.le_of_ble_eq_true rfl) (fun h hI fr => ?_)
    replace hF := mFr.tr hF fr
    change G _ _ _ _ _ _ _ _ _ (wkQ am V0 h0 t n o i (pB (nuP t n 0 (nI (gP g) - 1) p1) fun p y => stE t n [(3, x1, y, i + 1)] p))
    refine num_cases (lo := 0) (hi := nI (gP g) - 1) hpn ks.2.1 ks.2.2.1 ks.1 (fun kk pp ex2 fs ez => ?_) (fun p2 x2 ex2 ev ez hv hin hpn2 hp3 rd3 hf3 => ?_)
    · rw [ez, ex2]
      exact l_kf3_141 hd hi hI hF fs rfl
    · rw [ez, ex2]
      rw [ev] at hI
      change G _ _ _ _ _ _ _ _ _ (wkQ am V0 h0 t n o i (stE t n [(3, x1, x2, i + 1)] p2))
      refine m_rast (pc := 141) (k := 29) (n := 4) hI rfl (by show _ < 80; omega) dX11_readsStep_141 (j := 2) rfl (by omega) (by decide) (fun h hI fr => ?_)
      replace hF := mFr.tr hF fr
      have ks : kS V0 (sv (sv (sv (sv V 0 4 (nI p1)) (1000 * 29 + i) 1 (nI x1)) 0 4 (nI p2)) (1000 * 29 + i) 2 (nI x2)) t n p2 o i 3 g := (ks.at hpn2).row hi (by decide)
      refine g_iload_n (pc := 142) dX11_readsStep_142 rfl ?_
      refine g_bipush (pc := 143) (v := 6) dX11_readsStep_143 (by decide) ?_
      refine g_icmp_ne (pc := 145) 215 dX11_readsStep_145 (by decide) (fun c_145 => ?_) (fun c_145 => absurd c_145 (by decide))
      refine l_kend (c := []) (k := 3) (x := x1) (y := x2) hd hi hI hF ks.1 ks.2.1 ks.2.2.1 ks.2.2.2.1 ks.2.2.2.2.1 ks.2.2.2.2.2.1 ks.2.2.2.2.2.2.1 (fun e => by rw [sv_nj (by decide), sv_ne (by omega), sv_same]) (fun e => by rw [sv_same]) (fun j hj => absurd hj (Nat.not_lt_zero j))
set_option maxHeartbeats 2000000 in
theorem l_k4 {bc bs : Nat} {V0 : mV} {h0 : jH} (hd : 3 ≤ d) (hi : i < 80) (hI : InvM am V h) (hF : mFr h0 h) (ks : kS V0 V t n a o i 4 g) : G E d bc bs mX11_readsStep 69 [some (vR (nMo am)), some (vI 4), some (vR (nMr am 29 i))] [] h (wkQ am V0 h0 t n o i (pB (nuP t n 0 (nI (gS g) - 1) a) fun p x => stE t n [(4, x, 0, i + 1)] p)) := by
  have hale := ks.2.1.2.2.2.2
  refine g_iload_n (pc := 69) dX11_readsStep_69 rfl ?_
  refine g_iconst (pc := 70) (v := 2) dX11_readsStep_70 (by decide) ?_
  refine g_icmp_lt (pc := 71) 79 dX11_readsStep_71 (by decide) (fun c_71 => absurd c_71 (by decide)) (fun c_71 => ?_)
  refine g_iload_n (pc := 74) dX11_readsStep_74 rfl ?_
  refine g_iconst (pc := 75) (v := 3) dX11_readsStep_75 (by decide) ?_
  refine g_icmp_ne (pc := 76) 95 dX11_readsStep_76 (by decide) (fun c_76 => ?_) (fun c_76 => absurd c_76 (by decide))
  refine g_iload_n (pc := 95) dX11_readsStep_95 rfl ?_
  refine g_iconst (pc := 96) (v := 2) dX11_readsStep_96 (by decide) ?_
  refine g_icmp_eq (pc := 97) 105 dX11_readsStep_97 (by decide) (fun c_97 => absurd c_97 (by decide)) (fun c_97 => ?_)
  refine g_iload_n (pc := 100) dX11_readsStep_100 rfl ?_
  refine g_iconst (pc := 101) (v := 4) dX11_readsStep_101 (by decide) ?_
  refine g_icmp_ne (pc := 102) 121 dX11_readsStep_102 (by decide) (fun c_102 => absurd rfl c_102) (fun c_102 => ?_)
  refine g_aload_n (pc := 105) dX11_readsStep_105 rfl ?_
  refine g_iconst (pc := 106) (v := 1) dX11_readsStep_106 (by decide) ?_
  refine g_aload_n (pc := 107) dX11_readsStep_107 rfl ?_
  refine g_iconst (pc := 108) (v := 0) dX11_readsStep_108 (by decide) ?_
  refine g_aload_n (pc := 109) dX11_readsStep_109 rfl ?_
  refine g_getfield (pc := 110) f_X11_23_11 dX11_readsStep_110 hI.1 mf_12 ?_
  refine g_iconst (pc := 113) (v := 0) dX11_readsStep_113 (by decide) ?_
  refine g_iaload (pc := 114) dX11_readsStep_114 (mA hI 12 3 rfl (by decide)) (j := 0) rfl (by omega) (by decide) rfl ?_
  rw [ks.2.2.2.2.2.2.2.1]
  refine g_iconst (pc := 115) (v := 1) dX11_readsStep_115 (by decide) ?_
  refine g_isub (pc := 116) dX11_readsStep_116 ?_
  refine m_cV (pc := 117) (M' := mX11_number) (as := [_, _]) i_X11_175_11 eX11_number hI dX11_readsStep_117 (c_number (by omega) hI ks.2.1 ks.2.2.1 _ _) (by omega) rfl rfl (Nat.le_of_ble_eq_true rfl) (fun h hI fr => ?_)
  replace hF := mFr.tr hF fr
  refine num_cases (lo := 0) (hi := nI (gS g) - 1) hale ks.2.1 ks.2.2.1 ks.1 (fun kk pp ex1 fs ez => ?_) (fun p1 x1 ex1 ev ez hv hin hpn hp3 rd3 hf3 => ?_)
  · rw [ez, ex1]
    exact l_kf4_120 hd hi hI hF fs rfl
  · rw [ez, ex1]
    rw [ev] at hI
    change G _ _ _ _ _ _ _ _ _ (wkQ am V0 h0 t n o i (stE t n [(4, x1, 0, i + 1)] p1))
    refine m_rast (pc := 120) (k := 29) (n := 4) hI rfl (by show _ < 80; omega) dX11_readsStep_120 (j := 1) rfl (by omega) (by decide) (fun h hI fr => ?_)
    replace hF := mFr.tr hF fr
    have ks : kS V0 (sv (sv V 0 4 (nI p1)) (1000 * 29 + i) 1 (nI x1)) t n p1 o i 4 g := (ks.at hpn).row hi (by decide)
    refine g_iload_n (pc := 121) dX11_readsStep_121 rfl ?_
    refine g_iconst (pc := 122) (v := 3) dX11_readsStep_122 (by decide) ?_
    refine g_icmp_ne (pc := 123) 142 dX11_readsStep_123 (by decide) (fun c_123 => ?_) (fun c_123 => absurd c_123 (by decide))
    refine g_iload_n (pc := 142) dX11_readsStep_142 rfl ?_
    refine g_bipush (pc := 143) (v := 6) dX11_readsStep_143 (by decide) ?_
    refine g_icmp_ne (pc := 145) 215 dX11_readsStep_145 (by decide) (fun c_145 => ?_) (fun c_145 => absurd c_145 (by decide))
    refine l_kend (c := []) (k := 4) (x := x1) (y := 0) hd hi hI hF ks.1 ks.2.1 ks.2.2.1 ks.2.2.2.1 ks.2.2.2.2.1 ks.2.2.2.2.2.1 ks.2.2.2.2.2.2.1 (fun e => by rw [sv_same]) (fun e => absurd e (by decide)) (fun j hj => absurd hj (Nat.not_lt_zero j))
set_option maxHeartbeats 2000000 in
theorem l_k5 {bc bs : Nat} {V0 : mV} {h0 : jH} (hd : 3 ≤ d) (hi : i < 80) (hI : InvM am V h) (hF : mFr h0 h) (ks : kS V0 V t n a o i 5 g) : G E d bc bs mX11_readsStep 69 [some (vR (nMo am)), some (vI 5), some (vR (nMr am 29 i))] [] h (wkQ am V0 h0 t n o i (stE t n [(5, 0, 0, i + 1)] a)) := by
  have hale := ks.2.1.2.2.2.2
  refine g_iload_n (pc := 69) dX11_readsStep_69 rfl ?_
  refine g_iconst (pc := 70) (v := 2) dX11_readsStep_70 (by decide) ?_
  refine g_icmp_lt (pc := 71) 79 dX11_readsStep_71 (by decide) (fun c_71 => absurd c_71 (by decide)) (fun c_71 => ?_)
  refine g_iload_n (pc := 74) dX11_readsStep_74 rfl ?_
  refine g_iconst (pc := 75) (v := 3) dX11_readsStep_75 (by decide) ?_
  refine g_icmp_ne (pc := 76) 95 dX11_readsStep_76 (by decide) (fun c_76 => ?_) (fun c_76 => absurd c_76 (by decide))
  refine g_iload_n (pc := 95) dX11_readsStep_95 rfl ?_
  refine g_iconst (pc := 96) (v := 2) dX11_readsStep_96 (by decide) ?_
  refine g_icmp_eq (pc := 97) 105 dX11_readsStep_97 (by decide) (fun c_97 => absurd c_97 (by decide)) (fun c_97 => ?_)
  refine g_iload_n (pc := 100) dX11_readsStep_100 rfl ?_
  refine g_iconst (pc := 101) (v := 4) dX11_readsStep_101 (by decide) ?_
  refine g_icmp_ne (pc := 102) 121 dX11_readsStep_102 (by decide) (fun c_102 => ?_) (fun c_102 => absurd c_102 (by decide))
  refine g_iload_n (pc := 121) dX11_readsStep_121 rfl ?_
  refine g_iconst (pc := 122) (v := 3) dX11_readsStep_122 (by decide) ?_
  refine g_icmp_ne (pc := 123) 142 dX11_readsStep_123 (by decide) (fun c_123 => ?_) (fun c_123 => absurd c_123 (by decide))
  refine g_iload_n (pc := 142) dX11_readsStep_142 rfl ?_
  refine g_bipush (pc := 143) (v := 6) dX11_readsStep_143 (by decide) ?_
  refine g_icmp_ne (pc := 145) 215 dX11_readsStep_145 (by decide) (fun c_145 => ?_) (fun c_145 => absurd c_145 (by decide))
  refine l_kend (c := []) (k := 5) (x := 0) (y := 0) hd hi hI hF ks.1 ks.2.1 ks.2.2.1 ks.2.2.2.1 ks.2.2.2.2.1 ks.2.2.2.2.2.1 ks.2.2.2.2.2.2.1 (fun e => absurd rfl e) (fun e => absurd e (by decide)) (fun j hj => absurd hj (Nat.not_lt_zero j))
set_option maxHeartbeats 4000000 in
theorem l_k6 {bc bs m : Nat} {V0 : mV} {h0 : jH} (ihb : WKb E am t n g m) (hd : 2 * (6 - (o + 1)) + 9 ≤ d) (ho : o < 6) (hn : n ≤ 150) (h4 : 4 * i + 3 ≤ a) (hm : 2 * (n - a) ≤ m) (hi : i < 80) (hI : InvM am V h) (hF : mFr h0 h) (ks : kS V0 V t n a (o + 1) i 6 g) : G E d bc bs mX11_readsStep 69 [some (vR (nMo am)), some (vI 6), some (vR (nMr am 29 i))] [] h (wkQ am V0 h0 t n o i (pB (nuP t n 0 40 a) fun p x => pB (sgP t n 91 p) fun p _ => pB (wk t n g m 1 (o + 1) (i + 1) (bl t n p) []) fun p c => pB (sgP t n 93 p) fun p _ => stE t n ((6, x, 0, i + 1 + c.length) :: c) p)) := by
  have hale := ks.2.1.2.2.2.2
  refine g_iload_n (pc := 69) dX11_readsStep_69 rfl ?_
  refine g_iconst (pc := 70) (v := 2) dX11_readsStep_70 (by decide) ?_
  refine g_icmp_lt (pc := 71) 79 dX11_readsStep_71 (by decide) (fun c_71 => absurd c_71 (by decide)) (fun c_71 => ?_)
  refine g_iload_n (pc := 74) dX11_readsStep_74 rfl ?_
  refine g_iconst (pc := 75) (v := 3) dX11_readsStep_75 (by decide) ?_
  refine g_icmp_ne (pc := 76) 95 dX11_readsStep_76 (by decide) (fun c_76 => ?_) (fun c_76 => absurd c_76 (by decide))
  refine g_iload_n (pc := 95) dX11_readsStep_95 rfl ?_
  refine g_iconst (pc := 96) (v := 2) dX11_readsStep_96 (by decide) ?_
  refine g_icmp_eq (pc := 97) 105 dX11_readsStep_97 (by decide) (fun c_97 => absurd c_97 (by decide)) (fun c_97 => ?_)
  refine g_iload_n (pc := 100) dX11_readsStep_100 rfl ?_
  refine g_iconst (pc := 101) (v := 4) dX11_readsStep_101 (by decide) ?_
  refine g_icmp_ne (pc := 102) 121 dX11_readsStep_102 (by decide) (fun c_102 => ?_) (fun c_102 => absurd c_102 (by decide))
  refine g_iload_n (pc := 121) dX11_readsStep_121 rfl ?_
  refine g_iconst (pc := 122) (v := 3) dX11_readsStep_122 (by decide) ?_
  refine g_icmp_ne (pc := 123) 142 dX11_readsStep_123 (by decide) (fun c_123 => ?_) (fun c_123 => absurd c_123 (by decide))
  refine g_iload_n (pc := 142) dX11_readsStep_142 rfl ?_
  refine g_bipush (pc := 143) (v := 6) dX11_readsStep_143 (by decide) ?_
  refine g_icmp_ne (pc := 145) 215 dX11_readsStep_145 (by decide) (fun c_145 => absurd rfl c_145) (fun c_145 => ?_)
  refine g_aload_n (pc := 148) dX11_readsStep_148 rfl ?_
  refine g_iconst (pc := 149) (v := 1) dX11_readsStep_149 (by decide) ?_
  refine g_aload_n (pc := 150) dX11_readsStep_150 rfl ?_
  refine g_iconst (pc := 151) (v := 0) dX11_readsStep_151 (by decide) ?_
  refine g_bipush (pc := 152) (v := 40) dX11_readsStep_152 (by decide) ?_
  refine m_cV (pc := 154) (M' := mX11_number) (as := [_, _]) i_X11_175_11 eX11_number hI dX11_readsStep_154 (c_number (by omega) hI ks.2.1 ks.2.2.1 _ _) (by omega) rfl rfl (Nat.le_of_ble_eq_true rfl) (fun h hI fr => ?_)
  replace hF := mFr.tr hF fr
  refine num_cases (lo := 0) (hi := 40) hale ks.2.1 ks.2.2.1 ks.1 (fun kk pp ex1 fs ez => ?_) (fun p1 x1 ex1 ev ez hv hin hpn hp3 rd3 hf3 => ?_)
  · rw [ez, ex1]
    exact l_kf6_157 (by omega) hi hI hF fs rfl
  · rw [ez, ex1]
    rw [ev] at hI
    change G _ _ _ _ _ _ _ _ _ (wkQ am V0 h0 t n o i (pB (sgP t n 91 p1) fun p _ => pB (wk t n g m 1 (o + 1) (i + 1) (bl t n p) []) fun p c => pB (sgP t n 93 p) fun p _ => stE t n ((6, x1, 0, i + 1 + c.length) :: c) p))
    refine m_rast (pc := 157) (k := 29) (n := 4) hI rfl (by show _ < 80; omega) dX11_readsStep_157 (j := 1) rfl (by omega) (by decide) (fun h hI fr => ?_)
    replace hF := mFr.tr hF fr
    have ks : kS V0 (sv (sv V 0 4 (nI p1)) (1000 * 29 + i) 1 (nI x1)) t n p1 (o + 1) i 6 g := (ks.at hpn).row hi (by decide)
    refine g_aload_n (pc := 158) dX11_readsStep_158 rfl ?_
    refine g_bipush (pc := 159) (v := 91) dX11_readsStep_159 (by decide) ?_
    refine m_cVv (pc := 161) (M' := mX11_sign) (as := [_]) i_X11_179_11 eX11_sign hI dX11_readsStep_161 (c_sign (by omega) hI ks.2.1 ks.2.2.1 91) (by omega) rfl rfl (Nat.le_of_ble_eq_true rfl) (fun h hI fr => ?_)
    replace hF := mFr.tr hF fr
    refine sg_cases' (c := 91) (by decide) ks.2.1 ks.2.2.1 ks.1 (fun e3 ny fs => ?_) (fun e3 y3 hp5 hf5 rd5 hlt5 => ?_)
    · rw [if_neg ny] at hI
      exact l_kf6_164 (by omega) hi hI hF fs (by rw [e3]; rfl)
    · rw [if_pos y3] at hI
      have hb5 := bl_le (t := t) hp5.2.2.2.2
      have hge2 := bl_ge (t := t) (n := n) (a := p1)
      have hge3 := bl_ge (t := t) (n := n) (a := bl t n p1 + 1)
      have hlt1 := nuP_lt hale ex1
      refine g_aload_n (pc := 164) dX11_readsStep_164 rfl ?_
      refine m_cVv (pc := 165) (M' := mX11_blanks) (as := []) i_X11_125_11 eX11_blanks hI dX11_readsStep_165 (cP_blanks (by omega) hI hp5) (by omega) rfl rfl (Nat.le_of_ble_eq_true rfl) (fun h hI fr => ?_)
      replace hF := mFr.tr hF fr
      have hks := (ks.at (q := bl t n p1 + 1) hp5.2.2.2.2).at hb5.2
      have hx1 : sv (sv (sv (sv V 0 4 (nI p1)) (1000 * 29 + i) 1 (nI x1)) 0 4 (nI (bl t n p1 + 1))) 0 4 (nI (bl t n (bl t n p1 + 1))) (1000 * 29 + i) 1 = nI x1 := by rw [sv_ne (by omega), sv_ne (by omega), sv_same]
      rw [e3]
      change G _ _ _ _ _ _ _ _ _ (wkQ am V0 h0 t n o i (pB (wk t n g m 1 (o + 1) (i + 1) (bl t n (bl t n p1 + 1)) []) fun p c => pB (sgP t n 93 p) fun p _ => stE t n ((6, x1, 0, i + 1 + c.length) :: c) p))
      generalize sv (sv (sv (sv V 0 4 (nI p1)) (1000 * 29 + i) 1 (nI x1)) 0 4 (nI (bl t n p1 + 1))) 0 4 (nI (bl t n (bl t n p1 + 1))) = V3 at hI hks hx1
      refine ihb d bc bs V3 V0 V3 h h0 (o + 1) (i + 1) (bl t n (bl t n p1 + 1)) i [] _ hi hI hF hks.1 ⟨hks.2.1, hks.2.2.1, hks.2.2.2.1, hks.2.2.2.2.1, by show 4 * (i + 1) ≤ _; omega, hn, by omega, hks.2.2.2.2.2.2.2⟩ bl_bl (by omega) (by omega) (fun _ _ => rfl) (fun j hj => absurd hj (Nat.not_lt_zero j)) (fun kk pp V4 h ew hI hF fs => ?_) (fun pb c V4 h ew hI hF rdb hsb fo fn => ?_)
      · rw [ew]
        exact l_kf6_199 (by omega) hi hI hF fs rfl
      · rw [ew]
        change G _ _ _ _ _ _ _ _ _ (wkQ am V0 h0 t n o i (pB (sgP t n 93 pb) fun p _ => stE t n ((6, x1, 0, i + 1 + c.length) :: c) p))
        refine g_aload_n (pc := 199) dX11_readsStep_199 rfl ?_
        refine g_bipush (pc := 200) (v := 93) dX11_readsStep_200 (by decide) ?_
        refine m_cVv (pc := 202) (M' := mX11_sign) (as := [_]) i_X11_179_11 eX11_sign hI dX11_readsStep_202 (c_sign (by omega) hI hsb.1 hsb.2.1 93) (by omega) rfl rfl (Nat.le_of_ble_eq_true rfl) (fun h hI fr => ?_)
        replace hF := mFr.tr hF fr
        refine sg_cases' (c := 93) (by decide) hsb.1 hsb.2.1 rdb (fun e3 ny fs => ?_) (fun e3 y3 hp5 hf5 rd5 hlt5 => ?_)
        · rw [if_neg ny] at hI
          exact l_kf6_205 (by omega) hi hI hF fs (by rw [e3]; rfl)
        · rw [if_pos y3] at hI
          rw [e3]
          change G _ _ _ _ _ _ _ _ _ (wkQ am V0 h0 t n o i (stE t n ((6, x1, 0, i + 1 + c.length) :: c) (bl t n pb + 1)))
          refine g_aload_n (pc := 205) dX11_readsStep_205 rfl ?_
          refine g_dup (pc := 206) dX11_readsStep_206 rfl ?_
          refine g_getfield (pc := 207) f_X11_162_11 dX11_readsStep_207 hI.1 mf_8 ?_
          refine g_iconst (pc := 210) (v := 1) dX11_readsStep_210 (by decide) ?_
          refine g_isub (pc := 211) dX11_readsStep_211 ?_
          rw [show sv V4 0 4 (nI (bl t n pb + 1)) 0 8 - 1 = nI o by rw [sv_nj (by decide), hsb.2.2.1]; exact nI_pred o]
          refine m_put (pc := 212) hI w_X11_162_11 rfl (by decide) dX11_readsStep_212 (fun h hI fr => ?_)
          replace hF := mFr.tr hF fr
          have e8 : ∀ j, ¬ j = 8 → ¬ j = 4 → sv (sv V4 0 4 (nI (bl t n pb + 1))) 0 8 (nI o) 0 j = V4 0 j := fun j a b => by rw [sv_nj a, sv_nj b]
          have er : ∀ r, ¬ r = 0 → sv (sv V4 0 4 (nI (bl t n pb + 1))) 0 8 (nI o) r = V4 r := fun r a => by rw [sv_ne a, sv_ne a]
          refine l_kend (k := 6) (x := x1) (y := 0) (by omega) hi hI hF (rd5.svv (Or.inl ⟨rfl, by omega⟩)) (hp5.out (by decide) (fun _ => by decide)) ((e8 5 (by decide) (by decide)).trans hsb.2.1) sv_same ((e8 30 (by decide) (by decide)).trans hsb.2.2.2.1) (fun q hq => ?_) ?_ (fun _ => ?_) (fun e => absurd e (by decide)) (fun j hj => (fn j hj).of (er _ (by omega)))
          · rw [er _ (by omega), fo q (by omega)]
            exact hks.2.2.2.2.2.1 q hq
          · rw [er _ (by omega), fo i (by omega)]
            exact hks.2.2.2.2.2.2.1
          · rw [er _ (by omega), fo i (by omega)]
            exact hx1
set_option maxHeartbeats 8000000 in
theorem wk_step {m : Nat} (ihb : WKb E am t n g m) : WKa E am t n g (m + 1) := by
  intro d V h o i a hI hs hb hm hd
  have hale := hs.1.2.2.2.2
  have wl_le2 : a + wl t n a ≤ n := by have := wl_le (t := t) (n := n) (a := a); omega
  refine ct_of (by decide) (Nat.le_of_ble_eq_true rfl) rfl ?_
  have hF : mFr h h := mFr.rf
  refine g_aload_n (pc := 0) dX11_readsStep_0 rfl ?_
  refine m_cV (pc := 1) (M' := mX11_stepHere) (as := []) i_X11_254_11 eX11_stepHere hI dX11_readsStep_1 (c_stepHere (by omega) hI hs.1 hs.2.1 hb) (by omega) rfl rfl (Nat.le_of_ble_eq_true rfl) (fun h hI fr => ?_)
  replace hF := mFr.tr hF fr
  rcases stN_c t n a with ek | ek | ek | ek | ek | ek | ek | ek
  · have hpos := st_pos (show ¬ stN t n a = 7 by omega)
    have h4i := hs.2.2.2.2.1
    have hn150 := hs.2.2.2.2.2.1
    have hi : i < 80 := by omega
    have hwl2 := wl_le2
    rw [show stI (stN t n a) = 0 by rw [ek]; rfl]
    rw [show wk t n g (m + 1) 0 o i a [] = _ by show (if _ then _ else _) = _; rw [if_pos (show (0 : Nat) = 0 from rfl), if_neg (show ¬ stN t n a = 7 by omega), if_neg (show ¬ stN t n a = 6 by omega), if_neg (show ¬ stN t n a = 5 by omega), if_neg (show ¬ stN t n a = 3 by omega), if_pos (show stN t n a < 2 by omega), ek]]
    refine g_istore_n (pc := 4) (ls' := [_, _, _]) dX11_readsStep_4 (by decide) rfl rfl ?_
    refine g_iload_n (pc := 5) dX11_readsStep_5 rfl ?_
    refine g_iconst (pc := 6) (v := -1) dX11_readsStep_6 (by decide) ?_
    refine g_icmp_ne (pc := 7) 19 dX11_readsStep_7 (by decide) (fun c_7 => ?_) (fun c_7 => absurd c_7 (by decide))
    refine g_iload_n (pc := 19) dX11_readsStep_19 rfl ?_
    refine g_bipush (pc := 20) (v := 6) dX11_readsStep_20 (by decide) ?_
    refine g_icmp_ne (pc := 22) 33 dX11_readsStep_22 (by decide) (fun c_22 => ?_) (fun c_22 => absurd c_22 (by decide))
    refine g_aload_n (pc := 33) dX11_readsStep_33 rfl ?_
    refine g_getfield (pc := 34) f_X11_119_11 dX11_readsStep_34 hI.1 mf_5 ?_
    refine g_if_eq (pc := 37) 41 dX11_readsStep_37 (by decide) (fun c_37 => ?_) (fun c_37 => absurd hs.2.1 c_37)
    refine g_aload_n (pc := 41) dX11_readsStep_41 rfl ?_
    refine m_cVv (pc := 42) (M' := mX11_skipWord) (as := []) i_X11_156_11 eX11_skipWord hI dX11_readsStep_42 (c_skipWord (by omega) hI hs.1) (by omega) rfl rfl (Nat.le_of_ble_eq_true rfl) (fun h hI fr => ?_)
    replace hF := mFr.tr hF fr
    refine g_aload_n (pc := 45) dX11_readsStep_45 rfl ?_
    refine g_getfield (pc := 46) f_X11_70_11 dX11_readsStep_46 hI.1 mf_29 ?_
    refine g_aload_n (pc := 49) dX11_readsStep_49 rfl ?_
    refine g_getfield (pc := 50) f_X11_257_11 dX11_readsStep_50 hI.1 mf_30 ?_
    rw [sv_nj (by decide), hs.2.2.2.1]
    refine g_aaload (pc := 53) (t := 5) rfl rfl dX11_readsStep_53 (mG hI 29 80 rfl (by decide)) (j := i) rfl (by omega) (by decide) rfl ?_
    refine g_astore_n (pc := 54) (ls' := [_, _, _]) dX11_readsStep_54 (by decide) rfl rfl ?_
    refine g_aload_n (pc := 55) dX11_readsStep_55 rfl ?_
    refine g_dup (pc := 56) dX11_readsStep_56 rfl ?_
    refine g_getfield (pc := 57) f_X11_257_11 dX11_readsStep_57 hI.1 mf_30 ?_
    refine g_iconst (pc := 60) (v := 1) dX11_readsStep_60 (by decide) ?_
    refine g_iadd (pc := 61) dX11_readsStep_61 ?_
    rw [sv_nj (by decide), hs.2.2.2.1, nI_1]
    refine m_put (pc := 62) hI w_X11_257_11 rfl (by decide) dX11_readsStep_62 (fun h hI fr => ?_)
    replace hF := mFr.tr hF fr
    refine g_aload_n (pc := 65) dX11_readsStep_65 rfl ?_
    refine g_iconst (pc := 66) (v := 0) dX11_readsStep_66 (by decide) ?_
    refine g_iload_n (pc := 67) dX11_readsStep_67 rfl ?_
    refine m_rast (pc := 68) (k := 29) (n := 4) hI rfl (by show _ < 80; omega) dX11_readsStep_68 (j := 0) rfl (by omega) (by decide) (fun h hI fr => ?_)
    replace hF := mFr.tr hF fr
    have ks : kS V (sv (sv (sv (V) 0 4 (nI (a + wl t n a))) 0 30 (nI (i + 1))) (1000 * 29 + i) 0 0) t n (a + wl t n a) o i 0 g := by
      refine ⟨?_, ?_, ?_, ?_, ?_, fun q hq => ?_, ?_, ?_⟩
      · exact (((rdE.rf : rdE V (V)).a4).svv rdX30).svv (rdX29 (by omega))
      · exact ((hs.1.at hwl2).out (by decide) (fun _ => by decide)).out (by omega) (fun e => by omega)
      · rw [sv_ne (by omega), sv_nj (by decide), sv_nj (by decide)]; exact hs.2.1
      · rw [sv_ne (by omega), sv_nj (by decide), sv_nj (by decide)]; exact hs.2.2.1
      · rw [sv_ne (by omega), sv_same]
      · rw [sv_ne (by omega), sv_ne (by omega), sv_ne (by omega)]
      · rw [sv_same]; rfl
      · exact hs.2.2.2.2.2.2.2.rd ((((rdE.rf : rdE V (V)).a4).svv rdX30).svv (rdX29 (by omega)))
    exact l_k0 (by omega) hi hI hF ks
  · have hpos := st_pos (show ¬ stN t n a = 7 by omega)
    have h4i := hs.2.2.2.2.1
    have hn150 := hs.2.2.2.2.2.1
    have hi : i < 80 := by omega
    have hwl2 := wl_le2
    rw [show stI (stN t n a) = 1 by rw [ek]; rfl]
    rw [show wk t n g (m + 1) 0 o i a [] = _ by show (if _ then _ else _) = _; rw [if_pos (show (0 : Nat) = 0 from rfl), if_neg (show ¬ stN t n a = 7 by omega), if_neg (show ¬ stN t n a = 6 by omega), if_neg (show ¬ stN t n a = 5 by omega), if_neg (show ¬ stN t n a = 3 by omega), if_pos (show stN t n a < 2 by omega), ek]]
    refine g_istore_n (pc := 4) (ls' := [_, _, _]) dX11_readsStep_4 (by decide) rfl rfl ?_
    refine g_iload_n (pc := 5) dX11_readsStep_5 rfl ?_
    refine g_iconst (pc := 6) (v := -1) dX11_readsStep_6 (by decide) ?_
    refine g_icmp_ne (pc := 7) 19 dX11_readsStep_7 (by decide) (fun c_7 => ?_) (fun c_7 => absurd c_7 (by decide))
    refine g_iload_n (pc := 19) dX11_readsStep_19 rfl ?_
    refine g_bipush (pc := 20) (v := 6) dX11_readsStep_20 (by decide) ?_
    refine g_icmp_ne (pc := 22) 33 dX11_readsStep_22 (by decide) (fun c_22 => ?_) (fun c_22 => absurd c_22 (by decide))
    refine g_aload_n (pc := 33) dX11_readsStep_33 rfl ?_
    refine g_getfield (pc := 34) f_X11_119_11 dX11_readsStep_34 hI.1 mf_5 ?_
    refine g_if_eq (pc := 37) 41 dX11_readsStep_37 (by decide) (fun c_37 => ?_) (fun c_37 => absurd hs.2.1 c_37)
    refine g_aload_n (pc := 41) dX11_readsStep_41 rfl ?_
    refine m_cVv (pc := 42) (M' := mX11_skipWord) (as := []) i_X11_156_11 eX11_skipWord hI dX11_readsStep_42 (c_skipWord (by omega) hI hs.1) (by omega) rfl rfl (Nat.le_of_ble_eq_true rfl) (fun h hI fr => ?_)
    replace hF := mFr.tr hF fr
    refine g_aload_n (pc := 45) dX11_readsStep_45 rfl ?_
    refine g_getfield (pc := 46) f_X11_70_11 dX11_readsStep_46 hI.1 mf_29 ?_
    refine g_aload_n (pc := 49) dX11_readsStep_49 rfl ?_
    refine g_getfield (pc := 50) f_X11_257_11 dX11_readsStep_50 hI.1 mf_30 ?_
    rw [sv_nj (by decide), hs.2.2.2.1]
    refine g_aaload (pc := 53) (t := 5) rfl rfl dX11_readsStep_53 (mG hI 29 80 rfl (by decide)) (j := i) rfl (by omega) (by decide) rfl ?_
    refine g_astore_n (pc := 54) (ls' := [_, _, _]) dX11_readsStep_54 (by decide) rfl rfl ?_
    refine g_aload_n (pc := 55) dX11_readsStep_55 rfl ?_
    refine g_dup (pc := 56) dX11_readsStep_56 rfl ?_
    refine g_getfield (pc := 57) f_X11_257_11 dX11_readsStep_57 hI.1 mf_30 ?_
    refine g_iconst (pc := 60) (v := 1) dX11_readsStep_60 (by decide) ?_
    refine g_iadd (pc := 61) dX11_readsStep_61 ?_
    rw [sv_nj (by decide), hs.2.2.2.1, nI_1]
    refine m_put (pc := 62) hI w_X11_257_11 rfl (by decide) dX11_readsStep_62 (fun h hI fr => ?_)
    replace hF := mFr.tr hF fr
    refine g_aload_n (pc := 65) dX11_readsStep_65 rfl ?_
    refine g_iconst (pc := 66) (v := 0) dX11_readsStep_66 (by decide) ?_
    refine g_iload_n (pc := 67) dX11_readsStep_67 rfl ?_
    refine m_rast (pc := 68) (k := 29) (n := 4) hI rfl (by show _ < 80; omega) dX11_readsStep_68 (j := 0) rfl (by omega) (by decide) (fun h hI fr => ?_)
    replace hF := mFr.tr hF fr
    have ks : kS V (sv (sv (sv (V) 0 4 (nI (a + wl t n a))) 0 30 (nI (i + 1))) (1000 * 29 + i) 0 1) t n (a + wl t n a) o i 1 g := by
      refine ⟨?_, ?_, ?_, ?_, ?_, fun q hq => ?_, ?_, ?_⟩
      · exact (((rdE.rf : rdE V (V)).a4).svv rdX30).svv (rdX29 (by omega))
      · exact ((hs.1.at hwl2).out (by decide) (fun _ => by decide)).out (by omega) (fun e => by omega)
      · rw [sv_ne (by omega), sv_nj (by decide), sv_nj (by decide)]; exact hs.2.1
      · rw [sv_ne (by omega), sv_nj (by decide), sv_nj (by decide)]; exact hs.2.2.1
      · rw [sv_ne (by omega), sv_same]
      · rw [sv_ne (by omega), sv_ne (by omega), sv_ne (by omega)]
      · rw [sv_same]; rfl
      · exact hs.2.2.2.2.2.2.2.rd ((((rdE.rf : rdE V (V)).a4).svv rdX30).svv (rdX29 (by omega)))
    exact l_k1 (by omega) hi hI hF ks
  · have hpos := st_pos (show ¬ stN t n a = 7 by omega)
    have h4i := hs.2.2.2.2.1
    have hn150 := hs.2.2.2.2.2.1
    have hi : i < 80 := by omega
    have hwl2 := wl_le2
    rw [show stI (stN t n a) = 2 by rw [ek]; rfl]
    rw [show wk t n g (m + 1) 0 o i a [] = _ by show (if _ then _ else _) = _; rw [if_pos (show (0 : Nat) = 0 from rfl), if_neg (show ¬ stN t n a = 7 by omega), if_neg (show ¬ stN t n a = 6 by omega), if_neg (show ¬ stN t n a = 5 by omega), if_neg (show ¬ stN t n a = 3 by omega), if_neg (show ¬ stN t n a < 2 by omega), ek]]
    refine g_istore_n (pc := 4) (ls' := [_, _, _]) dX11_readsStep_4 (by decide) rfl rfl ?_
    refine g_iload_n (pc := 5) dX11_readsStep_5 rfl ?_
    refine g_iconst (pc := 6) (v := -1) dX11_readsStep_6 (by decide) ?_
    refine g_icmp_ne (pc := 7) 19 dX11_readsStep_7 (by decide) (fun c_7 => ?_) (fun c_7 => absurd c_7 (by decide))
    refine g_iload_n (pc := 19) dX11_readsStep_19 rfl ?_
    refine g_bipush (pc := 20) (v := 6) dX11_readsStep_20 (by decide) ?_
    refine g_icmp_ne (pc := 22) 33 dX11_readsStep_22 (by decide) (fun c_22 => ?_) (fun c_22 => absurd c_22 (by decide))
    refine g_aload_n (pc := 33) dX11_readsStep_33 rfl ?_
    refine g_getfield (pc := 34) f_X11_119_11 dX11_readsStep_34 hI.1 mf_5 ?_
    refine g_if_eq (pc := 37) 41 dX11_readsStep_37 (by decide) (fun c_37 => ?_) (fun c_37 => absurd hs.2.1 c_37)
    refine g_aload_n (pc := 41) dX11_readsStep_41 rfl ?_
    refine m_cVv (pc := 42) (M' := mX11_skipWord) (as := []) i_X11_156_11 eX11_skipWord hI dX11_readsStep_42 (c_skipWord (by omega) hI hs.1) (by omega) rfl rfl (Nat.le_of_ble_eq_true rfl) (fun h hI fr => ?_)
    replace hF := mFr.tr hF fr
    refine g_aload_n (pc := 45) dX11_readsStep_45 rfl ?_
    refine g_getfield (pc := 46) f_X11_70_11 dX11_readsStep_46 hI.1 mf_29 ?_
    refine g_aload_n (pc := 49) dX11_readsStep_49 rfl ?_
    refine g_getfield (pc := 50) f_X11_257_11 dX11_readsStep_50 hI.1 mf_30 ?_
    rw [sv_nj (by decide), hs.2.2.2.1]
    refine g_aaload (pc := 53) (t := 5) rfl rfl dX11_readsStep_53 (mG hI 29 80 rfl (by decide)) (j := i) rfl (by omega) (by decide) rfl ?_
    refine g_astore_n (pc := 54) (ls' := [_, _, _]) dX11_readsStep_54 (by decide) rfl rfl ?_
    refine g_aload_n (pc := 55) dX11_readsStep_55 rfl ?_
    refine g_dup (pc := 56) dX11_readsStep_56 rfl ?_
    refine g_getfield (pc := 57) f_X11_257_11 dX11_readsStep_57 hI.1 mf_30 ?_
    refine g_iconst (pc := 60) (v := 1) dX11_readsStep_60 (by decide) ?_
    refine g_iadd (pc := 61) dX11_readsStep_61 ?_
    rw [sv_nj (by decide), hs.2.2.2.1, nI_1]
    refine m_put (pc := 62) hI w_X11_257_11 rfl (by decide) dX11_readsStep_62 (fun h hI fr => ?_)
    replace hF := mFr.tr hF fr
    refine g_aload_n (pc := 65) dX11_readsStep_65 rfl ?_
    refine g_iconst (pc := 66) (v := 0) dX11_readsStep_66 (by decide) ?_
    refine g_iload_n (pc := 67) dX11_readsStep_67 rfl ?_
    refine m_rast (pc := 68) (k := 29) (n := 4) hI rfl (by show _ < 80; omega) dX11_readsStep_68 (j := 0) rfl (by omega) (by decide) (fun h hI fr => ?_)
    replace hF := mFr.tr hF fr
    have ks : kS V (sv (sv (sv (V) 0 4 (nI (a + wl t n a))) 0 30 (nI (i + 1))) (1000 * 29 + i) 0 2) t n (a + wl t n a) o i 2 g := by
      refine ⟨?_, ?_, ?_, ?_, ?_, fun q hq => ?_, ?_, ?_⟩
      · exact (((rdE.rf : rdE V (V)).a4).svv rdX30).svv (rdX29 (by omega))
      · exact ((hs.1.at hwl2).out (by decide) (fun _ => by decide)).out (by omega) (fun e => by omega)
      · rw [sv_ne (by omega), sv_nj (by decide), sv_nj (by decide)]; exact hs.2.1
      · rw [sv_ne (by omega), sv_nj (by decide), sv_nj (by decide)]; exact hs.2.2.1
      · rw [sv_ne (by omega), sv_same]
      · rw [sv_ne (by omega), sv_ne (by omega), sv_ne (by omega)]
      · rw [sv_same]; rfl
      · exact hs.2.2.2.2.2.2.2.rd ((((rdE.rf : rdE V (V)).a4).svv rdX30).svv (rdX29 (by omega)))
    exact l_k2 (by omega) hi hI hF ks
  · have hpos := st_pos (show ¬ stN t n a = 7 by omega)
    have h4i := hs.2.2.2.2.1
    have hn150 := hs.2.2.2.2.2.1
    have hi : i < 80 := by omega
    have hwl2 := wl_le2
    rw [show stI (stN t n a) = 3 by rw [ek]; rfl]
    rw [show wk t n g (m + 1) 0 o i a [] = _ by show (if _ then _ else _) = _; rw [if_pos (show (0 : Nat) = 0 from rfl), if_neg (show ¬ stN t n a = 7 by omega), if_neg (show ¬ stN t n a = 6 by omega), if_neg (show ¬ stN t n a = 5 by omega), if_pos ek]]
    refine g_istore_n (pc := 4) (ls' := [_, _, _]) dX11_readsStep_4 (by decide) rfl rfl ?_
    refine g_iload_n (pc := 5) dX11_readsStep_5 rfl ?_
    refine g_iconst (pc := 6) (v := -1) dX11_readsStep_6 (by decide) ?_
    refine g_icmp_ne (pc := 7) 19 dX11_readsStep_7 (by decide) (fun c_7 => ?_) (fun c_7 => absurd c_7 (by decide))
    refine g_iload_n (pc := 19) dX11_readsStep_19 rfl ?_
    refine g_bipush (pc := 20) (v := 6) dX11_readsStep_20 (by decide) ?_
    refine g_icmp_ne (pc := 22) 33 dX11_readsStep_22 (by decide) (fun c_22 => ?_) (fun c_22 => absurd c_22 (by decide))
    refine g_aload_n (pc := 33) dX11_readsStep_33 rfl ?_
    refine g_getfield (pc := 34) f_X11_119_11 dX11_readsStep_34 hI.1 mf_5 ?_
    refine g_if_eq (pc := 37) 41 dX11_readsStep_37 (by decide) (fun c_37 => ?_) (fun c_37 => absurd hs.2.1 c_37)
    refine g_aload_n (pc := 41) dX11_readsStep_41 rfl ?_
    refine m_cVv (pc := 42) (M' := mX11_skipWord) (as := []) i_X11_156_11 eX11_skipWord hI dX11_readsStep_42 (c_skipWord (by omega) hI hs.1) (by omega) rfl rfl (Nat.le_of_ble_eq_true rfl) (fun h hI fr => ?_)
    replace hF := mFr.tr hF fr
    refine g_aload_n (pc := 45) dX11_readsStep_45 rfl ?_
    refine g_getfield (pc := 46) f_X11_70_11 dX11_readsStep_46 hI.1 mf_29 ?_
    refine g_aload_n (pc := 49) dX11_readsStep_49 rfl ?_
    refine g_getfield (pc := 50) f_X11_257_11 dX11_readsStep_50 hI.1 mf_30 ?_
    rw [sv_nj (by decide), hs.2.2.2.1]
    refine g_aaload (pc := 53) (t := 5) rfl rfl dX11_readsStep_53 (mG hI 29 80 rfl (by decide)) (j := i) rfl (by omega) (by decide) rfl ?_
    refine g_astore_n (pc := 54) (ls' := [_, _, _]) dX11_readsStep_54 (by decide) rfl rfl ?_
    refine g_aload_n (pc := 55) dX11_readsStep_55 rfl ?_
    refine g_dup (pc := 56) dX11_readsStep_56 rfl ?_
    refine g_getfield (pc := 57) f_X11_257_11 dX11_readsStep_57 hI.1 mf_30 ?_
    refine g_iconst (pc := 60) (v := 1) dX11_readsStep_60 (by decide) ?_
    refine g_iadd (pc := 61) dX11_readsStep_61 ?_
    rw [sv_nj (by decide), hs.2.2.2.1, nI_1]
    refine m_put (pc := 62) hI w_X11_257_11 rfl (by decide) dX11_readsStep_62 (fun h hI fr => ?_)
    replace hF := mFr.tr hF fr
    refine g_aload_n (pc := 65) dX11_readsStep_65 rfl ?_
    refine g_iconst (pc := 66) (v := 0) dX11_readsStep_66 (by decide) ?_
    refine g_iload_n (pc := 67) dX11_readsStep_67 rfl ?_
    refine m_rast (pc := 68) (k := 29) (n := 4) hI rfl (by show _ < 80; omega) dX11_readsStep_68 (j := 0) rfl (by omega) (by decide) (fun h hI fr => ?_)
    replace hF := mFr.tr hF fr
    have ks : kS V (sv (sv (sv (V) 0 4 (nI (a + wl t n a))) 0 30 (nI (i + 1))) (1000 * 29 + i) 0 3) t n (a + wl t n a) o i 3 g := by
      refine ⟨?_, ?_, ?_, ?_, ?_, fun q hq => ?_, ?_, ?_⟩
      · exact (((rdE.rf : rdE V (V)).a4).svv rdX30).svv (rdX29 (by omega))
      · exact ((hs.1.at hwl2).out (by decide) (fun _ => by decide)).out (by omega) (fun e => by omega)
      · rw [sv_ne (by omega), sv_nj (by decide), sv_nj (by decide)]; exact hs.2.1
      · rw [sv_ne (by omega), sv_nj (by decide), sv_nj (by decide)]; exact hs.2.2.1
      · rw [sv_ne (by omega), sv_same]
      · rw [sv_ne (by omega), sv_ne (by omega), sv_ne (by omega)]
      · rw [sv_same]; rfl
      · exact hs.2.2.2.2.2.2.2.rd ((((rdE.rf : rdE V (V)).a4).svv rdX30).svv (rdX29 (by omega)))
    exact l_k3 (by omega) hi hI hF ks
  · have hpos := st_pos (show ¬ stN t n a = 7 by omega)
    have h4i := hs.2.2.2.2.1
    have hn150 := hs.2.2.2.2.2.1
    have hi : i < 80 := by omega
    have hwl2 := wl_le2
    rw [show stI (stN t n a) = 4 by rw [ek]; rfl]
    rw [show wk t n g (m + 1) 0 o i a [] = _ by show (if _ then _ else _) = _; rw [if_pos (show (0 : Nat) = 0 from rfl), if_neg (show ¬ stN t n a = 7 by omega), if_neg (show ¬ stN t n a = 6 by omega), if_neg (show ¬ stN t n a = 5 by omega), if_neg (show ¬ stN t n a = 3 by omega), if_neg (show ¬ stN t n a < 2 by omega), ek]]
    refine g_istore_n (pc := 4) (ls' := [_, _, _]) dX11_readsStep_4 (by decide) rfl rfl ?_
    refine g_iload_n (pc := 5) dX11_readsStep_5 rfl ?_
    refine g_iconst (pc := 6) (v := -1) dX11_readsStep_6 (by decide) ?_
    refine g_icmp_ne (pc := 7) 19 dX11_readsStep_7 (by decide) (fun c_7 => ?_) (fun c_7 => absurd c_7 (by decide))
    refine g_iload_n (pc := 19) dX11_readsStep_19 rfl ?_
    refine g_bipush (pc := 20) (v := 6) dX11_readsStep_20 (by decide) ?_
    refine g_icmp_ne (pc := 22) 33 dX11_readsStep_22 (by decide) (fun c_22 => ?_) (fun c_22 => absurd c_22 (by decide))
    refine g_aload_n (pc := 33) dX11_readsStep_33 rfl ?_
    refine g_getfield (pc := 34) f_X11_119_11 dX11_readsStep_34 hI.1 mf_5 ?_
    refine g_if_eq (pc := 37) 41 dX11_readsStep_37 (by decide) (fun c_37 => ?_) (fun c_37 => absurd hs.2.1 c_37)
    refine g_aload_n (pc := 41) dX11_readsStep_41 rfl ?_
    refine m_cVv (pc := 42) (M' := mX11_skipWord) (as := []) i_X11_156_11 eX11_skipWord hI dX11_readsStep_42 (c_skipWord (by omega) hI hs.1) (by omega) rfl rfl (Nat.le_of_ble_eq_true rfl) (fun h hI fr => ?_)
    replace hF := mFr.tr hF fr
    refine g_aload_n (pc := 45) dX11_readsStep_45 rfl ?_
    refine g_getfield (pc := 46) f_X11_70_11 dX11_readsStep_46 hI.1 mf_29 ?_
    refine g_aload_n (pc := 49) dX11_readsStep_49 rfl ?_
    refine g_getfield (pc := 50) f_X11_257_11 dX11_readsStep_50 hI.1 mf_30 ?_
    rw [sv_nj (by decide), hs.2.2.2.1]
    refine g_aaload (pc := 53) (t := 5) rfl rfl dX11_readsStep_53 (mG hI 29 80 rfl (by decide)) (j := i) rfl (by omega) (by decide) rfl ?_
    refine g_astore_n (pc := 54) (ls' := [_, _, _]) dX11_readsStep_54 (by decide) rfl rfl ?_
    refine g_aload_n (pc := 55) dX11_readsStep_55 rfl ?_
    refine g_dup (pc := 56) dX11_readsStep_56 rfl ?_
    refine g_getfield (pc := 57) f_X11_257_11 dX11_readsStep_57 hI.1 mf_30 ?_
    refine g_iconst (pc := 60) (v := 1) dX11_readsStep_60 (by decide) ?_
    refine g_iadd (pc := 61) dX11_readsStep_61 ?_
    rw [sv_nj (by decide), hs.2.2.2.1, nI_1]
    refine m_put (pc := 62) hI w_X11_257_11 rfl (by decide) dX11_readsStep_62 (fun h hI fr => ?_)
    replace hF := mFr.tr hF fr
    refine g_aload_n (pc := 65) dX11_readsStep_65 rfl ?_
    refine g_iconst (pc := 66) (v := 0) dX11_readsStep_66 (by decide) ?_
    refine g_iload_n (pc := 67) dX11_readsStep_67 rfl ?_
    refine m_rast (pc := 68) (k := 29) (n := 4) hI rfl (by show _ < 80; omega) dX11_readsStep_68 (j := 0) rfl (by omega) (by decide) (fun h hI fr => ?_)
    replace hF := mFr.tr hF fr
    have ks : kS V (sv (sv (sv (V) 0 4 (nI (a + wl t n a))) 0 30 (nI (i + 1))) (1000 * 29 + i) 0 4) t n (a + wl t n a) o i 4 g := by
      refine ⟨?_, ?_, ?_, ?_, ?_, fun q hq => ?_, ?_, ?_⟩
      · exact (((rdE.rf : rdE V (V)).a4).svv rdX30).svv (rdX29 (by omega))
      · exact ((hs.1.at hwl2).out (by decide) (fun _ => by decide)).out (by omega) (fun e => by omega)
      · rw [sv_ne (by omega), sv_nj (by decide), sv_nj (by decide)]; exact hs.2.1
      · rw [sv_ne (by omega), sv_nj (by decide), sv_nj (by decide)]; exact hs.2.2.1
      · rw [sv_ne (by omega), sv_same]
      · rw [sv_ne (by omega), sv_ne (by omega), sv_ne (by omega)]
      · rw [sv_same]; rfl
      · exact hs.2.2.2.2.2.2.2.rd ((((rdE.rf : rdE V (V)).a4).svv rdX30).svv (rdX29 (by omega)))
    exact l_k4 (by omega) hi hI hF ks
  · have hpos := st_pos (show ¬ stN t n a = 7 by omega)
    have h4i := hs.2.2.2.2.1
    have hn150 := hs.2.2.2.2.2.1
    have hi : i < 80 := by omega
    have hwl2 := wl_le2
    rw [show stI (stN t n a) = 5 by rw [ek]; rfl]
    rw [show wk t n g (m + 1) 0 o i a [] = _ by show (if _ then _ else _) = _; rw [if_pos (show (0 : Nat) = 0 from rfl), if_neg (show ¬ stN t n a = 7 by omega), if_neg (show ¬ stN t n a = 6 by omega), if_pos ek]]
    refine g_istore_n (pc := 4) (ls' := [_, _, _]) dX11_readsStep_4 (by decide) rfl rfl ?_
    refine g_iload_n (pc := 5) dX11_readsStep_5 rfl ?_
    refine g_iconst (pc := 6) (v := -1) dX11_readsStep_6 (by decide) ?_
    refine g_icmp_ne (pc := 7) 19 dX11_readsStep_7 (by decide) (fun c_7 => ?_) (fun c_7 => absurd c_7 (by decide))
    refine g_iload_n (pc := 19) dX11_readsStep_19 rfl ?_
    refine g_bipush (pc := 20) (v := 6) dX11_readsStep_20 (by decide) ?_
    refine g_icmp_ne (pc := 22) 33 dX11_readsStep_22 (by decide) (fun c_22 => ?_) (fun c_22 => absurd c_22 (by decide))
    refine g_aload_n (pc := 33) dX11_readsStep_33 rfl ?_
    refine g_getfield (pc := 34) f_X11_119_11 dX11_readsStep_34 hI.1 mf_5 ?_
    refine g_if_eq (pc := 37) 41 dX11_readsStep_37 (by decide) (fun c_37 => ?_) (fun c_37 => absurd hs.2.1 c_37)
    refine g_aload_n (pc := 41) dX11_readsStep_41 rfl ?_
    refine m_cVv (pc := 42) (M' := mX11_skipWord) (as := []) i_X11_156_11 eX11_skipWord hI dX11_readsStep_42 (c_skipWord (by omega) hI hs.1) (by omega) rfl rfl (Nat.le_of_ble_eq_true rfl) (fun h hI fr => ?_)
    replace hF := mFr.tr hF fr
    refine g_aload_n (pc := 45) dX11_readsStep_45 rfl ?_
    refine g_getfield (pc := 46) f_X11_70_11 dX11_readsStep_46 hI.1 mf_29 ?_
    refine g_aload_n (pc := 49) dX11_readsStep_49 rfl ?_
    refine g_getfield (pc := 50) f_X11_257_11 dX11_readsStep_50 hI.1 mf_30 ?_
    rw [sv_nj (by decide), hs.2.2.2.1]
    refine g_aaload (pc := 53) (t := 5) rfl rfl dX11_readsStep_53 (mG hI 29 80 rfl (by decide)) (j := i) rfl (by omega) (by decide) rfl ?_
    refine g_astore_n (pc := 54) (ls' := [_, _, _]) dX11_readsStep_54 (by decide) rfl rfl ?_
    refine g_aload_n (pc := 55) dX11_readsStep_55 rfl ?_
    refine g_dup (pc := 56) dX11_readsStep_56 rfl ?_
    refine g_getfield (pc := 57) f_X11_257_11 dX11_readsStep_57 hI.1 mf_30 ?_
    refine g_iconst (pc := 60) (v := 1) dX11_readsStep_60 (by decide) ?_
    refine g_iadd (pc := 61) dX11_readsStep_61 ?_
    rw [sv_nj (by decide), hs.2.2.2.1, nI_1]
    refine m_put (pc := 62) hI w_X11_257_11 rfl (by decide) dX11_readsStep_62 (fun h hI fr => ?_)
    replace hF := mFr.tr hF fr
    refine g_aload_n (pc := 65) dX11_readsStep_65 rfl ?_
    refine g_iconst (pc := 66) (v := 0) dX11_readsStep_66 (by decide) ?_
    refine g_iload_n (pc := 67) dX11_readsStep_67 rfl ?_
    refine m_rast (pc := 68) (k := 29) (n := 4) hI rfl (by show _ < 80; omega) dX11_readsStep_68 (j := 0) rfl (by omega) (by decide) (fun h hI fr => ?_)
    replace hF := mFr.tr hF fr
    have ks : kS V (sv (sv (sv (V) 0 4 (nI (a + wl t n a))) 0 30 (nI (i + 1))) (1000 * 29 + i) 0 5) t n (a + wl t n a) o i 5 g := by
      refine ⟨?_, ?_, ?_, ?_, ?_, fun q hq => ?_, ?_, ?_⟩
      · exact (((rdE.rf : rdE V (V)).a4).svv rdX30).svv (rdX29 (by omega))
      · exact ((hs.1.at hwl2).out (by decide) (fun _ => by decide)).out (by omega) (fun e => by omega)
      · rw [sv_ne (by omega), sv_nj (by decide), sv_nj (by decide)]; exact hs.2.1
      · rw [sv_ne (by omega), sv_nj (by decide), sv_nj (by decide)]; exact hs.2.2.1
      · rw [sv_ne (by omega), sv_same]
      · rw [sv_ne (by omega), sv_ne (by omega), sv_ne (by omega)]
      · rw [sv_same]; rfl
      · exact hs.2.2.2.2.2.2.2.rd ((((rdE.rf : rdE V (V)).a4).svv rdX30).svv (rdX29 (by omega)))
    exact l_k5 (by omega) hi hI hF ks
  · by_cases ho6 : o = 6
    · rw [show wk t n g (m + 1) 0 o i a [] = .inl (3, a) by show (if _ then _ else _) = _; rw [if_pos (show (0 : Nat) = 0 from rfl), if_neg (show ¬ stN t n a = 7 by omega), if_pos ek, if_pos ho6]]
      rw [show stI (stN t n a) = 6 by rw [ek]; rfl]
      refine g_istore_n (pc := 4) (ls' := [_, _, _]) dX11_readsStep_4 (by decide) rfl rfl ?_
      refine g_iload_n (pc := 5) dX11_readsStep_5 rfl ?_
      refine g_iconst (pc := 6) (v := -1) dX11_readsStep_6 (by decide) ?_
      refine g_icmp_ne (pc := 7) 19 dX11_readsStep_7 (by decide) (fun c_7 => ?_) (fun c_7 => absurd c_7 (by decide))
      refine g_iload_n (pc := 19) dX11_readsStep_19 rfl ?_
      refine g_bipush (pc := 20) (v := 6) dX11_readsStep_20 (by decide) ?_
      refine g_icmp_ne (pc := 22) 33 dX11_readsStep_22 (by decide) (fun c_22 => absurd rfl c_22) (fun c_22 => ?_)
      refine g_aload_n (pc := 25) dX11_readsStep_25 rfl ?_
      refine m_cV (pc := 26) (M' := mX11_opensOne) (as := []) i_X11_236_11 eX11_opensOne hI dX11_readsStep_26 (c_opens6 (a := a) (by omega) hI hs.2.1 (by rw [hs.2.2.1, ho6]; rfl) hs.1.2.2.2.1) (by omega) rfl rfl (Nat.le_of_ble_eq_true rfl) (fun h hI fr => ?_)
      replace hF := mFr.tr hF fr
      refine g_ifB_ne (pc := 29) 33 dX11_readsStep_29 (by decide) (fun c_29 => absurd c_29 (by decide)) (fun c_29 => ?_)
      refine g_return (pc := 32) dX11_readsStep_32 rfl ?_
      exact ⟨rfl, _, hI, hF, rdE.rf.a5.a6, by rw [sv_nj (by decide), sv_same]; rfl, sv_same, show 1 ≤ 3 ∧ 3 ≤ 3 by decide, _, (hs.1.out (by decide) (fun _ => by decide)).out (by decide) (fun _ => by decide)⟩
    · have hpos := st_pos (show ¬ stN t n a = 7 by omega)
      have h4i := hs.2.2.2.2.1
      have hn150 := hs.2.2.2.2.2.1
      have hi : i < 80 := by omega
      have hwl2 := wl_le2
      rw [show stI (stN t n a) = 6 by rw [ek]; rfl]
      have ho := hs.2.2.2.2.2.2.1
      rw [show wk t n g (m + 1) 0 o i a [] = _ by show (if _ then _ else _) = _; rw [if_pos (show (0 : Nat) = 0 from rfl), if_neg (show ¬ stN t n a = 7 by omega), if_pos ek, if_neg ho6]]
      refine g_istore_n (pc := 4) (ls' := [_, _, _]) dX11_readsStep_4 (by decide) rfl rfl ?_
      refine g_iload_n (pc := 5) dX11_readsStep_5 rfl ?_
      refine g_iconst (pc := 6) (v := -1) dX11_readsStep_6 (by decide) ?_
      refine g_icmp_ne (pc := 7) 19 dX11_readsStep_7 (by decide) (fun c_7 => ?_) (fun c_7 => absurd c_7 (by decide))
      refine g_iload_n (pc := 19) dX11_readsStep_19 rfl ?_
      refine g_bipush (pc := 20) (v := 6) dX11_readsStep_20 (by decide) ?_
      refine g_icmp_ne (pc := 22) 33 dX11_readsStep_22 (by decide) (fun c_22 => absurd rfl c_22) (fun c_22 => ?_)
      refine g_aload_n (pc := 25) dX11_readsStep_25 rfl ?_
      refine m_cV (pc := 26) (M' := mX11_opensOne) (as := []) i_X11_236_11 eX11_opensOne hI dX11_readsStep_26 (c_opens hI hs.2.1 hs.2.2.1 (by omega)) (by omega) rfl rfl (Nat.le_of_ble_eq_true rfl) (fun h hI fr => ?_)
      replace hF := mFr.tr hF fr
      refine g_ifB_ne (pc := 29) 33 dX11_readsStep_29 (by decide) (fun c_29 => ?_) (fun c_29 => absurd c_29 (by decide))
      have hs8 : PS (sv V 0 8 (nI (o + 1))) t n a := hs.1.out (by decide) (fun _ => by decide)
      refine g_aload_n (pc := 33) dX11_readsStep_33 rfl ?_
      refine g_getfield (pc := 34) f_X11_119_11 dX11_readsStep_34 hI.1 mf_5 ?_
      refine g_if_eq (pc := 37) 41 dX11_readsStep_37 (by decide) (fun c_37 => ?_) (fun c_37 => absurd (by rw [sv_nj (by decide)]; exact hs.2.1) c_37)
      refine g_aload_n (pc := 41) dX11_readsStep_41 rfl ?_
      refine m_cVv (pc := 42) (M' := mX11_skipWord) (as := []) i_X11_156_11 eX11_skipWord hI dX11_readsStep_42 (c_skipWord (by omega) hI hs8) (by omega) rfl rfl (Nat.le_of_ble_eq_true rfl) (fun h hI fr => ?_)
      replace hF := mFr.tr hF fr
      refine g_aload_n (pc := 45) dX11_readsStep_45 rfl ?_
      refine g_getfield (pc := 46) f_X11_70_11 dX11_readsStep_46 hI.1 mf_29 ?_
      refine g_aload_n (pc := 49) dX11_readsStep_49 rfl ?_
      refine g_getfield (pc := 50) f_X11_257_11 dX11_readsStep_50 hI.1 mf_30 ?_
      rw [sv_nj (by decide), sv_nj (by decide), hs.2.2.2.1]
      refine g_aaload (pc := 53) (t := 5) rfl rfl dX11_readsStep_53 (mG hI 29 80 rfl (by decide)) (j := i) rfl (by omega) (by decide) rfl ?_
      refine g_astore_n (pc := 54) (ls' := [_, _, _]) dX11_readsStep_54 (by decide) rfl rfl ?_
      refine g_aload_n (pc := 55) dX11_readsStep_55 rfl ?_
      refine g_dup (pc := 56) dX11_readsStep_56 rfl ?_
      refine g_getfield (pc := 57) f_X11_257_11 dX11_readsStep_57 hI.1 mf_30 ?_
      refine g_iconst (pc := 60) (v := 1) dX11_readsStep_60 (by decide) ?_
      refine g_iadd (pc := 61) dX11_readsStep_61 ?_
      rw [sv_nj (by decide), sv_nj (by decide), hs.2.2.2.1, nI_1]
      refine m_put (pc := 62) hI w_X11_257_11 rfl (by decide) dX11_readsStep_62 (fun h hI fr => ?_)
      replace hF := mFr.tr hF fr
      refine g_aload_n (pc := 65) dX11_readsStep_65 rfl ?_
      refine g_iconst (pc := 66) (v := 0) dX11_readsStep_66 (by decide) ?_
      refine g_iload_n (pc := 67) dX11_readsStep_67 rfl ?_
      refine m_rast (pc := 68) (k := 29) (n := 4) hI rfl (by show _ < 80; omega) dX11_readsStep_68 (j := 0) rfl (by omega) (by decide) (fun h hI fr => ?_)
      replace hF := mFr.tr hF fr
      have ks : kS V (sv (sv (sv (sv V 0 8 (nI (o + 1))) 0 4 (nI (a + wl t n a))) 0 30 (nI (i + 1))) (1000 * 29 + i) 0 6) t n (a + wl t n a) (o + 1) i 6 g := by
        refine ⟨?_, ?_, ?_, ?_, ?_, fun q hq => ?_, ?_, ?_⟩
        · exact (((rdE.rf.a8 : rdE V (sv V 0 8 (nI (o + 1)))).a4).svv rdX30).svv (rdX29 (by omega))
        · exact ((hs8.at hwl2).out (by decide) (fun _ => by decide)).out (by omega) (fun e => by omega)
        · rw [sv_ne (by omega), sv_nj (by decide), sv_nj (by decide), sv_nj (by decide)]; exact hs.2.1
        · rw [sv_ne (by omega), sv_nj (by decide), sv_nj (by decide), sv_same]
        · rw [sv_ne (by omega), sv_same]
        · rw [sv_ne (by omega), sv_ne (by omega), sv_ne (by omega), sv_ne (by omega)]
        · rw [sv_same]; rfl
        · exact hs.2.2.2.2.2.2.2.rd ((((rdE.rf.a8 : rdE V (sv V 0 8 (nI (o + 1)))).a4).svv rdX30).svv (rdX29 (by omega)))
      exact l_k6 ihb (by omega) (by omega) hs.2.2.2.2.2.1 (by omega) (by omega) hi hI hF ks
  · rw [show stI (stN t n a) = -1 by rw [ek]; rfl]
    rw [show wk t n g (m + 1) 0 o i a [] = .inl (1, a) by show (if _ then _ else _) = _; rw [if_pos (show (0 : Nat) = 0 from rfl), if_pos ek]]
    refine g_istore_n (pc := 4) (ls' := [_, _, _]) dX11_readsStep_4 (by decide) rfl rfl ?_
    refine g_iload_n (pc := 5) dX11_readsStep_5 rfl ?_
    refine g_iconst (pc := 6) (v := -1) dX11_readsStep_6 (by decide) ?_
    refine g_icmp_ne (pc := 7) 19 dX11_readsStep_7 (by decide) (fun c_7 => absurd rfl c_7) (fun c_7 => ?_)
    refine g_aload_n (pc := 10) dX11_readsStep_10 rfl ?_
    refine g_iconst (pc := 11) (v := 1) dX11_readsStep_11 (by decide) ?_
    refine g_aload_n (pc := 12) dX11_readsStep_12 rfl ?_
    refine g_getfield (pc := 13) f_X11_112_11 dX11_readsStep_13 hI.1 mf_4 ?_
    rw [hs.1.2.2.2.1]
    refine m_cVv (pc := 16) (M' := mX11_wrong) (as := [_, _]) i_X11_132_11 eX11_wrong hI dX11_readsStep_16 (c_wrong hI _ _) (by omega) rfl rfl (Nat.le_of_ble_eq_true rfl) (fun h hI fr => ?_)
    replace hF := mFr.tr hF fr
    rw [mWrong_0 hs.2.1] at hI
    refine g_iload_n (pc := 19) dX11_readsStep_19 rfl ?_
    refine g_bipush (pc := 20) (v := 6) dX11_readsStep_20 (by decide) ?_
    refine g_icmp_ne (pc := 22) 33 dX11_readsStep_22 (by decide) (fun c_22 => ?_) (fun c_22 => absurd c_22 (by decide))
    refine g_aload_n (pc := 33) dX11_readsStep_33 rfl ?_
    refine g_getfield (pc := 34) f_X11_119_11 dX11_readsStep_34 hI.1 mf_5 ?_
    refine g_if_eq (pc := 37) 41 dX11_readsStep_37 (by decide) (fun c_37 => absurd c_37 (by rw [sv_nj (by decide), sv_same]; decide)) (fun c_37 => ?_)
    refine g_return (pc := 40) dX11_readsStep_40 rfl ?_
    exact ⟨rfl, _, hI, hF, rdE.rf.a5.a6, by rw [sv_nj (by decide), sv_same]; rfl, sv_same, show 1 ≤ 1 ∧ 1 ≤ 3 by decide, _, (hs.1.out (by decide) (fun _ => by decide)).out (by decide) (fun _ => by decide)⟩
theorem wk_both (E : jE) (am : Nat → Nat) (t : Nat → Nat) (n : Nat) (g : HD) : ∀ m, WKa E am t n g m ∧ WKb E am t n g m
  | 0 => ⟨fun d V h o i a _ _ _ hm => absurd hm (by omega), fun d bc bs V V0 Vb h h0 o i a i0 acc Q _ _ _ _ _ _ hm => absurd hm (by omega)⟩
  | m + 1 => ⟨wk_step (wk_both E am t n g m).2, wk_loop (wk_both E am t n g m).1 (wk_both E am t n g m).2⟩
end
