/-! THE COMPONENT: what it answers, first. Printed by m_c9.py -/
set_option maxRecDepth 100000
theorem rv {a b : Int32} (e : a = b) : (Sum.inl (some (vI a)) : jR) = Sum.inl (some (vI b)) := by rw [e]
section
variable {E : jE} {d : Nat} {h : jH} {ac : Nat → Nat} {W : mV} {g : HD} {F : (Nat → Int32) → Int32} {i : Nat} {R : Nat → Int32}
set_option maxHeartbeats 2000000 in
theorem l_kable {bc bs p : Nat} {h0 : jH} (hd : 607 ≤ d) (hl : liv W i) (hz : HZ g W i R) (hp : p < gP g) : ∀ (m r : Nat) (h : jH), gR g - r = m → r ≤ gR g → InvC ac W g F h → cFr h0 h → G E d bc bs mX1_able 5 [some (vR (nC ac (100 + i))), some (vI (nI (gR g))), some (vI (nI p)), some (vI (bitsI (fun r => ablI F (gD g) (gR g) R r p) r)), some (vI (nI r))] [] h (cQ ac W g F h0 (some (vI (bitsI (fun r => ablI F (gD g) (gR g) R r p) (gR g))))) := by
  intro m
  induction m with
  | zero =>
    intro r h hm hr hI hF
    have e : r = gR g := by omega
    subst e
    have b8 := hI.2.2.2.2.1.2.2.2.2.2.2.2.1
    have b10 := hI.2.2.2.2.1.2.2.2.2.2.2.2.2.1
    have bP := hI.2.2.2.2.1.2.2.2.2.2.2.2.2.2.1
    refine g_iload (pc := 5) dX1_able_5 rfl ?_
    refine g_iload_n (pc := 7) dX1_able_7 rfl ?_
    refine g_icmp_ge (pc := 8) 38 dX1_able_8 (by decide) (fun c_8 => ?_) (fun c_8 => absurd (nI_le (Nat.le_refl _) (by omega)) c_8)
    refine g_iload_n (pc := 38) dX1_able_38 rfl ?_
    refine g_ireturn (pc := 39) dX1_able_39 rfl (by first | exact rfl | exact j_nb _) ?_
    exact ⟨rfl, hI, hF⟩
  | succ m ih =>
    intro r h hm hr hI hF
    have b8 := hI.2.2.2.2.1.2.2.2.2.2.2.2.1
    have b10 := hI.2.2.2.2.1.2.2.2.2.2.2.2.2.1
    have bP := hI.2.2.2.2.1.2.2.2.2.2.2.2.2.2.1
    refine g_iload (pc := 5) dX1_able_5 rfl ?_
    refine g_iload_n (pc := 7) dX1_able_7 rfl ?_
    refine g_icmp_ge (pc := 8) 38 dX1_able_8 (by decide) (fun c_8 => absurd c_8 (by intro w; have := (nI_leI (by omega) (by omega)).mp w; omega)) (fun c_8 => ?_)
    refine g_iload_n (pc := 11) dX1_able_11 rfl ?_
    refine g_aload_n (pc := 12) dX1_able_12 rfl ?_
    refine g_iload (pc := 13) dX1_able_13 rfl ?_
    refine g_iload_n (pc := 15) dX1_able_15 rfl ?_
    refine c_cV (pc := 16) (M' := mX10_isAble) (as := [_, _]) (ci := 10) rfl i_X1_291_10 eX10_isAble dX1_able_16 (hI.2.2.2.1 i hl).1 (k_isAble (by omega) hI hl hz r p (by omega) hp) (by omega) rfl rfl (Nat.le_of_ble_eq_true rfl) (fun h hI fr => ?_)
    replace hF := cFr.tr hF fr
    refine g_ifB_eq (pc := 19) 29 dX1_able_19 (by decide) (fun c_19 => ?_) (fun c_19 => ?_)
    · refine g_iconst (pc := 29) (v := 0) dX1_able_29 (by decide) ?_
      refine g_ior (pc := 30) dX1_able_30 ?_
      refine g_istore_n (pc := 31) (ls' := [_, _, _, _, _]) dX1_able_31 (by decide) rfl rfl ?_
      refine g_iinc (pc := 32) (ls' := [_, _, _, _, _]) dX1_able_32 rfl (by first | exact nI_1 _ | exact rfl) (by decide) rfl rfl ?_
      refine g_goto (pc := 35) 5 dX1_able_35 (by decide) ?_
      have e : bitsI ((fun r => ablI F (gD g) (gR g) R r p)) (r + 1) = _ := show bitsI ((fun r => ablI F (gD g) (gR g) R r p)) r ||| (if ((fun r => ablI F (gD g) (gR g) R r p)) r = true then bitI r else 0) = _ from by rw [if_neg (by show ¬ ablI F (gD g) (gR g) R r p = true; rw [c_19]; decide)]
      have q := ih (r + 1) h (by omega) (by omega) hI hF
      rw [e] at q
      exact q
    · refine g_iconst (pc := 22) (v := 1) dX1_able_22 (by decide) ?_
      refine g_iload (pc := 23) dX1_able_23 rfl ?_
      refine g_ishl (pc := 25) dX1_able_25 ?_
      refine g_goto (pc := 26) 30 dX1_able_26 (by decide) ?_
      refine g_ior (pc := 30) dX1_able_30 ?_
      refine g_istore_n (pc := 31) (ls' := [_, _, _, _, _]) dX1_able_31 (by decide) rfl rfl ?_
      refine g_iinc (pc := 32) (ls' := [_, _, _, _, _]) dX1_able_32 rfl (by first | exact nI_1 _ | exact rfl) (by decide) rfl rfl ?_
      refine g_goto (pc := 35) 5 dX1_able_35 (by decide) ?_
      have e : bitsI ((fun r => ablI F (gD g) (gR g) R r p)) (r + 1) = _ := show bitsI ((fun r => ablI F (gD g) (gR g) R r p)) r ||| (if ((fun r => ablI F (gD g) (gR g) R r p)) r = true then bitI r else 0) = _ from by rw [if_pos c_19]
      have q := ih (r + 1) h (by omega) (by omega) hI hF
      rw [e] at q
      exact q
set_option maxHeartbeats 2000000 in
theorem k_able {p : Nat} (hd : 608 ≤ d) (hI : InvC ac W g F h) (hl : liv W i) (hz : HZ g W i R) (hp : p < gP g) : Ct E d 0 0 mX1_able [vR (nC ac (100 + i)), vI (nI (gR g)), vI (nI p)] h (cQ ac W g F h (some (vI (bitsI (fun r => ablI F (gD g) (gR g) R r p) (gR g))))) := by
  refine ct_of (by decide) (Nat.le_of_ble_eq_true rfl) rfl ?_
  refine g_iconst (pc := 0) (v := 0) dX1_able_0 (by decide) ?_
  refine g_istore_n (pc := 1) (ls' := [_, _, _, _, _]) dX1_able_1 (by decide) rfl rfl ?_
  refine g_iconst (pc := 2) (v := 0) dX1_able_2 (by decide) ?_
  refine g_istore (pc := 3) (ls' := [_, _, _, _, _]) dX1_able_3 (by decide) rfl rfl ?_
  exact l_kable (by omega) hl hz hp (gR g) 0 h rfl (Nat.zero_le _) hI cFr.rf
theorem k_fault (hI : InvC ac W g F h) : Ct E d 0 0 mX1_fault [vR (nC ac 1)] h (qR (some (vI (W 0 16))) h) := by
  refine ct_of (by decide) (Nat.le_of_ble_eq_true rfl) rfl ?_
  refine g_aload_n (pc := 0) dX1_fault_0 rfl ?_
  refine g_getfield (pc := 1) f_X1_78_1 dX1_fault_1 hI.1 rfl ?_
  refine g_ireturn (pc := 4) dX1_fault_4 rfl (by first | exact rfl | exact j_nb _) ?_
  exact ⟨rfl, rfl⟩
theorem k_status (hd : 1 ≤ d) (hI : InvC ac W g F h) (w : Int32) : Ct E d 0 0 mX1_status [vR (nC ac 1), vI w] h (qR (some (vI (if w = 0 then W 4 0 else if w = 1 then W 4 1 else -1))) h) := by
  refine ct_of (by decide) (Nat.le_of_ble_eq_true rfl) rfl ?_
  refine g_iload_n (pc := 0) dX1_status_0 rfl ?_
  refine g_cS (pc := 1) (M' := mX1_isPart) (as := [_]) i_X1_344 eX1_isPart dX1_status_1 (k_isPart w) (by omega) rfl rfl (Nat.le_of_ble_eq_true rfl) ?_
  refine g_ifB_eq (pc := 4) 16 dX1_status_4 (by decide) (fun c_4 => ?_) (fun c_4 => ?_)
  · refine g_iconst (pc := 16) (v := -1) dX1_status_16 (by decide) ?_
    refine g_ireturn (pc := 17) dX1_status_17 rfl (by first | exact rfl | exact j_nb _) ?_
    have q := of_decide_eq_false c_4
    exact ⟨rv (by rw [if_neg (fun e => q (Or.inl e)), if_neg (fun e => q (Or.inr e))]), rfl⟩
  · refine g_aload_n (pc := 7) dX1_status_7 rfl ?_
    refine g_getfield (pc := 8) f_X1_50_1 dX1_status_8 hI.1 rfl ?_
    rcases of_decide_eq_true c_4 with e | e
    · subst e
      refine g_iload_n (pc := 11) dX1_status_11 rfl ?_
      refine g_iaload (pc := 12) dX1_status_12 hI.2.1.2.1 (j := 0) rfl (by decide) (by decide) rfl ?_
      refine g_goto (pc := 13) 17 dX1_status_13 (by decide) ?_
      refine g_ireturn (pc := 17) dX1_status_17 rfl rfl ?_
      exact ⟨rfl, rfl⟩
    · subst e
      refine g_iload_n (pc := 11) dX1_status_11 rfl ?_
      refine g_iaload (pc := 12) dX1_status_12 hI.2.1.2.1 (j := 1) rfl (by decide) (by decide) rfl ?_
      refine g_goto (pc := 13) 17 dX1_status_13 (by decide) ?_
      refine g_ireturn (pc := 17) dX1_status_17 rfl rfl ?_
      exact ⟨rfl, rfl⟩
theorem k_count (hI : InvC ac W g F h) (w : Int32) : Ct E d 0 0 mX1_count [vR (nC ac 1), vI w] h (qR (some (vI (if w = 0 then W 0 17 else if w = 1 then W 0 15 else if w = 2 then W 0 11 else -1))) h) := by
  refine ct_of (by decide) (Nat.le_of_ble_eq_true rfl) rfl ?_
  refine g_iload_n (pc := 0) dX1_count_0 rfl ?_
  refine g_if_ne (pc := 1) 11 dX1_count_1 (by decide) (fun c_1 => ?_) (fun c_1 => ?_)
  · refine g_iload_n (pc := 11) dX1_count_11 rfl ?_
    refine g_iconst (pc := 12) (v := 1) dX1_count_12 (by decide) ?_
    refine g_icmp_ne (pc := 13) 23 dX1_count_13 (by decide) (fun c_13 => ?_) (fun c_13 => ?_)
    · refine g_iload_n (pc := 23) dX1_count_23 rfl ?_
      refine g_iconst (pc := 24) (v := 2) dX1_count_24 (by decide) ?_
      refine g_icmp_ne (pc := 25) 35 dX1_count_25 (by decide) (fun c_25 => ?_) (fun c_25 => ?_)
      · refine g_iconst (pc := 35) (v := -1) dX1_count_35 (by decide) ?_
        refine g_ireturn (pc := 36) dX1_count_36 rfl (by first | exact rfl | exact j_nb _) ?_
        exact ⟨rv (by rw [if_neg c_1, if_neg c_13, if_neg c_25]), rfl⟩
      · refine g_aload_n (pc := 28) dX1_count_28 rfl ?_
        refine g_getfield (pc := 29) f_X1_104_1 dX1_count_29 hI.1 rfl ?_
        refine g_goto (pc := 32) 36 dX1_count_32 (by decide) ?_
        refine g_ireturn (pc := 36) dX1_count_36 rfl (by first | exact rfl | exact j_nb _) ?_
        exact ⟨rv (by rw [if_neg c_1, if_neg c_13, if_pos c_25]), rfl⟩
    · refine g_aload_n (pc := 16) dX1_count_16 rfl ?_
      refine g_getfield (pc := 17) f_X1_169_1 dX1_count_17 hI.1 rfl ?_
      refine g_goto (pc := 20) 36 dX1_count_20 (by decide) ?_
      refine g_ireturn (pc := 36) dX1_count_36 rfl (by first | exact rfl | exact j_nb _) ?_
      exact ⟨rv (by rw [if_neg c_1, if_pos c_13]), rfl⟩
  · refine g_aload_n (pc := 4) dX1_count_4 rfl ?_
    refine g_getfield (pc := 5) f_X1_113_1 dX1_count_5 hI.1 rfl ?_
    refine g_goto (pc := 8) 36 dX1_count_8 (by decide) ?_
    refine g_ireturn (pc := 36) dX1_count_36 rfl (by first | exact rfl | exact j_nb _) ?_
    exact ⟨rv (by rw [if_pos c_1]), rfl⟩
end
section
variable {E : jE} {d : Nat} {h : jH} {ac : Nat → Nat} {W V : mV} {g : HD}
set_option maxHeartbeats 2000000 in
theorem k_told (hd : 620 ≤ d) (hI : InvC ac W g (mlaw V) h) (hz : HZ g W 0 (V 31)) (p13 : W 0 13 = V 0 35) (p12 : W 0 12 = V 0 37) (x : Nat) (hx : x ≤ 10) : Ct E d 0 0 mX1_told [vR (nC ac 1), vI (nI x)] h (cQ ac W g (mlaw V) h (some (vI (tolS V (gD g) (gS g) (gR g) (gP g) x)))) := by
  refine ct_of (by decide) (Nat.le_of_ble_eq_true rfl) rfl ?_
  have hF : cFr h h := cFr.rf
  have b8 := hI.2.2.2.2.1.2.2.2.2.2.2.2.1
  have b10 := hI.2.2.2.2.1.2.2.2.2.2.2.2.2.1
  have bP := hI.2.2.2.2.1.2.2.2.2.2.2.2.2.2.1
  have hv : inR (nI x) 0 10 = true := inC_of (n := 10) hx (by decide)
  refine g_aload_n (pc := 0) dX1_told_0 rfl ?_
  refine g_iload_n (pc := 1) dX1_told_1 rfl ?_
  refine g_iconst (pc := 2) (v := 0) dX1_told_2 (by decide) ?_
  refine g_bipush (pc := 3) (v := 10) dX1_told_3 (by decide) ?_
  refine g_cS (pc := 5) (M' := mX1_isIn) (as := [_, _, _]) i_X1_252 eX1_isIn dX1_told_5 (k_isIn _ _ _) (by omega) rfl rfl (Nat.le_of_ble_eq_true rfl) ?_
  rw [hv]
  refine g_cVv (pc := 8) (M' := mX1_need) (as := [_]) (ci := 1) rfl i_X1_183_1 eX1_need dX1_told_8 hI.1 (k_needT) (by omega) rfl rfl (Nat.le_of_ble_eq_true rfl) ?_
  match x, hx with
  | 0, _ =>
    refine g_iload_n (pc := 11) dX1_told_11 rfl ?_
    refine g_tableIn (pc := 12) (off := 56) 68 dX1_told_12 (by decide) (by decide) (by decide) (by decide) ?_
    refine g_aload_n (pc := 68) dX1_told_68 rfl ?_
    refine g_getfield (pc := 69) f_X1_31_1 dX1_told_69 hI.1 rfl ?_
    refine g_getfield (pc := 72) f_X1_158_2 dX1_told_72 hI.2.2.2.2.1.1.choose_spec rfl ?_
    refine g_ireturn (pc := 75) dX1_told_75 rfl (by first | exact rfl | exact j_nb _) ?_
    exact ⟨rfl, hI, hF⟩
  | 1, _ =>
    refine g_iload_n (pc := 11) dX1_told_11 rfl ?_
    refine g_tableIn (pc := 12) (off := 64) 76 dX1_told_12 (by decide) (by decide) (by decide) (by decide) ?_
    refine g_aload_n (pc := 76) dX1_told_76 rfl ?_
    refine g_cV (pc := 77) (M' := mX1_relics) (as := []) (ci := 1) rfl i_X1_165_1 eX1_relics dX1_told_77 hI.1 (k_relics (by omega) hI) (by omega) rfl rfl (Nat.le_of_ble_eq_true rfl) ?_
    refine g_ireturn (pc := 80) dX1_told_80 rfl (by first | exact rfl | exact j_nb _) ?_
    exact ⟨rfl, hI, hF⟩
  | 2, _ =>
    refine g_iload_n (pc := 11) dX1_told_11 rfl ?_
    refine g_tableIn (pc := 12) (off := 69) 81 dX1_told_12 (by decide) (by decide) (by decide) (by decide) ?_
    refine g_aload_n (pc := 81) dX1_told_81 rfl ?_
    refine g_cV (pc := 82) (M' := mX1_pilgrims) (as := []) (ci := 1) rfl i_X1_167_1 eX1_pilgrims dX1_told_82 hI.1 (k_pilgrims (by omega) hI) (by omega) rfl rfl (Nat.le_of_ble_eq_true rfl) ?_
    refine g_ireturn (pc := 85) dX1_told_85 rfl (by first | exact rfl | exact j_nb _) ?_
    exact ⟨rfl, hI, hF⟩
  | 3, _ =>
    refine g_iload_n (pc := 11) dX1_told_11 rfl ?_
    refine g_tableIn (pc := 12) (off := 74) 86 dX1_told_12 (by decide) (by decide) (by decide) (by decide) ?_
    refine g_aload_n (pc := 86) dX1_told_86 rfl ?_
    refine g_getfield (pc := 87) f_X1_58_1 dX1_told_87 hI.1 rfl ?_
    refine g_getfield (pc := 90) f_X1_256_10 dX1_told_90 (hI.2.2.2.1 0 liv0).1 rfl ?_
    refine g_ireturn (pc := 93) dX1_told_93 rfl (by first | exact rfl | exact j_nb _) ?_
    exact ⟨rv (hz.2.2.2.2.2), hI, hF⟩
  | 4, _ =>
    refine g_iload_n (pc := 11) dX1_told_11 rfl ?_
    refine g_tableIn (pc := 12) (off := 82) 94 dX1_told_12 (by decide) (by decide) (by decide) (by decide) ?_
    refine g_aload_n (pc := 94) dX1_told_94 rfl ?_
    refine g_getfield (pc := 95) f_X1_58_1 dX1_told_95 hI.1 rfl ?_
    refine g_getfield (pc := 98) f_X1_259_10 dX1_told_98 (hI.2.2.2.1 0 liv0).1 rfl ?_
    refine g_ireturn (pc := 101) dX1_told_101 rfl (by first | exact rfl | exact j_nb _) ?_
    exact ⟨rv (hz.2.2.2.1), hI, hF⟩
  | 5, _ =>
    refine g_iload_n (pc := 11) dX1_told_11 rfl ?_
    refine g_tableIn (pc := 12) (off := 90) 102 dX1_told_12 (by decide) (by decide) (by decide) (by decide) ?_
    refine g_aload_n (pc := 102) dX1_told_102 rfl ?_
    refine g_getfield (pc := 103) f_X1_58_1 dX1_told_103 hI.1 rfl ?_
    refine g_cV (pc := 106) (M' := mX10_kept) (as := []) (ci := 10) rfl i_X1_262_10 eX10_kept dX1_told_106 (hI.2.2.2.1 0 liv0).1 (k_kept (by omega) hI liv0 hz) (by omega) rfl rfl (Nat.le_of_ble_eq_true rfl) ?_
    refine g_ireturn (pc := 109) dX1_told_109 rfl (by first | exact rfl | exact j_nb _) ?_
    exact ⟨rfl, hI, hF⟩
  | 6, _ =>
    refine g_iload_n (pc := 11) dX1_told_11 rfl ?_
    refine g_tableIn (pc := 12) (off := 98) 110 dX1_told_12 (by decide) (by decide) (by decide) (by decide) ?_
    refine g_aload_n (pc := 110) dX1_told_110 rfl ?_
    refine g_getfield (pc := 111) f_X1_58_1 dX1_told_111 hI.1 rfl ?_
    refine g_cV (pc := 114) (M' := mX10_cured) (as := []) (ci := 10) rfl i_X1_264_10 eX10_cured dX1_told_114 (hI.2.2.2.1 0 liv0).1 (k_cured (by omega) hI liv0 hz) (by omega) rfl rfl (Nat.le_of_ble_eq_true rfl) ?_
    refine g_ireturn (pc := 117) dX1_told_117 rfl (by first | exact rfl | exact j_nb _) ?_
    exact ⟨rfl, hI, hF⟩
  | 7, _ =>
    refine g_iload_n (pc := 11) dX1_told_11 rfl ?_
    refine g_tableIn (pc := 12) (off := 106) 118 dX1_told_12 (by decide) (by decide) (by decide) (by decide) ?_
    refine g_aload_n (pc := 118) dX1_told_118 rfl ?_
    refine g_getfield (pc := 119) f_X1_58_1 dX1_told_119 hI.1 rfl ?_
    refine g_getfield (pc := 122) f_X1_267_10 dX1_told_122 (hI.2.2.2.1 0 liv0).1 rfl ?_
    refine g_ireturn (pc := 125) dX1_told_125 rfl (by first | exact rfl | exact j_nb _) ?_
    exact ⟨rv (hz.2.2.2.2.1), hI, hF⟩
  | 8, _ =>
    refine g_iload_n (pc := 11) dX1_told_11 rfl ?_
    refine g_tableIn (pc := 12) (off := 114) 126 dX1_told_12 (by decide) (by decide) (by decide) (by decide) ?_
    refine g_aload_n (pc := 126) dX1_told_126 rfl ?_
    refine g_getfield (pc := 127) f_X1_110_1 dX1_told_127 hI.1 rfl ?_
    refine g_ireturn (pc := 130) dX1_told_130 rfl (by first | exact rfl | exact j_nb _) ?_
    exact ⟨rv (p13), hI, hF⟩
  | 9, _ =>
    refine g_iload_n (pc := 11) dX1_told_11 rfl ?_
    refine g_tableIn (pc := 12) (off := 119) 131 dX1_told_12 (by decide) (by decide) (by decide) (by decide) ?_
    refine g_aload_n (pc := 131) dX1_told_131 rfl ?_
    refine g_getfield (pc := 132) f_X1_107_1 dX1_told_132 hI.1 rfl ?_
    refine g_ireturn (pc := 135) dX1_told_135 rfl (by first | exact rfl | exact j_nb _) ?_
    exact ⟨rv (p12), hI, hF⟩
  | 10, _ =>
    refine g_iload_n (pc := 11) dX1_told_11 rfl ?_
    refine g_tableOut (pc := 12) 136 dX1_told_12 (by decide) (by decide) ?_
    refine g_aload_n (pc := 136) dX1_told_136 rfl ?_
    refine g_getfield (pc := 137) f_X1_58_1 dX1_told_137 hI.1 rfl ?_
    refine c_cV (pc := 140) (M' := mX10_powerAll) (as := []) (ci := 10) rfl i_X1_270_10 eX10_powerAll dX1_told_140 (hI.2.2.2.1 0 liv0).1 (k_powerAll (by omega) hI liv0 hz) (by omega) rfl rfl (Nat.le_of_ble_eq_true rfl) (fun h hI fr => ?_)
    replace hF := cFr.tr hF fr
    refine g_ireturn (pc := 143) dX1_told_143 rfl (by first | exact rfl | exact j_nb _) ?_
    exact ⟨rfl, hI, hF⟩
  | x + 11, hx => exact absurd hx (by omega)
set_option maxHeartbeats 2000000 in
theorem k_sister (hd : 620 ≤ d) (hI : InvC ac W g (mlaw V) h) (hz : HZ g W 0 (V 31)) (pw : ∀ s, s < 8 → V 16 s = gW g s) (s x : Nat) (hs : s < gS g) (hx : x ≤ 4) : Ct E d 0 0 mX1_sister [vR (nC ac 1), vI (nI s), vI (nI x)] h (cQ ac W g (mlaw V) h (some (vI (sisS V (gD g) (gR g) s x)))) := by
  refine ct_of (by decide) (Nat.le_of_ble_eq_true rfl) rfl ?_
  have hF : cFr h h := cFr.rf
  have b8 := hI.2.2.2.2.1.2.2.2.2.2.2.2.1
  have b10 := hI.2.2.2.2.1.2.2.2.2.2.2.2.2.1
  have bP := hI.2.2.2.2.1.2.2.2.2.2.2.2.2.2.1
  have hv : inR (nI x) 0 4 = true := inC_of (n := 4) hx (by decide)
  refine g_aload_n (pc := 0) dX1_sister_0 rfl ?_
  refine g_iload_n (pc := 1) dX1_sister_1 rfl ?_
  refine g_cVv (pc := 2) (M' := mX1_needSister) (as := [_]) (ci := 1) rfl i_X1_273_1 eX1_needSister dX1_sister_2 hI.1 (k_needST (by omega) hI s hs) (by omega) rfl rfl (Nat.le_of_ble_eq_true rfl) ?_
  refine g_aload_n (pc := 5) dX1_sister_5 rfl ?_
  refine g_iload_n (pc := 6) dX1_sister_6 rfl ?_
  refine g_iconst (pc := 7) (v := 0) dX1_sister_7 (by decide) ?_
  refine g_iconst (pc := 8) (v := 4) dX1_sister_8 (by decide) ?_
  refine g_cS (pc := 9) (M' := mX1_isIn) (as := [_, _, _]) i_X1_252 eX1_isIn dX1_sister_9 (k_isIn _ _ _) (by omega) rfl rfl (Nat.le_of_ble_eq_true rfl) ?_
  rw [hv]
  refine g_cVv (pc := 12) (M' := mX1_need) (as := [_]) (ci := 1) rfl i_X1_183_1 eX1_need dX1_sister_12 hI.1 (k_needT) (by omega) rfl rfl (Nat.le_of_ble_eq_true rfl) ?_
  match x, hx with
  | 0, _ =>
    refine g_iload_n (pc := 15) dX1_sister_15 rfl ?_
    refine g_tableIn (pc := 16) (off := 32) 48 dX1_sister_16 (by decide) (by decide) (by decide) (by decide) ?_
    refine g_aload_n (pc := 48) dX1_sister_48 rfl ?_
    refine g_getfield (pc := 49) f_X1_31_1 dX1_sister_49 hI.1 rfl ?_
    refine g_getfield (pc := 52) f_X1_276_2 dX1_sister_52 hI.2.2.2.2.1.1.choose_spec rfl ?_
    refine g_iload_n (pc := 55) dX1_sister_55 rfl ?_
    refine g_iaload (pc := 56) dX1_sister_56 hI.2.2.2.2.1.2.1.choose_spec.1 (j := s) rfl (by omega) (by first | decide | omega) rfl ?_
    refine g_ireturn (pc := 57) dX1_sister_57 rfl (by first | exact rfl | exact j_nb _) ?_
    exact ⟨rv (hI.2.2.2.2.1.2.1.choose_spec.2 s hs), hI, hF⟩
  | 1, _ =>
    refine g_iload_n (pc := 15) dX1_sister_15 rfl ?_
    refine g_tableIn (pc := 16) (off := 42) 58 dX1_sister_16 (by decide) (by decide) (by decide) (by decide) ?_
    refine g_aload_n (pc := 58) dX1_sister_58 rfl ?_
    refine g_getfield (pc := 59) f_X1_58_1 dX1_sister_59 hI.1 rfl ?_
    refine g_getfield (pc := 62) f_X1_279_10 dX1_sister_62 (hI.2.2.2.1 0 liv0).1 rfl ?_
    refine g_iload_n (pc := 65) dX1_sister_65 rfl ?_
    refine g_iaload (pc := 66) dX1_sister_66 (hI.2.2.2.1 0 liv0).2.2.1 (j := s) rfl (by omega) (by first | decide | omega) rfl ?_
    refine g_ireturn (pc := 67) dX1_sister_67 rfl (by first | exact rfl | exact j_nb _) ?_
    exact ⟨rv (hz.2.1 s (by omega)), hI, hF⟩
  | 2, _ =>
    refine g_iload_n (pc := 15) dX1_sister_15 rfl ?_
    refine g_tableIn (pc := 16) (off := 52) 68 dX1_sister_16 (by decide) (by decide) (by decide) (by decide) ?_
    refine g_aload_n (pc := 68) dX1_sister_68 rfl ?_
    refine g_getfield (pc := 69) f_X1_31_1 dX1_sister_69 hI.1 rfl ?_
    refine g_iload_n (pc := 72) dX1_sister_72 rfl ?_
    refine g_cV (pc := 73) (M' := mX2_of) (as := [_]) (ci := 2) rfl i_X1_282_2 eX2_of dX1_sister_73 hI.2.2.2.2.1.1.choose_spec (k_of (by omega) hI s (by omega)) (by omega) rfl rfl (Nat.le_of_ble_eq_true rfl) ?_
    refine g_ireturn (pc := 76) dX1_sister_76 rfl (by first | exact rfl | exact j_nb _) ?_
    exact ⟨rfl, hI, hF⟩
  | 3, _ =>
    refine g_iload_n (pc := 15) dX1_sister_15 rfl ?_
    refine g_tableIn (pc := 16) (off := 61) 77 dX1_sister_16 (by decide) (by decide) (by decide) (by decide) ?_
    refine g_aload_n (pc := 77) dX1_sister_77 rfl ?_
    refine g_getfield (pc := 78) f_X1_31_1 dX1_sister_78 hI.1 rfl ?_
    refine g_iload_n (pc := 81) dX1_sister_81 rfl ?_
    refine g_cV (pc := 82) (M' := mX2_of) (as := [_]) (ci := 2) rfl i_X1_282_2 eX2_of dX1_sister_82 hI.2.2.2.2.1.1.choose_spec (k_of (by omega) hI s (by omega)) (by omega) rfl rfl (Nat.le_of_ble_eq_true rfl) ?_
    refine g_aload_n (pc := 85) dX1_sister_85 rfl ?_
    refine g_getfield (pc := 86) f_X1_58_1 dX1_sister_86 hI.1 rfl ?_
    refine g_cV (pc := 89) (M' := mX10_kept) (as := []) (ci := 10) rfl i_X1_262_10 eX10_kept dX1_sister_89 (hI.2.2.2.1 0 liv0).1 (k_kept (by omega) hI liv0 hz) (by omega) rfl rfl (Nat.le_of_ble_eq_true rfl) ?_
    refine g_iand (pc := 92) dX1_sister_92 ?_
    refine g_ireturn (pc := 93) dX1_sister_93 rfl (by first | exact rfl | exact j_nb _) ?_
    exact ⟨rv (by rw [Int32.and_comm, and_her b10]; rfl), hI, hF⟩
  | 4, _ =>
    refine g_iload_n (pc := 15) dX1_sister_15 rfl ?_
    refine g_tableOut (pc := 16) 94 dX1_sister_16 (by decide) (by decide) ?_
    refine g_aload_n (pc := 94) dX1_sister_94 rfl ?_
    refine g_getfield (pc := 95) f_X1_31_1 dX1_sister_95 hI.1 rfl ?_
    refine g_getfield (pc := 98) f_X1_285_2 dX1_sister_98 hI.2.2.2.2.1.1.choose_spec rfl ?_
    refine g_iload_n (pc := 101) dX1_sister_101 rfl ?_
    refine g_iaload (pc := 102) dX1_sister_102 hI.2.2.2.2.1.2.2.1 (j := s) rfl (by omega) (by first | decide | omega) rfl ?_
    refine g_ireturn (pc := 103) dX1_sister_103 rfl (by first | exact rfl | exact j_nb _) ?_
    exact ⟨rv ((pw s (by omega)).symm), hI, hF⟩
  | x + 5, hx => exact absurd hx (by omega)
set_option maxHeartbeats 2000000 in
theorem l_kcurable {bc bs r : Nat} {h0 : jH} (hd : 607 ≤ d) (hz : HZ g W 0 (V 31)) (hr : r < gR g) : ∀ (m p : Nat) (h : jH), gP g - p = m → p ≤ gP g → InvC ac W g (mlaw V) h → cFr h0 h → G E d bc bs mX1_curable 4 [some (vR (nC ac 1)), some (vI (nI r)), some (vI (bitsI (rcuB V (gD g) (gR g) r) p)), some (vI (nI p))] [] h (cQ ac W g (mlaw V) h0 (some (vI (bitsI (rcuB V (gD g) (gR g) r) (gP g))))) := by
  intro m
  induction m with
  | zero =>
    intro p h hm hr9 hI hF
    have e : p = gP g := by omega
    subst e
    have b8 := hI.2.2.2.2.1.2.2.2.2.2.2.2.1
    have b10 := hI.2.2.2.2.1.2.2.2.2.2.2.2.2.1
    have bP := hI.2.2.2.2.1.2.2.2.2.2.2.2.2.2.1
    refine g_iload_n (pc := 4) dX1_curable_4 rfl ?_
    refine g_aload_n (pc := 5) dX1_curable_5 rfl ?_
    refine g_cV (pc := 6) (M' := mX1_pilgrims) (as := []) (ci := 1) rfl i_X1_167_1 eX1_pilgrims dX1_curable_6 hI.1 (k_pilgrims (by omega) hI) (by omega) rfl rfl (Nat.le_of_ble_eq_true rfl) ?_
    refine g_icmp_ge (pc := 9) 53 dX1_curable_9 (by decide) (fun c_9 => ?_) (fun c_9 => absurd (nI_le (Nat.le_refl _) (by omega)) c_9)
    refine g_iload_n (pc := 53) dX1_curable_53 rfl ?_
    refine g_ireturn (pc := 54) dX1_curable_54 rfl (by first | exact rfl | exact j_nb _) ?_
    exact ⟨rfl, hI, hF⟩
  | succ m ih =>
    intro p h hm hr9 hI hF
    have b8 := hI.2.2.2.2.1.2.2.2.2.2.2.2.1
    have b10 := hI.2.2.2.2.1.2.2.2.2.2.2.2.2.1
    have bP := hI.2.2.2.2.1.2.2.2.2.2.2.2.2.2.1
    refine g_iload_n (pc := 4) dX1_curable_4 rfl ?_
    refine g_aload_n (pc := 5) dX1_curable_5 rfl ?_
    refine g_cV (pc := 6) (M' := mX1_pilgrims) (as := []) (ci := 1) rfl i_X1_167_1 eX1_pilgrims dX1_curable_6 hI.1 (k_pilgrims (by omega) hI) (by omega) rfl rfl (Nat.le_of_ble_eq_true rfl) ?_
    refine g_icmp_ge (pc := 9) 53 dX1_curable_9 (by decide) (fun c_9 => absurd c_9 (by intro w; have := (nI_leI (by omega) (by omega)).mp w; omega)) (fun c_9 => ?_)
    refine g_iload_n (pc := 12) dX1_curable_12 rfl ?_
    refine g_aload_n (pc := 13) dX1_curable_13 rfl ?_
    refine g_getfield (pc := 14) f_X1_58_1 dX1_curable_14 hI.1 rfl ?_
    refine g_getfield (pc := 17) f_X1_288_10 dX1_curable_17 (hI.2.2.2.1 0 liv0).1 rfl ?_
    refine g_iload_n (pc := 20) dX1_curable_20 rfl ?_
    refine g_iaload (pc := 21) dX1_curable_21 (hI.2.2.2.1 0 liv0).2.2.2 (j := p) rfl (by omega) (by first | decide | omega) rfl ?_
    rw [show W (400 + 0) p = V 31 (36 + p) from hz.2.2.1 p (by omega)]
    refine g_iconst (pc := 22) (v := -1) dX1_curable_22 (by decide) ?_
    refine g_icmp_ne (pc := 23) 44 dX1_curable_23 (by decide) (fun c_23 => ?_) (fun c_23 => ?_)
    · refine g_iconst (pc := 44) (v := 0) dX1_curable_44 (by decide) ?_
      refine g_ior (pc := 45) dX1_curable_45 ?_
      refine g_istore_n (pc := 46) (ls' := [_, _, _, _]) dX1_curable_46 (by decide) rfl rfl ?_
      refine g_iinc (pc := 47) (ls' := [_, _, _, _]) dX1_curable_47 rfl (by first | exact nI_1 _ | exact rfl) (by decide) rfl rfl ?_
      refine g_goto (pc := 50) 4 dX1_curable_50 (by decide) ?_
      have e : bitsI ((rcuB V (gD g) (gR g) r)) (p + 1) = _ := show bitsI ((rcuB V (gD g) (gR g) r)) p ||| (if ((rcuB V (gD g) (gR g) r)) p = true then bitI p else 0) = _ from by rw [if_neg (by unfold rcuB; rw [decide_eq_false c_23]; simp)]
      have q := ih (p + 1) h (by omega) (by omega) hI hF
      rw [e] at q
      exact q
    · refine g_aload_n (pc := 26) dX1_curable_26 rfl ?_
      refine g_getfield (pc := 27) f_X1_58_1 dX1_curable_27 hI.1 rfl ?_
      refine g_iload_n (pc := 30) dX1_curable_30 rfl ?_
      refine g_iload_n (pc := 31) dX1_curable_31 rfl ?_
      refine c_cV (pc := 32) (M' := mX10_isAble) (as := [_, _]) (ci := 10) rfl i_X1_291_10 eX10_isAble dX1_curable_32 (hI.2.2.2.1 0 liv0).1 (k_isAble (by omega) hI liv0 hz r p hr (by omega)) (by omega) rfl rfl (Nat.le_of_ble_eq_true rfl) (fun h hI fr => ?_)
      replace hF := cFr.tr hF fr
      refine g_ifB_eq (pc := 35) 44 dX1_curable_35 (by decide) (fun c_35 => ?_) (fun c_35 => ?_)
      · refine g_iconst (pc := 44) (v := 0) dX1_curable_44 (by decide) ?_
        refine g_ior (pc := 45) dX1_curable_45 ?_
        refine g_istore_n (pc := 46) (ls' := [_, _, _, _]) dX1_curable_46 (by decide) rfl rfl ?_
        refine g_iinc (pc := 47) (ls' := [_, _, _, _]) dX1_curable_47 rfl (by first | exact nI_1 _ | exact rfl) (by decide) rfl rfl ?_
        refine g_goto (pc := 50) 4 dX1_curable_50 (by decide) ?_
        have e : bitsI ((rcuB V (gD g) (gR g) r)) (p + 1) = _ := show bitsI ((rcuB V (gD g) (gR g) r)) p ||| (if ((rcuB V (gD g) (gR g) r)) p = true then bitI p else 0) = _ from by rw [if_neg (by unfold rcuB; rw [c_35]; simp)]
        have q := ih (p + 1) h (by omega) (by omega) hI hF
        rw [e] at q
        exact q
      · refine g_iconst (pc := 38) (v := 1) dX1_curable_38 (by decide) ?_
        refine g_iload_n (pc := 39) dX1_curable_39 rfl ?_
        refine g_ishl (pc := 40) dX1_curable_40 ?_
        refine g_goto (pc := 41) 45 dX1_curable_41 (by decide) ?_
        refine g_ior (pc := 45) dX1_curable_45 ?_
        refine g_istore_n (pc := 46) (ls' := [_, _, _, _]) dX1_curable_46 (by decide) rfl rfl ?_
        refine g_iinc (pc := 47) (ls' := [_, _, _, _]) dX1_curable_47 rfl (by first | exact nI_1 _ | exact rfl) (by decide) rfl rfl ?_
        refine g_goto (pc := 50) 4 dX1_curable_50 (by decide) ?_
        have e : bitsI ((rcuB V (gD g) (gR g) r)) (p + 1) = _ := show bitsI ((rcuB V (gD g) (gR g) r)) p ||| (if ((rcuB V (gD g) (gR g) r)) p = true then bitI p else 0) = _ from by rw [if_pos (by unfold rcuB; rw [decide_eq_true c_23, c_35]; rfl)]
        have q := ih (p + 1) h (by omega) (by omega) hI hF
        rw [e] at q
        exact q
set_option maxHeartbeats 2000000 in
theorem k_curable {r : Nat} (hd : 608 ≤ d) (hI : InvC ac W g (mlaw V) h) (hz : HZ g W 0 (V 31)) (hr : r < gR g) : Ct E d 0 0 mX1_curable [vR (nC ac 1), vI (nI r)] h (cQ ac W g (mlaw V) h (some (vI (bitsI (rcuB V (gD g) (gR g) r) (gP g))))) := by
  refine ct_of (by decide) (Nat.le_of_ble_eq_true rfl) rfl ?_
  refine g_iconst (pc := 0) (v := 0) dX1_curable_0 (by decide) ?_
  refine g_istore_n (pc := 1) (ls' := [_, _, _, _]) dX1_curable_1 (by decide) rfl rfl ?_
  refine g_iconst (pc := 2) (v := 0) dX1_curable_2 (by decide) ?_
  refine g_istore_n (pc := 3) (ls' := [_, _, _, _]) dX1_curable_3 (by decide) rfl rfl ?_
  exact l_kcurable (by omega) hz hr (gP g) 0 h rfl (Nat.zero_le _) hI cFr.rf
set_option maxHeartbeats 2000000 in
theorem k_relic (hd : 620 ≤ d) (hI : InvC ac W g (mlaw V) h) (hz : HZ g W 0 (V 31)) (r x : Nat) (hr : r < gR g) (hx : x ≤ 5) : Ct E d 0 0 mX1_relic [vR (nC ac 1), vI (nI r), vI (nI x)] h (cQ ac W g (mlaw V) h (some (vI (relS V (gD g) (gR g) (gP g) r x)))) := by
  refine ct_of (by decide) (Nat.le_of_ble_eq_true rfl) rfl ?_
  have hF : cFr h h := cFr.rf
  have b8 := hI.2.2.2.2.1.2.2.2.2.2.2.2.1
  have b10 := hI.2.2.2.2.1.2.2.2.2.2.2.2.2.1
  have bP := hI.2.2.2.2.1.2.2.2.2.2.2.2.2.2.1
  have hv : inR (nI x) 0 5 = true := inC_of (n := 5) hx (by decide)
  refine g_aload_n (pc := 0) dX1_relic_0 rfl ?_
  refine g_iload_n (pc := 1) dX1_relic_1 rfl ?_
  refine g_cVv (pc := 2) (M' := mX1_needRelic) (as := [_]) (ci := 1) rfl i_X1_295_1 eX1_needRelic dX1_relic_2 hI.1 (k_needRT (by omega) hI r hr) (by omega) rfl rfl (Nat.le_of_ble_eq_true rfl) ?_
  refine g_aload_n (pc := 5) dX1_relic_5 rfl ?_
  refine g_iload_n (pc := 6) dX1_relic_6 rfl ?_
  refine g_iconst (pc := 7) (v := 0) dX1_relic_7 (by decide) ?_
  refine g_iconst (pc := 8) (v := 5) dX1_relic_8 (by decide) ?_
  refine g_cS (pc := 9) (M' := mX1_isIn) (as := [_, _, _]) i_X1_252 eX1_isIn dX1_relic_9 (k_isIn _ _ _) (by omega) rfl rfl (Nat.le_of_ble_eq_true rfl) ?_
  rw [hv]
  refine g_cVv (pc := 12) (M' := mX1_need) (as := [_]) (ci := 1) rfl i_X1_183_1 eX1_need dX1_relic_12 hI.1 (k_needT) (by omega) rfl rfl (Nat.le_of_ble_eq_true rfl) ?_
  match x, hx with
  | 0, _ =>
    refine g_iload_n (pc := 15) dX1_relic_15 rfl ?_
    refine g_tableIn (pc := 16) (off := 36) 52 dX1_relic_16 (by decide) (by decide) (by decide) (by decide) ?_
    refine g_aload_n (pc := 52) dX1_relic_52 rfl ?_
    refine g_iload_n (pc := 53) dX1_relic_53 rfl ?_
    refine g_cV (pc := 54) (M' := mX1_relicOf) (as := [_]) (ci := 1) rfl i_X1_298_1 eX1_relicOf dX1_relic_54 hI.1 (k_relicOf (by omega) hI r hr) (by omega) rfl rfl (Nat.le_of_ble_eq_true rfl) ?_
    refine g_getfield (pc := 57) f_X1_302_15 dX1_relic_57 (hI.2.2.2.2.1.2.2.2.2.2.1 r hr) rfl ?_
    refine g_ireturn (pc := 60) dX1_relic_60 rfl (by first | exact rfl | exact j_nb _) ?_
    exact ⟨rfl, hI, hF⟩
  | 1, _ =>
    refine g_iload_n (pc := 15) dX1_relic_15 rfl ?_
    refine g_tableIn (pc := 16) (off := 45) 61 dX1_relic_16 (by decide) (by decide) (by decide) (by decide) ?_
    refine g_aload_n (pc := 61) dX1_relic_61 rfl ?_
    refine g_iload_n (pc := 62) dX1_relic_62 rfl ?_
    refine g_cV (pc := 63) (M' := mX1_relicOf) (as := [_]) (ci := 1) rfl i_X1_298_1 eX1_relicOf dX1_relic_63 hI.1 (k_relicOf (by omega) hI r hr) (by omega) rfl rfl (Nat.le_of_ble_eq_true rfl) ?_
    refine g_getfield (pc := 66) f_X1_305_15 dX1_relic_66 (hI.2.2.2.2.1.2.2.2.2.2.1 r hr) rfl ?_
    refine g_ireturn (pc := 69) dX1_relic_69 rfl (by first | exact rfl | exact j_nb _) ?_
    exact ⟨rfl, hI, hF⟩
  | 2, _ =>
    refine g_iload_n (pc := 15) dX1_relic_15 rfl ?_
    refine g_tableIn (pc := 16) (off := 54) 70 dX1_relic_16 (by decide) (by decide) (by decide) (by decide) ?_
    refine g_aload_n (pc := 70) dX1_relic_70 rfl ?_
    refine g_iload_n (pc := 71) dX1_relic_71 rfl ?_
    refine g_cV (pc := 72) (M' := mX1_relicOf) (as := [_]) (ci := 1) rfl i_X1_298_1 eX1_relicOf dX1_relic_72 hI.1 (k_relicOf (by omega) hI r hr) (by omega) rfl rfl (Nat.le_of_ble_eq_true rfl) ?_
    refine g_getfield (pc := 75) f_X1_308_15 dX1_relic_75 (hI.2.2.2.2.1.2.2.2.2.2.1 r hr) rfl ?_
    refine g_ireturn (pc := 78) dX1_relic_78 rfl (by first | exact rfl | exact j_nb _) ?_
    exact ⟨rfl, hI, hF⟩
  | 3, _ =>
    refine g_iload_n (pc := 15) dX1_relic_15 rfl ?_
    refine g_tableIn (pc := 16) (off := 63) 79 dX1_relic_16 (by decide) (by decide) (by decide) (by decide) ?_
    refine g_aload_n (pc := 79) dX1_relic_79 rfl ?_
    refine g_getfield (pc := 80) f_X1_58_1 dX1_relic_80 hI.1 rfl ?_
    refine g_getfield (pc := 83) f_X1_311_10 dX1_relic_83 (hI.2.2.2.1 0 liv0).1 rfl ?_
    refine g_iload_n (pc := 86) dX1_relic_86 rfl ?_
    refine g_iaload (pc := 87) dX1_relic_87 (hI.2.2.2.1 0 liv0).2.1 (j := r) rfl (by omega) (by first | decide | omega) rfl ?_
    refine g_ireturn (pc := 88) dX1_relic_88 rfl (by first | exact rfl | exact j_nb _) ?_
    exact ⟨rv (hz.1 r (by omega)), hI, hF⟩
  | 4, _ =>
    refine g_iload_n (pc := 15) dX1_relic_15 rfl ?_
    refine g_tableIn (pc := 16) (off := 73) 89 dX1_relic_16 (by decide) (by decide) (by decide) (by decide) ?_
    refine g_aload_n (pc := 89) dX1_relic_89 rfl ?_
    refine g_getfield (pc := 90) f_X1_58_1 dX1_relic_90 hI.1 rfl ?_
    refine g_iload_n (pc := 93) dX1_relic_93 rfl ?_
    refine c_cV (pc := 94) (M' := mX10_powerOf) (as := [_]) (ci := 10) rfl i_X1_314_10 eX10_powerOf dX1_relic_94 (hI.2.2.2.1 0 liv0).1 (k_powerOf (by omega) hI liv0 hz r hr) (by omega) rfl rfl (Nat.le_of_ble_eq_true rfl) (fun h hI fr => ?_)
    replace hF := cFr.tr hF fr
    refine g_ireturn (pc := 97) dX1_relic_97 rfl (by first | exact rfl | exact j_nb _) ?_
    exact ⟨rfl, hI, hF⟩
  | 5, _ =>
    refine g_iload_n (pc := 15) dX1_relic_15 rfl ?_
    refine g_tableOut (pc := 16) 98 dX1_relic_16 (by decide) (by decide) ?_
    refine g_aload_n (pc := 98) dX1_relic_98 rfl ?_
    refine g_iload_n (pc := 99) dX1_relic_99 rfl ?_
    refine c_cV (pc := 100) (M' := mX1_curable) (as := [_]) (ci := 1) rfl i_X1_317_1 eX1_curable dX1_relic_100 hI.1 (k_curable (by omega) hI hz hr) (by omega) rfl rfl (Nat.le_of_ble_eq_true rfl) (fun h hI fr => ?_)
    replace hF := cFr.tr hF fr
    refine g_ireturn (pc := 103) dX1_relic_103 rfl (by first | exact rfl | exact j_nb _) ?_
    exact ⟨rfl, hI, hF⟩
  | x + 6, hx => exact absurd hx (by omega)
set_option maxHeartbeats 2000000 in
theorem k_pilgrim (hd : 620 ≤ d) (hI : InvC ac W g (mlaw V) h) (hz : HZ g W 0 (V 31)) (p x : Nat) (hp : p < gP g) (hx : x ≤ 3) : Ct E d 0 0 mX1_pilgrim [vR (nC ac 1), vI (nI p), vI (nI x)] h (cQ ac W g (mlaw V) h (some (vI (pilS V (gD g) (gR g) p x)))) := by
  refine ct_of (by decide) (Nat.le_of_ble_eq_true rfl) rfl ?_
  have hF : cFr h h := cFr.rf
  have b8 := hI.2.2.2.2.1.2.2.2.2.2.2.2.1
  have b10 := hI.2.2.2.2.1.2.2.2.2.2.2.2.2.1
  have bP := hI.2.2.2.2.1.2.2.2.2.2.2.2.2.2.1
  have hv : inR (nI x) 0 3 = true := inC_of (n := 3) hx (by decide)
  refine g_aload_n (pc := 0) dX1_pilgrim_0 rfl ?_
  refine g_iload_n (pc := 1) dX1_pilgrim_1 rfl ?_
  refine g_cVv (pc := 2) (M' := mX1_needPilgrim) (as := [_]) (ci := 1) rfl i_X1_320_1 eX1_needPilgrim dX1_pilgrim_2 hI.1 (k_needPT (by omega) hI p hp) (by omega) rfl rfl (Nat.le_of_ble_eq_true rfl) ?_
  refine g_aload_n (pc := 5) dX1_pilgrim_5 rfl ?_
  refine g_iload_n (pc := 6) dX1_pilgrim_6 rfl ?_
  refine g_iconst (pc := 7) (v := 0) dX1_pilgrim_7 (by decide) ?_
  refine g_iconst (pc := 8) (v := 3) dX1_pilgrim_8 (by decide) ?_
  refine g_cS (pc := 9) (M' := mX1_isIn) (as := [_, _, _]) i_X1_252 eX1_isIn dX1_pilgrim_9 (k_isIn _ _ _) (by omega) rfl rfl (Nat.le_of_ble_eq_true rfl) ?_
  rw [hv]
  refine g_cVv (pc := 12) (M' := mX1_need) (as := [_]) (ci := 1) rfl i_X1_183_1 eX1_need dX1_pilgrim_12 hI.1 (k_needT) (by omega) rfl rfl (Nat.le_of_ble_eq_true rfl) ?_
  match x, hx with
  | 0, _ =>
    refine g_iload_n (pc := 15) dX1_pilgrim_15 rfl ?_
    refine g_tableIn (pc := 16) (off := 28) 44 dX1_pilgrim_16 (by decide) (by decide) (by decide) (by decide) ?_
    refine g_aload_n (pc := 44) dX1_pilgrim_44 rfl ?_
    refine g_iload_n (pc := 45) dX1_pilgrim_45 rfl ?_
    refine g_cV (pc := 46) (M' := mX1_pilgrimOf) (as := [_]) (ci := 1) rfl i_X1_323_1 eX1_pilgrimOf dX1_pilgrim_46 hI.1 (k_pilgrimOf (by omega) hI p hp) (by omega) rfl rfl (Nat.le_of_ble_eq_true rfl) ?_
    refine g_getfield (pc := 49) f_X1_327_16 dX1_pilgrim_49 (hI.2.2.2.2.1.2.2.2.2.2.2.1 p hp) rfl ?_
    refine g_ireturn (pc := 52) dX1_pilgrim_52 rfl (by first | exact rfl | exact j_nb _) ?_
    exact ⟨rfl, hI, hF⟩
  | 1, _ =>
    refine g_iload_n (pc := 15) dX1_pilgrim_15 rfl ?_
    refine g_tableIn (pc := 16) (off := 37) 53 dX1_pilgrim_16 (by decide) (by decide) (by decide) (by decide) ?_
    refine g_aload_n (pc := 53) dX1_pilgrim_53 rfl ?_
    refine g_iload_n (pc := 54) dX1_pilgrim_54 rfl ?_
    refine g_cV (pc := 55) (M' := mX1_pilgrimOf) (as := [_]) (ci := 1) rfl i_X1_323_1 eX1_pilgrimOf dX1_pilgrim_55 hI.1 (k_pilgrimOf (by omega) hI p hp) (by omega) rfl rfl (Nat.le_of_ble_eq_true rfl) ?_
    refine g_getfield (pc := 58) f_X1_328_16 dX1_pilgrim_58 (hI.2.2.2.2.1.2.2.2.2.2.2.1 p hp) rfl ?_
    refine g_ireturn (pc := 61) dX1_pilgrim_61 rfl (by first | exact rfl | exact j_nb _) ?_
    exact ⟨rfl, hI, hF⟩
  | 2, _ =>
    refine g_iload_n (pc := 15) dX1_pilgrim_15 rfl ?_
    refine g_tableIn (pc := 16) (off := 46) 62 dX1_pilgrim_16 (by decide) (by decide) (by decide) (by decide) ?_
    refine g_aload_n (pc := 62) dX1_pilgrim_62 rfl ?_
    refine g_getfield (pc := 63) f_X1_58_1 dX1_pilgrim_63 hI.1 rfl ?_
    refine g_getfield (pc := 66) f_X1_288_10 dX1_pilgrim_66 (hI.2.2.2.1 0 liv0).1 rfl ?_
    refine g_iload_n (pc := 69) dX1_pilgrim_69 rfl ?_
    refine g_iaload (pc := 70) dX1_pilgrim_70 (hI.2.2.2.1 0 liv0).2.2.2 (j := p) rfl (by omega) (by first | decide | omega) rfl ?_
    refine g_ireturn (pc := 71) dX1_pilgrim_71 rfl (by first | exact rfl | exact j_nb _) ?_
    exact ⟨rv (hz.2.2.1 p (by omega)), hI, hF⟩
  | 3, _ =>
    refine g_iload_n (pc := 15) dX1_pilgrim_15 rfl ?_
    refine g_tableOut (pc := 16) 72 dX1_pilgrim_16 (by decide) (by decide) ?_
    refine g_aload_n (pc := 72) dX1_pilgrim_72 rfl ?_
    refine g_getfield (pc := 73) f_X1_58_1 dX1_pilgrim_73 hI.1 rfl ?_
    refine g_aload_n (pc := 76) dX1_pilgrim_76 rfl ?_
    refine g_cV (pc := 77) (M' := mX1_relics) (as := []) (ci := 1) rfl i_X1_165_1 eX1_relics dX1_pilgrim_77 hI.1 (k_relics (by omega) hI) (by omega) rfl rfl (Nat.le_of_ble_eq_true rfl) ?_
    refine g_iload_n (pc := 80) dX1_pilgrim_80 rfl ?_
    refine c_cS (pc := 81) (M' := mX1_able) (as := [_, _, _]) i_X1_330 eX1_able dX1_pilgrim_81 (k_able (by omega) hI liv0 hz hp) (by omega) rfl rfl (Nat.le_of_ble_eq_true rfl) (fun h hI fr => ?_)
    replace hF := cFr.tr hF fr
    refine g_ireturn (pc := 84) dX1_pilgrim_84 rfl (by first | exact rfl | exact j_nb _) ?_
    exact ⟨rfl, hI, hF⟩
  | x + 4, hx => exact absurd hx (by omega)
set_option maxHeartbeats 2000000 in
theorem k_can (hd : 620 ≤ d) (hI : InvC ac W g (mlaw V) h) (hz : HZ g W 0 (V 31)) (hb : HB (V 31)) (r p : Nat) (hr : r < gR g) (hp : p < gP g) : Ct E d 0 0 mX1_can [vR (nC ac 1), vI (nI r), vI (nI p)] h (cQ ac W g (mlaw V) h (some (vI (bI (ccI (mlaw V) (gD g) (gR g) (V 31) r p))))) := by
  refine ct_of (by decide) (Nat.le_of_ble_eq_true rfl) rfl ?_
  have hF : cFr h h := cFr.rf
  have b8 := hI.2.2.2.2.1.2.2.2.2.2.2.2.1
  have b10 := hI.2.2.2.2.1.2.2.2.2.2.2.2.2.1
  have bP := hI.2.2.2.2.1.2.2.2.2.2.2.2.2.2.1
  refine g_aload_n (pc := 0) dX1_can_0 rfl ?_
  refine g_iload_n (pc := 1) dX1_can_1 rfl ?_
  refine g_cVv (pc := 2) (M' := mX1_needRelic) (as := [_]) (ci := 1) rfl i_X1_295_1 eX1_needRelic dX1_can_2 hI.1 (k_needRT (by omega) hI r hr) (by omega) rfl rfl (Nat.le_of_ble_eq_true rfl) ?_
  refine g_aload_n (pc := 5) dX1_can_5 rfl ?_
  refine g_iload_n (pc := 6) dX1_can_6 rfl ?_
  refine g_cVv (pc := 7) (M' := mX1_needPilgrim) (as := [_]) (ci := 1) rfl i_X1_320_1 eX1_needPilgrim dX1_can_7 hI.1 (k_needPT (by omega) hI p hp) (by omega) rfl rfl (Nat.le_of_ble_eq_true rfl) ?_
  refine g_aload_n (pc := 10) dX1_can_10 rfl ?_
  refine g_getfield (pc := 11) f_X1_58_1 dX1_can_11 hI.1 rfl ?_
  refine g_iload_n (pc := 14) dX1_can_14 rfl ?_
  refine g_iload_n (pc := 15) dX1_can_15 rfl ?_
  refine c_cV (pc := 16) (M' := mX10_canCure) (as := [_, _]) (ci := 10) rfl i_X1_338_10 eX10_canCure dX1_can_16 (hI.2.2.2.1 0 liv0).1 (k_canCure (by omega) hI liv0 hz hb r p hr hp) (by omega) rfl rfl (Nat.le_of_ble_eq_true rfl) (fun h hI fr => ?_)
  replace hF := cFr.tr hF fr
  refine g_ireturn (pc := 19) dX1_can_19 rfl (by first | exact rfl | exact j_nb _) ?_
  exact ⟨rfl, hI, hF⟩
set_option maxHeartbeats 2000000 in
theorem k_would (hd : 620 ≤ d) (hI : InvC ac W g (mlaw V) h) (hz : HZ g W 0 (V 31)) (a0 a1 a2 a3 a4 a5 a6 a7 : Int32) (hv : (inR a0 1 30 && inR a1 0 999 && inR a2 0 999 && inR a3 0 15 && inR a4 0 5 && inR a5 0 9 && inR a6 0 7 && inR a7 0 500) = true) : Ct E d 0 0 mX1_would [vR (nC ac 1), vI a0, vI a1, vI a2, vI a3, vI a4, vI a5, vI a6, vI a7] h (cQ ac W g (mlaw V) h (some (vI (clampI (mlaw V (fc8 a0 a1 a2 a3 a4 a5 a6 a7)))))) := by
  refine ct_of (by decide) (Nat.le_of_ble_eq_true rfl) rfl ?_
  have hF : cFr h h := cFr.rf
  have b8 := hI.2.2.2.2.1.2.2.2.2.2.2.2.1
  have b10 := hI.2.2.2.2.1.2.2.2.2.2.2.2.2.1
  have bP := hI.2.2.2.2.1.2.2.2.2.2.2.2.2.2.1
  simp only [Bool.and_eq_true] at hv
  obtain ⟨⟨⟨⟨⟨⟨⟨v0, v1⟩, v2⟩, v3⟩, v4⟩, v5⟩, v6⟩, v7⟩ := hv
  refine g_aload_n (pc := 0) dX1_would_0 rfl ?_
  refine g_iload_n (pc := 1) dX1_would_1 rfl ?_
  refine g_iconst (pc := 2) (v := 1) dX1_would_2 (by decide) ?_
  refine g_bipush (pc := 3) (v := 30) dX1_would_3 (by decide) ?_
  refine g_cS (pc := 5) (M' := mX1_isIn) (as := [_, _, _]) i_X1_252 eX1_isIn dX1_would_5 (k_isIn _ _ _) (by omega) rfl rfl (Nat.le_of_ble_eq_true rfl) ?_
  refine g_ifB_eq (pc := 8) 92 dX1_would_8 (by decide) (fun c_8 => absurd (v0.symm.trans c_8) (by decide)) (fun c_8 => ?_)
  refine g_iload_n (pc := 11) dX1_would_11 rfl ?_
  refine g_iconst (pc := 12) (v := 0) dX1_would_12 (by decide) ?_
  refine g_sipush (pc := 13) (v := 999) dX1_would_13 (by decide) ?_
  refine g_cS (pc := 16) (M' := mX1_isIn) (as := [_, _, _]) i_X1_252 eX1_isIn dX1_would_16 (k_isIn _ _ _) (by omega) rfl rfl (Nat.le_of_ble_eq_true rfl) ?_
  refine g_ifB_eq (pc := 19) 92 dX1_would_19 (by decide) (fun c_19 => absurd (v1.symm.trans c_19) (by decide)) (fun c_19 => ?_)
  refine g_iload_n (pc := 22) dX1_would_22 rfl ?_
  refine g_iconst (pc := 23) (v := 0) dX1_would_23 (by decide) ?_
  refine g_sipush (pc := 24) (v := 999) dX1_would_24 (by decide) ?_
  refine g_cS (pc := 27) (M' := mX1_isIn) (as := [_, _, _]) i_X1_252 eX1_isIn dX1_would_27 (k_isIn _ _ _) (by omega) rfl rfl (Nat.le_of_ble_eq_true rfl) ?_
  refine g_ifB_eq (pc := 30) 92 dX1_would_30 (by decide) (fun c_30 => absurd (v2.symm.trans c_30) (by decide)) (fun c_30 => ?_)
  refine g_iload (pc := 33) dX1_would_33 rfl ?_
  refine g_iconst (pc := 35) (v := 0) dX1_would_35 (by decide) ?_
  refine g_bipush (pc := 36) (v := 15) dX1_would_36 (by decide) ?_
  refine g_cS (pc := 38) (M' := mX1_isIn) (as := [_, _, _]) i_X1_252 eX1_isIn dX1_would_38 (k_isIn _ _ _) (by omega) rfl rfl (Nat.le_of_ble_eq_true rfl) ?_
  refine g_ifB_eq (pc := 41) 92 dX1_would_41 (by decide) (fun c_41 => absurd (v3.symm.trans c_41) (by decide)) (fun c_41 => ?_)
  refine g_iload (pc := 44) dX1_would_44 rfl ?_
  refine g_iconst (pc := 46) (v := 0) dX1_would_46 (by decide) ?_
  refine g_iconst (pc := 47) (v := 5) dX1_would_47 (by decide) ?_
  refine g_cS (pc := 48) (M' := mX1_isIn) (as := [_, _, _]) i_X1_252 eX1_isIn dX1_would_48 (k_isIn _ _ _) (by omega) rfl rfl (Nat.le_of_ble_eq_true rfl) ?_
  refine g_ifB_eq (pc := 51) 92 dX1_would_51 (by decide) (fun c_51 => absurd (v4.symm.trans c_51) (by decide)) (fun c_51 => ?_)
  refine g_iload (pc := 54) dX1_would_54 rfl ?_
  refine g_iconst (pc := 56) (v := 0) dX1_would_56 (by decide) ?_
  refine g_bipush (pc := 57) (v := 9) dX1_would_57 (by decide) ?_
  refine g_cS (pc := 59) (M' := mX1_isIn) (as := [_, _, _]) i_X1_252 eX1_isIn dX1_would_59 (k_isIn _ _ _) (by omega) rfl rfl (Nat.le_of_ble_eq_true rfl) ?_
  refine g_ifB_eq (pc := 62) 92 dX1_would_62 (by decide) (fun c_62 => absurd (v5.symm.trans c_62) (by decide)) (fun c_62 => ?_)
  refine g_iload (pc := 65) dX1_would_65 rfl ?_
  refine g_iconst (pc := 67) (v := 0) dX1_would_67 (by decide) ?_
  refine g_bipush (pc := 68) (v := 7) dX1_would_68 (by decide) ?_
  refine g_cS (pc := 70) (M' := mX1_isIn) (as := [_, _, _]) i_X1_252 eX1_isIn dX1_would_70 (k_isIn _ _ _) (by omega) rfl rfl (Nat.le_of_ble_eq_true rfl) ?_
  refine g_ifB_eq (pc := 73) 92 dX1_would_73 (by decide) (fun c_73 => absurd (v6.symm.trans c_73) (by decide)) (fun c_73 => ?_)
  refine g_iload (pc := 76) dX1_would_76 rfl ?_
  refine g_iconst (pc := 78) (v := 0) dX1_would_78 (by decide) ?_
  refine g_sipush (pc := 79) (v := 500) dX1_would_79 (by decide) ?_
  refine g_cS (pc := 82) (M' := mX1_isIn) (as := [_, _, _]) i_X1_252 eX1_isIn dX1_would_82 (k_isIn _ _ _) (by omega) rfl rfl (Nat.le_of_ble_eq_true rfl) ?_
  refine g_ifB_eq (pc := 85) 92 dX1_would_85 (by decide) (fun c_85 => absurd (v7.symm.trans c_85) (by decide)) (fun c_85 => ?_)
  refine g_iconst (pc := 88) (v := 1) dX1_would_88 (by decide) ?_
  refine g_goto (pc := 89) 93 dX1_would_89 (by decide) ?_
  refine g_cVv (pc := 93) (M' := mX1_need) (as := [_]) (ci := 1) rfl i_X1_183_1 eX1_need dX1_would_93 hI.1 (k_needT) (by omega) rfl rfl (Nat.le_of_ble_eq_true rfl) ?_
  refine g_aload_n (pc := 96) dX1_would_96 rfl ?_
  refine g_iload_n (pc := 97) dX1_would_97 rfl ?_
  refine g_iload_n (pc := 98) dX1_would_98 rfl ?_
  refine g_iload_n (pc := 99) dX1_would_99 rfl ?_
  refine g_iload (pc := 100) dX1_would_100 rfl ?_
  refine g_iload (pc := 102) dX1_would_102 rfl ?_
  refine g_iload (pc := 104) dX1_would_104 rfl ?_
  refine g_iload (pc := 106) dX1_would_106 rfl ?_
  refine g_iload (pc := 108) dX1_would_108 rfl ?_
  refine c_cV (pc := 110) (M' := mX1_powerBy) (as := [_, _, _, _, _, _, _, _]) (ci := 1) rfl i_X1_334_1 eX1_powerBy dX1_would_110 hI.1 (k_powerBy (by omega) hI _ _ _ _ _ _ _ _) (by omega) rfl rfl (Nat.le_of_ble_eq_true rfl) (fun h hI fr => ?_)
  replace hF := cFr.tr hF fr
  refine g_ireturn (pc := 113) dX1_would_113 rfl (by first | exact rfl | exact j_nb _) ?_
  exact ⟨rfl, hI, hF⟩
end
section
variable {E : jE} {d : Nat} {h : jH} {ac : Nat → Nat} {W : mV} {g : HD} {F : (Nat → Int32) → Int32}
set_option maxHeartbeats 2000000 in
theorem x_sister (hd : 20 ≤ d) (hI : InvC ac W g F h) (s a0 : Int32) (hv : inR s 0 (nI (gS g) - 1) = false) : Ct E d 1 6 mX1_sister [vR (nC ac 1), vI s, vI a0] h (cX ac W g F h nmNS 0) := by
  refine ct_of (by decide) (Nat.le_of_ble_eq_true rfl) rfl ?_
  have hF : cFr h h := cFr.rf
  have b8 := hI.2.2.2.2.1.2.2.2.2.2.2.2.1
  have b10 := hI.2.2.2.2.1.2.2.2.2.2.2.2.2.1
  have bP := hI.2.2.2.2.1.2.2.2.2.2.2.2.2.2.1
  refine g_aload_n (pc := 0) dX1_sister_0 rfl ?_
  refine g_iload_n (pc := 1) dX1_sister_1 rfl ?_
  exact c_tV (pc := 2) (M' := mX1_needSister) (as := [_]) (ci := 1) rfl i_X1_273_1 eX1_needSister dX1_sister_2 hI.1 (k_needSF (by omega) hI s hv) (by omega) rfl rfl (Nat.le_of_ble_eq_true rfl) (by decide) hF (by omega) (by omega)
set_option maxHeartbeats 2000000 in
theorem x_relic (hd : 20 ≤ d) (hI : InvC ac W g F h) (s a0 : Int32) (hv : inR s 0 (nI (gR g) - 1) = false) : Ct E d 1 6 mX1_relic [vR (nC ac 1), vI s, vI a0] h (cX ac W g F h nmNS 0) := by
  refine ct_of (by decide) (Nat.le_of_ble_eq_true rfl) rfl ?_
  have hF : cFr h h := cFr.rf
  have b8 := hI.2.2.2.2.1.2.2.2.2.2.2.2.1
  have b10 := hI.2.2.2.2.1.2.2.2.2.2.2.2.2.1
  have bP := hI.2.2.2.2.1.2.2.2.2.2.2.2.2.2.1
  refine g_aload_n (pc := 0) dX1_relic_0 rfl ?_
  refine g_iload_n (pc := 1) dX1_relic_1 rfl ?_
  exact c_tV (pc := 2) (M' := mX1_needRelic) (as := [_]) (ci := 1) rfl i_X1_295_1 eX1_needRelic dX1_relic_2 hI.1 (k_needRF (by omega) hI s hv) (by omega) rfl rfl (Nat.le_of_ble_eq_true rfl) (by decide) hF (by omega) (by omega)
set_option maxHeartbeats 2000000 in
theorem x_pilgrim (hd : 20 ≤ d) (hI : InvC ac W g F h) (s a0 : Int32) (hv : inR s 0 (nI (gP g) - 1) = false) : Ct E d 1 6 mX1_pilgrim [vR (nC ac 1), vI s, vI a0] h (cX ac W g F h nmNS 0) := by
  refine ct_of (by decide) (Nat.le_of_ble_eq_true rfl) rfl ?_
  have hF : cFr h h := cFr.rf
  have b8 := hI.2.2.2.2.1.2.2.2.2.2.2.2.1
  have b10 := hI.2.2.2.2.1.2.2.2.2.2.2.2.2.1
  have bP := hI.2.2.2.2.1.2.2.2.2.2.2.2.2.2.1
  refine g_aload_n (pc := 0) dX1_pilgrim_0 rfl ?_
  refine g_iload_n (pc := 1) dX1_pilgrim_1 rfl ?_
  exact c_tV (pc := 2) (M' := mX1_needPilgrim) (as := [_]) (ci := 1) rfl i_X1_320_1 eX1_needPilgrim dX1_pilgrim_2 hI.1 (k_needPF (by omega) hI s hv) (by omega) rfl rfl (Nat.le_of_ble_eq_true rfl) (by decide) hF (by omega) (by omega)
set_option maxHeartbeats 2000000 in
theorem x_can (hd : 20 ≤ d) (hI : InvC ac W g F h) (s a0 : Int32) (hv : inR s 0 (nI (gR g) - 1) = false) : Ct E d 1 6 mX1_can [vR (nC ac 1), vI s, vI a0] h (cX ac W g F h nmNS 0) := by
  refine ct_of (by decide) (Nat.le_of_ble_eq_true rfl) rfl ?_
  have hF : cFr h h := cFr.rf
  have b8 := hI.2.2.2.2.1.2.2.2.2.2.2.2.1
  have b10 := hI.2.2.2.2.1.2.2.2.2.2.2.2.2.1
  have bP := hI.2.2.2.2.1.2.2.2.2.2.2.2.2.2.1
  refine g_aload_n (pc := 0) dX1_can_0 rfl ?_
  refine g_iload_n (pc := 1) dX1_can_1 rfl ?_
  exact c_tV (pc := 2) (M' := mX1_needRelic) (as := [_]) (ci := 1) rfl i_X1_295_1 eX1_needRelic dX1_can_2 hI.1 (k_needRF (by omega) hI s hv) (by omega) rfl rfl (Nat.le_of_ble_eq_true rfl) (by decide) hF (by omega) (by omega)
set_option maxHeartbeats 2000000 in
theorem y_sister (hd : 20 ≤ d) (hI : InvC ac W g F h) (s : Nat) (x : Int32) (hs : s < gS g) (hv : inR x 0 4 = false) : Ct E d 1 6 mX1_sister [vR (nC ac 1), vI (nI s), vI x] h (cX ac W g F h nmIA 1) := by
  refine ct_of (by decide) (Nat.le_of_ble_eq_true rfl) rfl ?_
  have hF : cFr h h := cFr.rf
  have b8 := hI.2.2.2.2.1.2.2.2.2.2.2.2.1
  have b10 := hI.2.2.2.2.1.2.2.2.2.2.2.2.2.1
  have bP := hI.2.2.2.2.1.2.2.2.2.2.2.2.2.2.1
  refine g_aload_n (pc := 0) dX1_sister_0 rfl ?_
  refine g_iload_n (pc := 1) dX1_sister_1 rfl ?_
  refine g_cVv (pc := 2) (M' := mX1_needSister) (as := [_]) (ci := 1) rfl i_X1_273_1 eX1_needSister dX1_sister_2 hI.1 (k_needST (by omega) hI s hs) (by omega) rfl rfl (Nat.le_of_ble_eq_true rfl) ?_
  refine g_aload_n (pc := 5) dX1_sister_5 rfl ?_
  refine g_iload_n (pc := 6) dX1_sister_6 rfl ?_
  refine g_iconst (pc := 7) (v := 0) dX1_sister_7 (by decide) ?_
  refine g_iconst (pc := 8) (v := 4) dX1_sister_8 (by decide) ?_
  refine g_cS (pc := 9) (M' := mX1_isIn) (as := [_, _, _]) i_X1_252 eX1_isIn dX1_sister_9 (k_isIn _ _ _) (by omega) rfl rfl (Nat.le_of_ble_eq_true rfl) ?_
  rw [hv]
  exact c_tV (pc := 12) (M' := mX1_need) (as := [_]) (ci := 1) rfl i_X1_183_1 eX1_need dX1_sister_12 hI.1 (k_needF (by omega) hI) (by omega) rfl rfl (Nat.le_of_ble_eq_true rfl) (by decide) hF (by omega) (by omega)
set_option maxHeartbeats 2000000 in
theorem y_relic (hd : 20 ≤ d) (hI : InvC ac W g F h) (s : Nat) (x : Int32) (hs : s < gR g) (hv : inR x 0 5 = false) : Ct E d 1 6 mX1_relic [vR (nC ac 1), vI (nI s), vI x] h (cX ac W g F h nmIA 1) := by
  refine ct_of (by decide) (Nat.le_of_ble_eq_true rfl) rfl ?_
  have hF : cFr h h := cFr.rf
  have b8 := hI.2.2.2.2.1.2.2.2.2.2.2.2.1
  have b10 := hI.2.2.2.2.1.2.2.2.2.2.2.2.2.1
  have bP := hI.2.2.2.2.1.2.2.2.2.2.2.2.2.2.1
  refine g_aload_n (pc := 0) dX1_relic_0 rfl ?_
  refine g_iload_n (pc := 1) dX1_relic_1 rfl ?_
  refine g_cVv (pc := 2) (M' := mX1_needRelic) (as := [_]) (ci := 1) rfl i_X1_295_1 eX1_needRelic dX1_relic_2 hI.1 (k_needRT (by omega) hI s hs) (by omega) rfl rfl (Nat.le_of_ble_eq_true rfl) ?_
  refine g_aload_n (pc := 5) dX1_relic_5 rfl ?_
  refine g_iload_n (pc := 6) dX1_relic_6 rfl ?_
  refine g_iconst (pc := 7) (v := 0) dX1_relic_7 (by decide) ?_
  refine g_iconst (pc := 8) (v := 5) dX1_relic_8 (by decide) ?_
  refine g_cS (pc := 9) (M' := mX1_isIn) (as := [_, _, _]) i_X1_252 eX1_isIn dX1_relic_9 (k_isIn _ _ _) (by omega) rfl rfl (Nat.le_of_ble_eq_true rfl) ?_
  rw [hv]
  exact c_tV (pc := 12) (M' := mX1_need) (as := [_]) (ci := 1) rfl i_X1_183_1 eX1_need dX1_relic_12 hI.1 (k_needF (by omega) hI) (by omega) rfl rfl (Nat.le_of_ble_eq_true rfl) (by decide) hF (by omega) (by omega)
set_option maxHeartbeats 2000000 in
theorem y_pilgrim (hd : 20 ≤ d) (hI : InvC ac W g F h) (s : Nat) (x : Int32) (hs : s < gP g) (hv : inR x 0 3 = false) : Ct E d 1 6 mX1_pilgrim [vR (nC ac 1), vI (nI s), vI x] h (cX ac W g F h nmIA 1) := by
  refine ct_of (by decide) (Nat.le_of_ble_eq_true rfl) rfl ?_
  have hF : cFr h h := cFr.rf
  have b8 := hI.2.2.2.2.1.2.2.2.2.2.2.2.1
  have b10 := hI.2.2.2.2.1.2.2.2.2.2.2.2.2.1
  have bP := hI.2.2.2.2.1.2.2.2.2.2.2.2.2.2.1
  refine g_aload_n (pc := 0) dX1_pilgrim_0 rfl ?_
  refine g_iload_n (pc := 1) dX1_pilgrim_1 rfl ?_
  refine g_cVv (pc := 2) (M' := mX1_needPilgrim) (as := [_]) (ci := 1) rfl i_X1_320_1 eX1_needPilgrim dX1_pilgrim_2 hI.1 (k_needPT (by omega) hI s hs) (by omega) rfl rfl (Nat.le_of_ble_eq_true rfl) ?_
  refine g_aload_n (pc := 5) dX1_pilgrim_5 rfl ?_
  refine g_iload_n (pc := 6) dX1_pilgrim_6 rfl ?_
  refine g_iconst (pc := 7) (v := 0) dX1_pilgrim_7 (by decide) ?_
  refine g_iconst (pc := 8) (v := 3) dX1_pilgrim_8 (by decide) ?_
  refine g_cS (pc := 9) (M' := mX1_isIn) (as := [_, _, _]) i_X1_252 eX1_isIn dX1_pilgrim_9 (k_isIn _ _ _) (by omega) rfl rfl (Nat.le_of_ble_eq_true rfl) ?_
  rw [hv]
  exact c_tV (pc := 12) (M' := mX1_need) (as := [_]) (ci := 1) rfl i_X1_183_1 eX1_need dX1_pilgrim_12 hI.1 (k_needF (by omega) hI) (by omega) rfl rfl (Nat.le_of_ble_eq_true rfl) (by decide) hF (by omega) (by omega)
set_option maxHeartbeats 2000000 in
theorem y_can (hd : 20 ≤ d) (hI : InvC ac W g F h) (s : Nat) (x : Int32) (hs : s < gR g) (hv : inR x 0 (nI (gP g) - 1) = false) : Ct E d 1 6 mX1_can [vR (nC ac 1), vI (nI s), vI x] h (cX ac W g F h nmNS 0) := by
  refine ct_of (by decide) (Nat.le_of_ble_eq_true rfl) rfl ?_
  have hF : cFr h h := cFr.rf
  have b8 := hI.2.2.2.2.1.2.2.2.2.2.2.2.1
  have b10 := hI.2.2.2.2.1.2.2.2.2.2.2.2.2.1
  have bP := hI.2.2.2.2.1.2.2.2.2.2.2.2.2.2.1
  refine g_aload_n (pc := 0) dX1_can_0 rfl ?_
  refine g_iload_n (pc := 1) dX1_can_1 rfl ?_
  refine g_cVv (pc := 2) (M' := mX1_needRelic) (as := [_]) (ci := 1) rfl i_X1_295_1 eX1_needRelic dX1_can_2 hI.1 (k_needRT (by omega) hI s hs) (by omega) rfl rfl (Nat.le_of_ble_eq_true rfl) ?_
  refine g_aload_n (pc := 5) dX1_can_5 rfl ?_
  refine g_iload_n (pc := 6) dX1_can_6 rfl ?_
  exact c_tV (pc := 7) (M' := mX1_needPilgrim) (as := [_]) (ci := 1) rfl i_X1_320_1 eX1_needPilgrim dX1_can_7 hI.1 (k_needPF (by omega) hI x hv) (by omega) rfl rfl (Nat.le_of_ble_eq_true rfl) (by decide) hF (by omega) (by omega)
set_option maxHeartbeats 2000000 in
theorem x_told (hd : 20 ≤ d) (hI : InvC ac W g F h) (x : Int32) (hv : inR x 0 10 = false) : Ct E d 1 6 mX1_told [vR (nC ac 1), vI x] h (cX ac W g F h nmIA 1) := by
  refine ct_of (by decide) (Nat.le_of_ble_eq_true rfl) rfl ?_
  have hF : cFr h h := cFr.rf
  have b8 := hI.2.2.2.2.1.2.2.2.2.2.2.2.1
  have b10 := hI.2.2.2.2.1.2.2.2.2.2.2.2.2.1
  have bP := hI.2.2.2.2.1.2.2.2.2.2.2.2.2.2.1
  refine g_aload_n (pc := 0) dX1_told_0 rfl ?_
  refine g_iload_n (pc := 1) dX1_told_1 rfl ?_
  refine g_iconst (pc := 2) (v := 0) dX1_told_2 (by decide) ?_
  refine g_bipush (pc := 3) (v := 10) dX1_told_3 (by decide) ?_
  refine g_cS (pc := 5) (M' := mX1_isIn) (as := [_, _, _]) i_X1_252 eX1_isIn dX1_told_5 (k_isIn _ _ _) (by omega) rfl rfl (Nat.le_of_ble_eq_true rfl) ?_
  rw [hv]
  exact c_tV (pc := 8) (M' := mX1_need) (as := [_]) (ci := 1) rfl i_X1_183_1 eX1_need dX1_told_8 hI.1 (k_needF (by omega) hI) (by omega) rfl rfl (Nat.le_of_ble_eq_true rfl) (by decide) hF (by omega) (by omega)
set_option maxHeartbeats 2000000 in
theorem x_would (hd : 20 ≤ d) (hI : InvC ac W g F h) (a0 a1 a2 a3 a4 a5 a6 a7 : Int32) (hv : (inR a0 1 30 && inR a1 0 999 && inR a2 0 999 && inR a3 0 15 && inR a4 0 5 && inR a5 0 9 && inR a6 0 7 && inR a7 0 500) = false) : Ct E d 1 6 mX1_would [vR (nC ac 1), vI a0, vI a1, vI a2, vI a3, vI a4, vI a5, vI a6, vI a7] h (cX ac W g F h nmIA 1) := by
  refine ct_of (by decide) (Nat.le_of_ble_eq_true rfl) rfl ?_
  have hF : cFr h h := cFr.rf
  have b8 := hI.2.2.2.2.1.2.2.2.2.2.2.2.1
  have b10 := hI.2.2.2.2.1.2.2.2.2.2.2.2.2.1
  have bP := hI.2.2.2.2.1.2.2.2.2.2.2.2.2.2.1
  refine g_aload_n (pc := 0) dX1_would_0 rfl ?_
  refine g_iload_n (pc := 1) dX1_would_1 rfl ?_
  refine g_iconst (pc := 2) (v := 1) dX1_would_2 (by decide) ?_
  refine g_bipush (pc := 3) (v := 30) dX1_would_3 (by decide) ?_
  refine g_cS (pc := 5) (M' := mX1_isIn) (as := [_, _, _]) i_X1_252 eX1_isIn dX1_would_5 (k_isIn _ _ _) (by omega) rfl rfl (Nat.le_of_ble_eq_true rfl) ?_
  refine g_ifB_eq (pc := 8) 92 dX1_would_8 (by decide) (fun c_8 => ?_) (fun c_8 => ?_)
  · refine g_iconst (pc := 92) (v := 0) dX1_would_92 (by decide) ?_
    exact c_tV (pc := 93) (M' := mX1_need) (as := [_]) (ci := 1) rfl i_X1_183_1 eX1_need dX1_would_93 hI.1 (k_needF (by omega) hI) (by omega) rfl rfl (Nat.le_of_ble_eq_true rfl) (by decide) hF (by omega) (by omega)
  · refine g_iload_n (pc := 11) dX1_would_11 rfl ?_
    refine g_iconst (pc := 12) (v := 0) dX1_would_12 (by decide) ?_
    refine g_sipush (pc := 13) (v := 999) dX1_would_13 (by decide) ?_
    refine g_cS (pc := 16) (M' := mX1_isIn) (as := [_, _, _]) i_X1_252 eX1_isIn dX1_would_16 (k_isIn _ _ _) (by omega) rfl rfl (Nat.le_of_ble_eq_true rfl) ?_
    refine g_ifB_eq (pc := 19) 92 dX1_would_19 (by decide) (fun c_19 => ?_) (fun c_19 => ?_)
    · refine g_iconst (pc := 92) (v := 0) dX1_would_92 (by decide) ?_
      exact c_tV (pc := 93) (M' := mX1_need) (as := [_]) (ci := 1) rfl i_X1_183_1 eX1_need dX1_would_93 hI.1 (k_needF (by omega) hI) (by omega) rfl rfl (Nat.le_of_ble_eq_true rfl) (by decide) hF (by omega) (by omega)
    · refine g_iload_n (pc := 22) dX1_would_22 rfl ?_
      refine g_iconst (pc := 23) (v := 0) dX1_would_23 (by decide) ?_
      refine g_sipush (pc := 24) (v := 999) dX1_would_24 (by decide) ?_
      refine g_cS (pc := 27) (M' := mX1_isIn) (as := [_, _, _]) i_X1_252 eX1_isIn dX1_would_27 (k_isIn _ _ _) (by omega) rfl rfl (Nat.le_of_ble_eq_true rfl) ?_
      refine g_ifB_eq (pc := 30) 92 dX1_would_30 (by decide) (fun c_30 => ?_) (fun c_30 => ?_)
      · refine g_iconst (pc := 92) (v := 0) dX1_would_92 (by decide) ?_
        exact c_tV (pc := 93) (M' := mX1_need) (as := [_]) (ci := 1) rfl i_X1_183_1 eX1_need dX1_would_93 hI.1 (k_needF (by omega) hI) (by omega) rfl rfl (Nat.le_of_ble_eq_true rfl) (by decide) hF (by omega) (by omega)
      · refine g_iload (pc := 33) dX1_would_33 rfl ?_
        refine g_iconst (pc := 35) (v := 0) dX1_would_35 (by decide) ?_
        refine g_bipush (pc := 36) (v := 15) dX1_would_36 (by decide) ?_
        refine g_cS (pc := 38) (M' := mX1_isIn) (as := [_, _, _]) i_X1_252 eX1_isIn dX1_would_38 (k_isIn _ _ _) (by omega) rfl rfl (Nat.le_of_ble_eq_true rfl) ?_
        refine g_ifB_eq (pc := 41) 92 dX1_would_41 (by decide) (fun c_41 => ?_) (fun c_41 => ?_)
        · refine g_iconst (pc := 92) (v := 0) dX1_would_92 (by decide) ?_
          exact c_tV (pc := 93) (M' := mX1_need) (as := [_]) (ci := 1) rfl i_X1_183_1 eX1_need dX1_would_93 hI.1 (k_needF (by omega) hI) (by omega) rfl rfl (Nat.le_of_ble_eq_true rfl) (by decide) hF (by omega) (by omega)
        · refine g_iload (pc := 44) dX1_would_44 rfl ?_
          refine g_iconst (pc := 46) (v := 0) dX1_would_46 (by decide) ?_
          refine g_iconst (pc := 47) (v := 5) dX1_would_47 (by decide) ?_
          refine g_cS (pc := 48) (M' := mX1_isIn) (as := [_, _, _]) i_X1_252 eX1_isIn dX1_would_48 (k_isIn _ _ _) (by omega) rfl rfl (Nat.le_of_ble_eq_true rfl) ?_
          refine g_ifB_eq (pc := 51) 92 dX1_would_51 (by decide) (fun c_51 => ?_) (fun c_51 => ?_)
          · refine g_iconst (pc := 92) (v := 0) dX1_would_92 (by decide) ?_
            exact c_tV (pc := 93) (M' := mX1_need) (as := [_]) (ci := 1) rfl i_X1_183_1 eX1_need dX1_would_93 hI.1 (k_needF (by omega) hI) (by omega) rfl rfl (Nat.le_of_ble_eq_true rfl) (by decide) hF (by omega) (by omega)
          · refine g_iload (pc := 54) dX1_would_54 rfl ?_
            refine g_iconst (pc := 56) (v := 0) dX1_would_56 (by decide) ?_
            refine g_bipush (pc := 57) (v := 9) dX1_would_57 (by decide) ?_
            refine g_cS (pc := 59) (M' := mX1_isIn) (as := [_, _, _]) i_X1_252 eX1_isIn dX1_would_59 (k_isIn _ _ _) (by omega) rfl rfl (Nat.le_of_ble_eq_true rfl) ?_
            refine g_ifB_eq (pc := 62) 92 dX1_would_62 (by decide) (fun c_62 => ?_) (fun c_62 => ?_)
            · refine g_iconst (pc := 92) (v := 0) dX1_would_92 (by decide) ?_
              exact c_tV (pc := 93) (M' := mX1_need) (as := [_]) (ci := 1) rfl i_X1_183_1 eX1_need dX1_would_93 hI.1 (k_needF (by omega) hI) (by omega) rfl rfl (Nat.le_of_ble_eq_true rfl) (by decide) hF (by omega) (by omega)
            · refine g_iload (pc := 65) dX1_would_65 rfl ?_
              refine g_iconst (pc := 67) (v := 0) dX1_would_67 (by decide) ?_
              refine g_bipush (pc := 68) (v := 7) dX1_would_68 (by decide) ?_
              refine g_cS (pc := 70) (M' := mX1_isIn) (as := [_, _, _]) i_X1_252 eX1_isIn dX1_would_70 (k_isIn _ _ _) (by omega) rfl rfl (Nat.le_of_ble_eq_true rfl) ?_
              refine g_ifB_eq (pc := 73) 92 dX1_would_73 (by decide) (fun c_73 => ?_) (fun c_73 => ?_)
              · refine g_iconst (pc := 92) (v := 0) dX1_would_92 (by decide) ?_
                exact c_tV (pc := 93) (M' := mX1_need) (as := [_]) (ci := 1) rfl i_X1_183_1 eX1_need dX1_would_93 hI.1 (k_needF (by omega) hI) (by omega) rfl rfl (Nat.le_of_ble_eq_true rfl) (by decide) hF (by omega) (by omega)
              · refine g_iload (pc := 76) dX1_would_76 rfl ?_
                refine g_iconst (pc := 78) (v := 0) dX1_would_78 (by decide) ?_
                refine g_sipush (pc := 79) (v := 500) dX1_would_79 (by decide) ?_
                refine g_cS (pc := 82) (M' := mX1_isIn) (as := [_, _, _]) i_X1_252 eX1_isIn dX1_would_82 (k_isIn _ _ _) (by omega) rfl rfl (Nat.le_of_ble_eq_true rfl) ?_
                refine g_ifB_eq (pc := 85) 92 dX1_would_85 (by decide) (fun c_85 => ?_) (fun c_85 => ?_)
                · refine g_iconst (pc := 92) (v := 0) dX1_would_92 (by decide) ?_
                  exact c_tV (pc := 93) (M' := mX1_need) (as := [_]) (ci := 1) rfl i_X1_183_1 eX1_need dX1_would_93 hI.1 (k_needF (by omega) hI) (by omega) rfl rfl (Nat.le_of_ble_eq_true rfl) (by decide) hF (by omega) (by omega)
                · refine g_iconst (pc := 88) (v := 1) dX1_would_88 (by decide) ?_
                  refine g_goto (pc := 89) 93 dX1_would_89 (by decide) ?_
                  exfalso
                  rw [c_8, c_19, c_30, c_41, c_51, c_62, c_73, c_85] at hv
                  exact absurd hv (by decide)
end
