/-! THE COMPONENT: switches on words. Printed by m_c27.py -/
set_option maxRecDepth 100000
def hsB (bs : List Int32) : Nat → Int32
  | 0 => 0
  | n + 1 => 31 * hsB bs n + bs.getD n 0
theorem hs_eq {t : Nat → Nat} {n m : Nat} {bs : List Int32} {c : Int32} (hc : hsB bs m = c) (h : eqN t n m bs = true) : hsN t n = c := by
  obtain ⟨h1, h2⟩ := of_decide_eq_true h
  subst h1
  rw [← hc]
  clear h hc
  induction n with
  | zero => rfl
  | succ n ih =>
    show 31 * hsN t n + nI (t n) = 31 * hsB bs n + bs.getD n 0
    rw [ih (fun j hj => h2 j (by omega)), h2 n (by omega)]
theorem eq_no {t : Nat → Nat} {n m : Nat} {bs : List Int32} {c : Int32} (hc : hsB bs m = c) (h : ¬ hsN t n = c) : eqN t n m bs = false := by
  cases q : eqN t n m bs with
  | false => rfl
  | true => exact absurd (hs_eq hc q) h
theorem i32_ne {x c : Int32} {z : Int} (hz : z = c.toInt) (h : ¬ x = c) : ¬ z = x.toInt := fun e => h (Int32.toInt_inj.mp (e.symm.trans hz))
/-- the letters read are the model's word -/
theorem wd_eq {t : Nat → Nat} {n b m : Nat} {L : List Nat} {bs : List Int32} (hm : m = L.length) (h9 : m ≤ 9) (hb : ∀ j, j < m → bs.getD j 0 = nI (96 + L.getD j 0) ∧ L.getD j 0 < 30) (ht : ∀ k, k < wL t n b → t (b + k) < 128) : eqN (fun k => t (b + k)) (wL t n b) m bs = wdB t n b L := by
  unfold eqN wdB
  rw [decide_eq_decide]
  unfold wL at ht ⊢
  constructor
  · intro ⟨h1, h2⟩
    have e : wl t n b = m := by omega
    refine ⟨by omega, fun i hi => ?_⟩
    have q : nI (t (b + i)) = bs.getD i 0 := h2 i (by omega)
    have hb2 := hb i (by omega)
    have ht2 := ht i (by omega)
    rw [hb2.1, nI_eq (by omega) (by omega)] at q
    exact q
  · intro ⟨h1, h2⟩
    refine ⟨by omega, fun i hi => ?_⟩
    show nI (t (b + i)) = bs.getD i 0
    rw [(hb i (by omega)).1, h2 i (by omega)]
set_option maxHeartbeats 2000000 in
theorem sw_X13_clause_8 {E : jE} {d bc bs n : Nat} {h : jH} {Q : jR → jH → Prop} {s v : jN} {t : Nat → Nat} {l0 l1 l4 l5 : Option jV} (K : jOK E) (hd : 4 ≤ d) (hs : s.1 ≠ 0) (hn : n < 16) (hS : sS h s v n t) (k0 : eqN t n 6 [115, 105, 115, 116, 101, 114] = true → G E d bc bs mX13_clause 105 [l0, l1, some (vR s), some (vI 0), l4, l5] [] h Q) (k2 : eqN t n 7 [112, 105, 108, 103, 114, 105, 109] = true → G E d bc bs mX13_clause 105 [l0, l1, some (vR s), some (vI 2), l4, l5] [] h Q) (k3 : eqN t n 3 [118, 111, 119] = true → G E d bc bs mX13_clause 105 [l0, l1, some (vR s), some (vI 3), l4, l5] [] h Q) (k1 : eqN t n 5 [114, 101, 108, 105, 99] = true → G E d bc bs mX13_clause 105 [l0, l1, some (vR s), some (vI 1), l4, l5] [] h Q) (kN : eqN t n 6 [115, 105, 115, 116, 101, 114] = false → eqN t n 5 [114, 101, 108, 105, 99] = false → eqN t n 7 [112, 105, 108, 103, 114, 105, 109] = false → eqN t n 3 [118, 111, 119] = false → G E d bc bs mX13_clause 105 [l0, l1, some (vR s), some (vI (-1)), l4, l5] [] h Q) : G E d bc bs mX13_clause 8 [l0, l1, some (vR s), some (vI (-1)), l4, l5] [vI (hsN t n)] h Q := by
  have b0 : hsB [115, 105, 115, 116, 101, 114] 6 = -902104540 := by decide +kernel
  have b2 : hsB [112, 105, 108, 103, 114, 105, 109] 7 = -569820318 := by decide +kernel
  have b3 : hsB [118, 111, 119] 3 = 116958 := by decide +kernel
  have b1 : hsB [114, 101, 108, 105, 99] 5 = 108397427 := by decide +kernel
  by_cases h0 : hsN t n = -902104540
  · obtain ⟨q9, w9, C9⟩ := st_X13_51 K
    refine g_lookup (pc := 8) (off := 44) 52 dX13_clause_8 (by decide) (by rw [h0]; decide) (by decide) ?_
    refine g_aload_n (pc := 52) dX13_clause_52 rfl ?_
    refine g_ldcS (pc := 53) (fun _ => C9.1) dX13_clause_53 ?_
    refine g_cV (pc := 55) (M' := mJ9_equals) (as := [_]) (ci := 37) rfl i_X13_53_37 eJ9_equals dX13_clause_55 hS.2.choose_spec.choose_spec.1 (k_equals (by omega) hs hn (by decide) hS C9) (by omega) rfl rfl (Nat.le_of_ble_eq_true rfl) ?_
    refine g_ifB_eq (pc := 58) 105 dX13_clause_58 (by decide) (fun c_58 => ?_) (fun c_58 => ?_)
    · exact kN c_58 (eq_no b1 (by rw [h0]; decide)) (eq_no b2 (by rw [h0]; decide)) (eq_no b3 (by rw [h0]; decide))
    · refine g_iconst (pc := 61) (v := 0) dX13_clause_61 (by decide) ?_
      refine g_istore_n (pc := 62) (ls' := [_, _, _, _, _, _]) dX13_clause_62 (by decide) rfl rfl ?_
      refine g_goto (pc := 63) 105 dX13_clause_63 (by decide) ?_
      exact k0 c_58
  by_cases h2 : hsN t n = -569820318
  · obtain ⟨q9, w9, C9⟩ := st_X13_59 K
    refine g_lookup (pc := 8) (off := 72) 80 dX13_clause_8 (by decide) (by rw [h2]; decide) (by decide) ?_
    refine g_aload_n (pc := 80) dX13_clause_80 rfl ?_
    refine g_ldcS (pc := 81) (fun _ => C9.1) dX13_clause_81 ?_
    refine g_cV (pc := 83) (M' := mJ9_equals) (as := [_]) (ci := 37) rfl i_X13_53_37 eJ9_equals dX13_clause_83 hS.2.choose_spec.choose_spec.1 (k_equals (by omega) hs hn (by decide) hS C9) (by omega) rfl rfl (Nat.le_of_ble_eq_true rfl) ?_
    refine g_ifB_eq (pc := 86) 105 dX13_clause_86 (by decide) (fun c_86 => ?_) (fun c_86 => ?_)
    · exact kN (eq_no b0 (by rw [h2]; decide)) (eq_no b1 (by rw [h2]; decide)) c_86 (eq_no b3 (by rw [h2]; decide))
    · refine g_iconst (pc := 89) (v := 2) dX13_clause_89 (by decide) ?_
      refine g_istore_n (pc := 90) (ls' := [_, _, _, _, _, _]) dX13_clause_90 (by decide) rfl rfl ?_
      refine g_goto (pc := 91) 105 dX13_clause_91 (by decide) ?_
      exact k2 c_86
  by_cases h3 : hsN t n = 116958
  · obtain ⟨q9, w9, C9⟩ := st_X13_79 K
    refine g_lookup (pc := 8) (off := 86) 94 dX13_clause_8 (by decide) (by rw [h3]; decide) (by decide) ?_
    refine g_aload_n (pc := 94) dX13_clause_94 rfl ?_
    refine g_ldcS (pc := 95) (fun _ => C9.1) dX13_clause_95 ?_
    refine g_cV (pc := 97) (M' := mJ9_equals) (as := [_]) (ci := 37) rfl i_X13_53_37 eJ9_equals dX13_clause_97 hS.2.choose_spec.choose_spec.1 (k_equals (by omega) hs hn (by decide) hS C9) (by omega) rfl rfl (Nat.le_of_ble_eq_true rfl) ?_
    refine g_ifB_eq (pc := 100) 105 dX13_clause_100 (by decide) (fun c_100 => ?_) (fun c_100 => ?_)
    · exact kN (eq_no b0 (by rw [h3]; decide)) (eq_no b1 (by rw [h3]; decide)) (eq_no b2 (by rw [h3]; decide)) c_100
    · refine g_iconst (pc := 103) (v := 3) dX13_clause_103 (by decide) ?_
      refine g_istore_n (pc := 104) (ls' := [_, _, _, _, _, _]) dX13_clause_104 (by decide) rfl rfl ?_
      exact k3 c_100
  by_cases h1 : hsN t n = 108397427
  · obtain ⟨q9, w9, C9⟩ := st_X13_57 K
    refine g_lookup (pc := 8) (off := 58) 66 dX13_clause_8 (by decide) (by rw [h1]; decide) (by decide) ?_
    refine g_aload_n (pc := 66) dX13_clause_66 rfl ?_
    refine g_ldcS (pc := 67) (fun _ => C9.1) dX13_clause_67 ?_
    refine g_cV (pc := 69) (M' := mJ9_equals) (as := [_]) (ci := 37) rfl i_X13_53_37 eJ9_equals dX13_clause_69 hS.2.choose_spec.choose_spec.1 (k_equals (by omega) hs hn (by decide) hS C9) (by omega) rfl rfl (Nat.le_of_ble_eq_true rfl) ?_
    refine g_ifB_eq (pc := 72) 105 dX13_clause_72 (by decide) (fun c_72 => ?_) (fun c_72 => ?_)
    · exact kN (eq_no b0 (by rw [h1]; decide)) c_72 (eq_no b2 (by rw [h1]; decide)) (eq_no b3 (by rw [h1]; decide))
    · refine g_iconst (pc := 75) (v := 1) dX13_clause_75 (by decide) ?_
      refine g_istore_n (pc := 76) (ls' := [_, _, _, _, _, _]) dX13_clause_76 (by decide) rfl rfl ?_
      refine g_goto (pc := 77) 105 dX13_clause_77 (by decide) ?_
      exact k1 c_72
  refine g_lookup (pc := 8) (off := 97) 105 dX13_clause_8 (by decide) (by show (if (-902104540 : Int) = (hsN t n).toInt then (44 : Int) else if (-569820318 : Int) = (hsN t n).toInt then (72 : Int) else if (116958 : Int) = (hsN t n).toInt then (86 : Int) else if (108397427 : Int) = (hsN t n).toInt then (58 : Int) else 97) = 97; rw [if_neg (i32_ne (c := -902104540) (by decide) h0), if_neg (i32_ne (c := -569820318) (by decide) h2), if_neg (i32_ne (c := 116958) (by decide) h3), if_neg (i32_ne (c := 108397427) (by decide) h1)]) (by decide) ?_
  exact kN (eq_no b0 h0) (eq_no b1 h1) (eq_no b2 h2) (eq_no b3 h3)
set_option maxHeartbeats 2000000 in
theorem sw_X13_clause_186 {E : jE} {d bc bs n : Nat} {h : jH} {Q : jR → jH → Prop} {s v : jN} {t : Nat → Nat} {l0 l1 l4 l5 : Option jV} (K : jOK E) (hd : 4 ≤ d) (hs : s.1 ≠ 0) (hn : n < 16) (hS : sS h s v n t) (k0 : eqN t n 6 [115, 105, 115, 116, 101, 114] = true → G E d bc bs mX13_clause 259 [l0, l1, some (vR s), some (vI 0), l4, l5] [] h Q) (k2 : eqN t n 7 [112, 105, 108, 103, 114, 105, 109] = true → G E d bc bs mX13_clause 259 [l0, l1, some (vR s), some (vI 2), l4, l5] [] h Q) (k1 : eqN t n 5 [114, 101, 108, 105, 99] = true → G E d bc bs mX13_clause 259 [l0, l1, some (vR s), some (vI 1), l4, l5] [] h Q) (kN : eqN t n 6 [115, 105, 115, 116, 101, 114] = false → eqN t n 5 [114, 101, 108, 105, 99] = false → eqN t n 7 [112, 105, 108, 103, 114, 105, 109] = false → G E d bc bs mX13_clause 259 [l0, l1, some (vR s), some (vI (-1)), l4, l5] [] h Q) : G E d bc bs mX13_clause 186 [l0, l1, some (vR s), some (vI (-1)), l4, l5] [vI (hsN t n)] h Q := by
  have b0 : hsB [115, 105, 115, 116, 101, 114] 6 = -902104540 := by decide +kernel
  have b2 : hsB [112, 105, 108, 103, 114, 105, 109] 7 = -569820318 := by decide +kernel
  have b1 : hsB [114, 101, 108, 105, 99] 5 = 108397427 := by decide +kernel
  by_cases h0 : hsN t n = -902104540
  · obtain ⟨q9, w9, C9⟩ := st_X13_51 K
    refine g_lookup (pc := 186) (off := 34) 220 dX13_clause_186 (by decide) (by rw [h0]; decide) (by decide) ?_
    refine g_aload_n (pc := 220) dX13_clause_220 rfl ?_
    refine g_ldcS (pc := 221) (fun _ => C9.1) dX13_clause_221 ?_
    refine g_cV (pc := 223) (M' := mJ9_equals) (as := [_]) (ci := 37) rfl i_X13_53_37 eJ9_equals dX13_clause_223 hS.2.choose_spec.choose_spec.1 (k_equals (by omega) hs hn (by decide) hS C9) (by omega) rfl rfl (Nat.le_of_ble_eq_true rfl) ?_
    refine g_ifB_eq (pc := 226) 259 dX13_clause_226 (by decide) (fun c_226 => ?_) (fun c_226 => ?_)
    · exact kN c_226 (eq_no b1 (by rw [h0]; decide)) (eq_no b2 (by rw [h0]; decide))
    · refine g_iconst (pc := 229) (v := 0) dX13_clause_229 (by decide) ?_
      refine g_istore_n (pc := 230) (ls' := [_, _, _, _, _, _]) dX13_clause_230 (by decide) rfl rfl ?_
      refine g_goto (pc := 231) 259 dX13_clause_231 (by decide) ?_
      exact k0 c_226
  by_cases h2 : hsN t n = -569820318
  · obtain ⟨q9, w9, C9⟩ := st_X13_59 K
    refine g_lookup (pc := 186) (off := 62) 248 dX13_clause_186 (by decide) (by rw [h2]; decide) (by decide) ?_
    refine g_aload_n (pc := 248) dX13_clause_248 rfl ?_
    refine g_ldcS (pc := 249) (fun _ => C9.1) dX13_clause_249 ?_
    refine g_cV (pc := 251) (M' := mJ9_equals) (as := [_]) (ci := 37) rfl i_X13_53_37 eJ9_equals dX13_clause_251 hS.2.choose_spec.choose_spec.1 (k_equals (by omega) hs hn (by decide) hS C9) (by omega) rfl rfl (Nat.le_of_ble_eq_true rfl) ?_
    refine g_ifB_eq (pc := 254) 259 dX13_clause_254 (by decide) (fun c_254 => ?_) (fun c_254 => ?_)
    · exact kN (eq_no b0 (by rw [h2]; decide)) (eq_no b1 (by rw [h2]; decide)) c_254
    · refine g_iconst (pc := 257) (v := 2) dX13_clause_257 (by decide) ?_
      refine g_istore_n (pc := 258) (ls' := [_, _, _, _, _, _]) dX13_clause_258 (by decide) rfl rfl ?_
      exact k2 c_254
  by_cases h1 : hsN t n = 108397427
  · obtain ⟨q9, w9, C9⟩ := st_X13_57 K
    refine g_lookup (pc := 186) (off := 48) 234 dX13_clause_186 (by decide) (by rw [h1]; decide) (by decide) ?_
    refine g_aload_n (pc := 234) dX13_clause_234 rfl ?_
    refine g_ldcS (pc := 235) (fun _ => C9.1) dX13_clause_235 ?_
    refine g_cV (pc := 237) (M' := mJ9_equals) (as := [_]) (ci := 37) rfl i_X13_53_37 eJ9_equals dX13_clause_237 hS.2.choose_spec.choose_spec.1 (k_equals (by omega) hs hn (by decide) hS C9) (by omega) rfl rfl (Nat.le_of_ble_eq_true rfl) ?_
    refine g_ifB_eq (pc := 240) 259 dX13_clause_240 (by decide) (fun c_240 => ?_) (fun c_240 => ?_)
    · exact kN (eq_no b0 (by rw [h1]; decide)) c_240 (eq_no b2 (by rw [h1]; decide))
    · refine g_iconst (pc := 243) (v := 1) dX13_clause_243 (by decide) ?_
      refine g_istore_n (pc := 244) (ls' := [_, _, _, _, _, _]) dX13_clause_244 (by decide) rfl rfl ?_
      refine g_goto (pc := 245) 259 dX13_clause_245 (by decide) ?_
      exact k1 c_240
  refine g_lookup (pc := 186) (off := 73) 259 dX13_clause_186 (by decide) (by show (if (-902104540 : Int) = (hsN t n).toInt then (34 : Int) else if (-569820318 : Int) = (hsN t n).toInt then (62 : Int) else if (108397427 : Int) = (hsN t n).toInt then (48 : Int) else 73) = 73; rw [if_neg (i32_ne (c := -902104540) (by decide) h0), if_neg (i32_ne (c := -569820318) (by decide) h2), if_neg (i32_ne (c := 108397427) (by decide) h1)]) (by decide) ?_
  exact kN (eq_no b0 h0) (eq_no b1 h1) (eq_no b2 h2)
set_option maxHeartbeats 2000000 in
theorem sw_X13_isFull_22 {E : jE} {d bc bs n : Nat} {h : jH} {Q : jR → jH → Prop} {s v : jN} {t : Nat → Nat} {l0 l1 : Option jV} (K : jOK E) (hd : 4 ≤ d) (hs : s.1 ≠ 0) (hn : n < 16) (hS : sS h s v n t) (k0 : eqN t n 6 [115, 105, 115, 116, 101, 114] = true → G E d bc bs mX13_isFull 95 [l0, l1, some (vR s), some (vI 0)] [] h Q) (k2 : eqN t n 7 [112, 105, 108, 103, 114, 105, 109] = true → G E d bc bs mX13_isFull 95 [l0, l1, some (vR s), some (vI 2)] [] h Q) (k1 : eqN t n 5 [114, 101, 108, 105, 99] = true → G E d bc bs mX13_isFull 95 [l0, l1, some (vR s), some (vI 1)] [] h Q) (kN : eqN t n 6 [115, 105, 115, 116, 101, 114] = false → eqN t n 5 [114, 101, 108, 105, 99] = false → eqN t n 7 [112, 105, 108, 103, 114, 105, 109] = false → G E d bc bs mX13_isFull 95 [l0, l1, some (vR s), some (vI (-1))] [] h Q) : G E d bc bs mX13_isFull 22 [l0, l1, some (vR s), some (vI (-1))] [vI (hsN t n)] h Q := by
  have b0 : hsB [115, 105, 115, 116, 101, 114] 6 = -902104540 := by decide +kernel
  have b2 : hsB [112, 105, 108, 103, 114, 105, 109] 7 = -569820318 := by decide +kernel
  have b1 : hsB [114, 101, 108, 105, 99] 5 = 108397427 := by decide +kernel
  by_cases h0 : hsN t n = -902104540
  · obtain ⟨q9, w9, C9⟩ := st_X13_51 K
    refine g_lookup (pc := 22) (off := 34) 56 dX13_isFull_22 (by decide) (by rw [h0]; decide) (by decide) ?_
    refine g_aload_n (pc := 56) dX13_isFull_56 rfl ?_
    refine g_ldcS (pc := 57) (fun _ => C9.1) dX13_isFull_57 ?_
    refine g_cV (pc := 59) (M' := mJ9_equals) (as := [_]) (ci := 37) rfl i_X13_53_37 eJ9_equals dX13_isFull_59 hS.2.choose_spec.choose_spec.1 (k_equals (by omega) hs hn (by decide) hS C9) (by omega) rfl rfl (Nat.le_of_ble_eq_true rfl) ?_
    refine g_ifB_eq (pc := 62) 95 dX13_isFull_62 (by decide) (fun c_62 => ?_) (fun c_62 => ?_)
    · exact kN c_62 (eq_no b1 (by rw [h0]; decide)) (eq_no b2 (by rw [h0]; decide))
    · refine g_iconst (pc := 65) (v := 0) dX13_isFull_65 (by decide) ?_
      refine g_istore_n (pc := 66) (ls' := [_, _, _, _]) dX13_isFull_66 (by decide) rfl rfl ?_
      refine g_goto (pc := 67) 95 dX13_isFull_67 (by decide) ?_
      exact k0 c_62
  by_cases h2 : hsN t n = -569820318
  · obtain ⟨q9, w9, C9⟩ := st_X13_59 K
    refine g_lookup (pc := 22) (off := 62) 84 dX13_isFull_22 (by decide) (by rw [h2]; decide) (by decide) ?_
    refine g_aload_n (pc := 84) dX13_isFull_84 rfl ?_
    refine g_ldcS (pc := 85) (fun _ => C9.1) dX13_isFull_85 ?_
    refine g_cV (pc := 87) (M' := mJ9_equals) (as := [_]) (ci := 37) rfl i_X13_53_37 eJ9_equals dX13_isFull_87 hS.2.choose_spec.choose_spec.1 (k_equals (by omega) hs hn (by decide) hS C9) (by omega) rfl rfl (Nat.le_of_ble_eq_true rfl) ?_
    refine g_ifB_eq (pc := 90) 95 dX13_isFull_90 (by decide) (fun c_90 => ?_) (fun c_90 => ?_)
    · exact kN (eq_no b0 (by rw [h2]; decide)) (eq_no b1 (by rw [h2]; decide)) c_90
    · refine g_iconst (pc := 93) (v := 2) dX13_isFull_93 (by decide) ?_
      refine g_istore_n (pc := 94) (ls' := [_, _, _, _]) dX13_isFull_94 (by decide) rfl rfl ?_
      exact k2 c_90
  by_cases h1 : hsN t n = 108397427
  · obtain ⟨q9, w9, C9⟩ := st_X13_57 K
    refine g_lookup (pc := 22) (off := 48) 70 dX13_isFull_22 (by decide) (by rw [h1]; decide) (by decide) ?_
    refine g_aload_n (pc := 70) dX13_isFull_70 rfl ?_
    refine g_ldcS (pc := 71) (fun _ => C9.1) dX13_isFull_71 ?_
    refine g_cV (pc := 73) (M' := mJ9_equals) (as := [_]) (ci := 37) rfl i_X13_53_37 eJ9_equals dX13_isFull_73 hS.2.choose_spec.choose_spec.1 (k_equals (by omega) hs hn (by decide) hS C9) (by omega) rfl rfl (Nat.le_of_ble_eq_true rfl) ?_
    refine g_ifB_eq (pc := 76) 95 dX13_isFull_76 (by decide) (fun c_76 => ?_) (fun c_76 => ?_)
    · exact kN (eq_no b0 (by rw [h1]; decide)) c_76 (eq_no b2 (by rw [h1]; decide))
    · refine g_iconst (pc := 79) (v := 1) dX13_isFull_79 (by decide) ?_
      refine g_istore_n (pc := 80) (ls' := [_, _, _, _]) dX13_isFull_80 (by decide) rfl rfl ?_
      refine g_goto (pc := 81) 95 dX13_isFull_81 (by decide) ?_
      exact k1 c_76
  refine g_lookup (pc := 22) (off := 73) 95 dX13_isFull_22 (by decide) (by show (if (-902104540 : Int) = (hsN t n).toInt then (34 : Int) else if (-569820318 : Int) = (hsN t n).toInt then (62 : Int) else if (108397427 : Int) = (hsN t n).toInt then (48 : Int) else 73) = 73; rw [if_neg (i32_ne (c := -902104540) (by decide) h0), if_neg (i32_ne (c := -569820318) (by decide) h2), if_neg (i32_ne (c := 108397427) (by decide) h1)]) (by decide) ?_
  exact kN (eq_no b0 h0) (eq_no b1 h1) (eq_no b2 h2)
set_option maxHeartbeats 2000000 in
theorem sw_X22_step_14 {E : jE} {d bc bs n : Nat} {h : jH} {Q : jR → jH → Prop} {s v : jN} {t : Nat → Nat} {l0 l1 l2 : Option jV} (K : jOK E) (hd : 4 ≤ d) (hs : s.1 ≠ 0) (hn : n < 16) (hS : sS h s v n t) (k5 : eqN t n 3 [100, 97, 121] = true → G E d bc bs mX22_step 183 [l0, l1, l2, some (vR s), some (vI 5)] [] h Q) (k4 : eqN t n 3 [100, 105, 101] = true → G E d bc bs mX22_step 183 [l0, l1, l2, some (vR s), some (vI 4)] [] h Q) (k1 : eqN t n 4 [98, 97, 99, 107] = true → G E d bc bs mX22_step 183 [l0, l1, l2, some (vR s), some (vI 1)] [] h Q) (k3 : eqN t n 4 [99, 117, 114, 101] = true → G E d bc bs mX22_step 183 [l0, l1, l2, some (vR s), some (vI 3)] [] h Q) (k0 : eqN t n 4 [103, 105, 118, 101] = true → G E d bc bs mX22_step 183 [l0, l1, l2, some (vR s), some (vI 0)] [] h Q) (k6 : eqN t n 5 [97, 103, 97, 105, 110] = true → G E d bc bs mX22_step 183 [l0, l1, l2, some (vR s), some (vI 6)] [] h Q) (k2 : eqN t n 5 [108, 97, 112, 115, 101] = true → G E d bc bs mX22_step 183 [l0, l1, l2, some (vR s), some (vI 2)] [] h Q) (kN : eqN t n 4 [103, 105, 118, 101] = false → eqN t n 4 [98, 97, 99, 107] = false → eqN t n 5 [108, 97, 112, 115, 101] = false → eqN t n 4 [99, 117, 114, 101] = false → eqN t n 3 [100, 105, 101] = false → eqN t n 3 [100, 97, 121] = false → eqN t n 5 [97, 103, 97, 105, 110] = false → G E d bc bs mX22_step 183 [l0, l1, l2, some (vR s), some (vI (-1))] [] h Q) : G E d bc bs mX22_step 14 [l0, l1, l2, some (vR s), some (vI (-1))] [vI (hsN t n)] h Q := by
  have b5 : hsB [100, 97, 121] 3 = 99228 := by decide +kernel
  have b4 : hsB [100, 105, 101] 3 = 99456 := by decide +kernel
  have b1 : hsB [98, 97, 99, 107] 4 = 3015911 := by decide +kernel
  have b3 : hsB [99, 117, 114, 101] 4 = 3065381 := by decide +kernel
  have b0 : hsB [103, 105, 118, 101] 4 = 3173137 := by decide +kernel
  have b6 : hsB [97, 103, 97, 105, 110] 5 = 92746592 := by decide +kernel
  have b2 : hsB [108, 97, 112, 115, 101] 5 = 102741293 := by decide +kernel
  by_cases h5 : hsN t n = 99228
  · obtain ⟨q9, w9, C9⟩ := st_X22_76 K
    refine g_lookup (pc := 14) (off := 141) 155 dX22_step_14 (by decide) (by rw [h5]; decide) (by decide) ?_
    refine g_aload_n (pc := 155) dX22_step_155 rfl ?_
    refine g_ldcS (pc := 156) (fun _ => C9.1) dX22_step_156 ?_
    refine g_cV (pc := 158) (M' := mJ9_equals) (as := [_]) (ci := 37) rfl i_X22_65_37 eJ9_equals dX22_step_158 hS.2.choose_spec.choose_spec.1 (k_equals (by omega) hs hn (by decide) hS C9) (by omega) rfl rfl (Nat.le_of_ble_eq_true rfl) ?_
    refine g_ifB_eq (pc := 161) 183 dX22_step_161 (by decide) (fun c_161 => ?_) (fun c_161 => ?_)
    · exact kN (eq_no b0 (by rw [h5]; decide)) (eq_no b1 (by rw [h5]; decide)) (eq_no b2 (by rw [h5]; decide)) (eq_no b3 (by rw [h5]; decide)) (eq_no b4 (by rw [h5]; decide)) c_161 (eq_no b6 (by rw [h5]; decide))
    · refine g_iconst (pc := 164) (v := 5) dX22_step_164 (by decide) ?_
      refine g_istore (pc := 165) (ls' := [_, _, _, _, _]) dX22_step_165 (by decide) rfl rfl ?_
      refine g_goto (pc := 167) 183 dX22_step_167 (by decide) ?_
      exact k5 c_161
  by_cases h4 : hsN t n = 99456
  · obtain ⟨q9, w9, C9⟩ := st_X22_74 K
    refine g_lookup (pc := 14) (off := 126) 140 dX22_step_14 (by decide) (by rw [h4]; decide) (by decide) ?_
    refine g_aload_n (pc := 140) dX22_step_140 rfl ?_
    refine g_ldcS (pc := 141) (fun _ => C9.1) dX22_step_141 ?_
    refine g_cV (pc := 143) (M' := mJ9_equals) (as := [_]) (ci := 37) rfl i_X22_65_37 eJ9_equals dX22_step_143 hS.2.choose_spec.choose_spec.1 (k_equals (by omega) hs hn (by decide) hS C9) (by omega) rfl rfl (Nat.le_of_ble_eq_true rfl) ?_
    refine g_ifB_eq (pc := 146) 183 dX22_step_146 (by decide) (fun c_146 => ?_) (fun c_146 => ?_)
    · exact kN (eq_no b0 (by rw [h4]; decide)) (eq_no b1 (by rw [h4]; decide)) (eq_no b2 (by rw [h4]; decide)) (eq_no b3 (by rw [h4]; decide)) c_146 (eq_no b5 (by rw [h4]; decide)) (eq_no b6 (by rw [h4]; decide))
    · refine g_iconst (pc := 149) (v := 4) dX22_step_149 (by decide) ?_
      refine g_istore (pc := 150) (ls' := [_, _, _, _, _]) dX22_step_150 (by decide) rfl rfl ?_
      refine g_goto (pc := 152) 183 dX22_step_152 (by decide) ?_
      exact k4 c_146
  by_cases h1 : hsN t n = 3015911
  · obtain ⟨q9, w9, C9⟩ := st_X22_68 K
    refine g_lookup (pc := 14) (off := 81) 95 dX22_step_14 (by decide) (by rw [h1]; decide) (by decide) ?_
    refine g_aload_n (pc := 95) dX22_step_95 rfl ?_
    refine g_ldcS (pc := 96) (fun _ => C9.1) dX22_step_96 ?_
    refine g_cV (pc := 98) (M' := mJ9_equals) (as := [_]) (ci := 37) rfl i_X22_65_37 eJ9_equals dX22_step_98 hS.2.choose_spec.choose_spec.1 (k_equals (by omega) hs hn (by decide) hS C9) (by omega) rfl rfl (Nat.le_of_ble_eq_true rfl) ?_
    refine g_ifB_eq (pc := 101) 183 dX22_step_101 (by decide) (fun c_101 => ?_) (fun c_101 => ?_)
    · exact kN (eq_no b0 (by rw [h1]; decide)) c_101 (eq_no b2 (by rw [h1]; decide)) (eq_no b3 (by rw [h1]; decide)) (eq_no b4 (by rw [h1]; decide)) (eq_no b5 (by rw [h1]; decide)) (eq_no b6 (by rw [h1]; decide))
    · refine g_iconst (pc := 104) (v := 1) dX22_step_104 (by decide) ?_
      refine g_istore (pc := 105) (ls' := [_, _, _, _, _]) dX22_step_105 (by decide) rfl rfl ?_
      refine g_goto (pc := 107) 183 dX22_step_107 (by decide) ?_
      exact k1 c_101
  by_cases h3 : hsN t n = 3065381
  · obtain ⟨q9, w9, C9⟩ := st_X22_72 K
    refine g_lookup (pc := 14) (off := 111) 125 dX22_step_14 (by decide) (by rw [h3]; decide) (by decide) ?_
    refine g_aload_n (pc := 125) dX22_step_125 rfl ?_
    refine g_ldcS (pc := 126) (fun _ => C9.1) dX22_step_126 ?_
    refine g_cV (pc := 128) (M' := mJ9_equals) (as := [_]) (ci := 37) rfl i_X22_65_37 eJ9_equals dX22_step_128 hS.2.choose_spec.choose_spec.1 (k_equals (by omega) hs hn (by decide) hS C9) (by omega) rfl rfl (Nat.le_of_ble_eq_true rfl) ?_
    refine g_ifB_eq (pc := 131) 183 dX22_step_131 (by decide) (fun c_131 => ?_) (fun c_131 => ?_)
    · exact kN (eq_no b0 (by rw [h3]; decide)) (eq_no b1 (by rw [h3]; decide)) (eq_no b2 (by rw [h3]; decide)) c_131 (eq_no b4 (by rw [h3]; decide)) (eq_no b5 (by rw [h3]; decide)) (eq_no b6 (by rw [h3]; decide))
    · refine g_iconst (pc := 134) (v := 3) dX22_step_134 (by decide) ?_
      refine g_istore (pc := 135) (ls' := [_, _, _, _, _]) dX22_step_135 (by decide) rfl rfl ?_
      refine g_goto (pc := 137) 183 dX22_step_137 (by decide) ?_
      exact k3 c_131
  by_cases h0 : hsN t n = 3173137
  · obtain ⟨q9, w9, C9⟩ := st_X22_63 K
    refine g_lookup (pc := 14) (off := 66) 80 dX22_step_14 (by decide) (by rw [h0]; decide) (by decide) ?_
    refine g_aload_n (pc := 80) dX22_step_80 rfl ?_
    refine g_ldcS (pc := 81) (fun _ => C9.1) dX22_step_81 ?_
    refine g_cV (pc := 83) (M' := mJ9_equals) (as := [_]) (ci := 37) rfl i_X22_65_37 eJ9_equals dX22_step_83 hS.2.choose_spec.choose_spec.1 (k_equals (by omega) hs hn (by decide) hS C9) (by omega) rfl rfl (Nat.le_of_ble_eq_true rfl) ?_
    refine g_ifB_eq (pc := 86) 183 dX22_step_86 (by decide) (fun c_86 => ?_) (fun c_86 => ?_)
    · exact kN c_86 (eq_no b1 (by rw [h0]; decide)) (eq_no b2 (by rw [h0]; decide)) (eq_no b3 (by rw [h0]; decide)) (eq_no b4 (by rw [h0]; decide)) (eq_no b5 (by rw [h0]; decide)) (eq_no b6 (by rw [h0]; decide))
    · refine g_iconst (pc := 89) (v := 0) dX22_step_89 (by decide) ?_
      refine g_istore (pc := 90) (ls' := [_, _, _, _, _]) dX22_step_90 (by decide) rfl rfl ?_
      refine g_goto (pc := 92) 183 dX22_step_92 (by decide) ?_
      exact k0 c_86
  by_cases h6 : hsN t n = 92746592
  · obtain ⟨q9, w9, C9⟩ := st_X22_78 K
    refine g_lookup (pc := 14) (off := 156) 170 dX22_step_14 (by decide) (by rw [h6]; decide) (by decide) ?_
    refine g_aload_n (pc := 170) dX22_step_170 rfl ?_
    refine g_ldcS (pc := 171) (fun _ => C9.1) dX22_step_171 ?_
    refine g_cV (pc := 173) (M' := mJ9_equals) (as := [_]) (ci := 37) rfl i_X22_65_37 eJ9_equals dX22_step_173 hS.2.choose_spec.choose_spec.1 (k_equals (by omega) hs hn (by decide) hS C9) (by omega) rfl rfl (Nat.le_of_ble_eq_true rfl) ?_
    refine g_ifB_eq (pc := 176) 183 dX22_step_176 (by decide) (fun c_176 => ?_) (fun c_176 => ?_)
    · exact kN (eq_no b0 (by rw [h6]; decide)) (eq_no b1 (by rw [h6]; decide)) (eq_no b2 (by rw [h6]; decide)) (eq_no b3 (by rw [h6]; decide)) (eq_no b4 (by rw [h6]; decide)) (eq_no b5 (by rw [h6]; decide)) c_176
    · refine g_bipush (pc := 179) (v := 6) dX22_step_179 (by decide) ?_
      refine g_istore (pc := 181) (ls' := [_, _, _, _, _]) dX22_step_181 (by decide) rfl rfl ?_
      exact k6 c_176
  by_cases h2 : hsN t n = 102741293
  · obtain ⟨q9, w9, C9⟩ := st_X22_70 K
    refine g_lookup (pc := 14) (off := 96) 110 dX22_step_14 (by decide) (by rw [h2]; decide) (by decide) ?_
    refine g_aload_n (pc := 110) dX22_step_110 rfl ?_
    refine g_ldcS (pc := 111) (fun _ => C9.1) dX22_step_111 ?_
    refine g_cV (pc := 113) (M' := mJ9_equals) (as := [_]) (ci := 37) rfl i_X22_65_37 eJ9_equals dX22_step_113 hS.2.choose_spec.choose_spec.1 (k_equals (by omega) hs hn (by decide) hS C9) (by omega) rfl rfl (Nat.le_of_ble_eq_true rfl) ?_
    refine g_ifB_eq (pc := 116) 183 dX22_step_116 (by decide) (fun c_116 => ?_) (fun c_116 => ?_)
    · exact kN (eq_no b0 (by rw [h2]; decide)) (eq_no b1 (by rw [h2]; decide)) c_116 (eq_no b3 (by rw [h2]; decide)) (eq_no b4 (by rw [h2]; decide)) (eq_no b5 (by rw [h2]; decide)) (eq_no b6 (by rw [h2]; decide))
    · refine g_iconst (pc := 119) (v := 2) dX22_step_119 (by decide) ?_
      refine g_istore (pc := 120) (ls' := [_, _, _, _, _]) dX22_step_120 (by decide) rfl rfl ?_
      refine g_goto (pc := 122) 183 dX22_step_122 (by decide) ?_
      exact k2 c_116
  refine g_lookup (pc := 14) (off := 169) 183 dX22_step_14 (by decide) (by show (if (99228 : Int) = (hsN t n).toInt then (141 : Int) else if (99456 : Int) = (hsN t n).toInt then (126 : Int) else if (3015911 : Int) = (hsN t n).toInt then (81 : Int) else if (3065381 : Int) = (hsN t n).toInt then (111 : Int) else if (3173137 : Int) = (hsN t n).toInt then (66 : Int) else if (92746592 : Int) = (hsN t n).toInt then (156 : Int) else if (102741293 : Int) = (hsN t n).toInt then (96 : Int) else 169) = 169; rw [if_neg (i32_ne (c := 99228) (by decide) h5), if_neg (i32_ne (c := 99456) (by decide) h4), if_neg (i32_ne (c := 3015911) (by decide) h1), if_neg (i32_ne (c := 3065381) (by decide) h3), if_neg (i32_ne (c := 3173137) (by decide) h0), if_neg (i32_ne (c := 92746592) (by decide) h6), if_neg (i32_ne (c := 102741293) (by decide) h2)]) (by decide) ?_
  exact kN (eq_no b0 h0) (eq_no b1 h1) (eq_no b2 h2) (eq_no b3 h3) (eq_no b4 h4) (eq_no b5 h5) (eq_no b6 h6)
set_option maxHeartbeats 2000000 in
theorem sw_X22_act_8 {E : jE} {d bc bs n : Nat} {h : jH} {Q : jR → jH → Prop} {s v : jN} {t : Nat → Nat} {l0 l1 l4 : Option jV} (K : jOK E) (hd : 4 ≤ d) (hs : s.1 ≠ 0) (hn : n < 16) (hS : sS h s v n t) (k4 : eqN t n 3 [100, 105, 101] = true → G E d bc bs mX22_act 127 [l0, l1, some (vR s), some (vI 4), l4] [] h Q) (k1 : eqN t n 4 [98, 97, 99, 107] = true → G E d bc bs mX22_act 127 [l0, l1, some (vR s), some (vI 1), l4] [] h Q) (k3 : eqN t n 4 [99, 117, 114, 101] = true → G E d bc bs mX22_act 127 [l0, l1, some (vR s), some (vI 3), l4] [] h Q) (k0 : eqN t n 4 [103, 105, 118, 101] = true → G E d bc bs mX22_act 127 [l0, l1, some (vR s), some (vI 0), l4] [] h Q) (k2 : eqN t n 5 [108, 97, 112, 115, 101] = true → G E d bc bs mX22_act 127 [l0, l1, some (vR s), some (vI 2), l4] [] h Q) (kN : eqN t n 4 [103, 105, 118, 101] = false → eqN t n 4 [98, 97, 99, 107] = false → eqN t n 5 [108, 97, 112, 115, 101] = false → eqN t n 4 [99, 117, 114, 101] = false → eqN t n 3 [100, 105, 101] = false → G E d bc bs mX22_act 127 [l0, l1, some (vR s), some (vI (-1)), l4] [] h Q) : G E d bc bs mX22_act 8 [l0, l1, some (vR s), some (vI (-1)), l4] [vI (hsN t n)] h Q := by
  have b4 : hsB [100, 105, 101] 3 = 99456 := by decide +kernel
  have b1 : hsB [98, 97, 99, 107] 4 = 3015911 := by decide +kernel
  have b3 : hsB [99, 117, 114, 101] 4 = 3065381 := by decide +kernel
  have b0 : hsB [103, 105, 118, 101] 4 = 3173137 := by decide +kernel
  have b2 : hsB [108, 97, 112, 115, 101] 5 = 102741293 := by decide +kernel
  by_cases h4 : hsN t n = 99456
  · obtain ⟨q9, w9, C9⟩ := st_X22_74 K
    refine g_lookup (pc := 8) (off := 108) 116 dX22_act_8 (by decide) (by rw [h4]; decide) (by decide) ?_
    refine g_aload_n (pc := 116) dX22_act_116 rfl ?_
    refine g_ldcS (pc := 117) (fun _ => C9.1) dX22_act_117 ?_
    refine g_cV (pc := 119) (M' := mJ9_equals) (as := [_]) (ci := 37) rfl i_X22_65_37 eJ9_equals dX22_act_119 hS.2.choose_spec.choose_spec.1 (k_equals (by omega) hs hn (by decide) hS C9) (by omega) rfl rfl (Nat.le_of_ble_eq_true rfl) ?_
    refine g_ifB_eq (pc := 122) 127 dX22_act_122 (by decide) (fun c_122 => ?_) (fun c_122 => ?_)
    · exact kN (eq_no b0 (by rw [h4]; decide)) (eq_no b1 (by rw [h4]; decide)) (eq_no b2 (by rw [h4]; decide)) (eq_no b3 (by rw [h4]; decide)) c_122
    · refine g_iconst (pc := 125) (v := 4) dX22_act_125 (by decide) ?_
      refine g_istore_n (pc := 126) (ls' := [_, _, _, _, _]) dX22_act_126 (by decide) rfl rfl ?_
      exact k4 c_122
  by_cases h1 : hsN t n = 3015911
  · obtain ⟨q9, w9, C9⟩ := st_X22_68 K
    refine g_lookup (pc := 8) (off := 66) 74 dX22_act_8 (by decide) (by rw [h1]; decide) (by decide) ?_
    refine g_aload_n (pc := 74) dX22_act_74 rfl ?_
    refine g_ldcS (pc := 75) (fun _ => C9.1) dX22_act_75 ?_
    refine g_cV (pc := 77) (M' := mJ9_equals) (as := [_]) (ci := 37) rfl i_X22_65_37 eJ9_equals dX22_act_77 hS.2.choose_spec.choose_spec.1 (k_equals (by omega) hs hn (by decide) hS C9) (by omega) rfl rfl (Nat.le_of_ble_eq_true rfl) ?_
    refine g_ifB_eq (pc := 80) 127 dX22_act_80 (by decide) (fun c_80 => ?_) (fun c_80 => ?_)
    · exact kN (eq_no b0 (by rw [h1]; decide)) c_80 (eq_no b2 (by rw [h1]; decide)) (eq_no b3 (by rw [h1]; decide)) (eq_no b4 (by rw [h1]; decide))
    · refine g_iconst (pc := 83) (v := 1) dX22_act_83 (by decide) ?_
      refine g_istore_n (pc := 84) (ls' := [_, _, _, _, _]) dX22_act_84 (by decide) rfl rfl ?_
      refine g_goto (pc := 85) 127 dX22_act_85 (by decide) ?_
      exact k1 c_80
  by_cases h3 : hsN t n = 3065381
  · obtain ⟨q9, w9, C9⟩ := st_X22_72 K
    refine g_lookup (pc := 8) (off := 94) 102 dX22_act_8 (by decide) (by rw [h3]; decide) (by decide) ?_
    refine g_aload_n (pc := 102) dX22_act_102 rfl ?_
    refine g_ldcS (pc := 103) (fun _ => C9.1) dX22_act_103 ?_
    refine g_cV (pc := 105) (M' := mJ9_equals) (as := [_]) (ci := 37) rfl i_X22_65_37 eJ9_equals dX22_act_105 hS.2.choose_spec.choose_spec.1 (k_equals (by omega) hs hn (by decide) hS C9) (by omega) rfl rfl (Nat.le_of_ble_eq_true rfl) ?_
    refine g_ifB_eq (pc := 108) 127 dX22_act_108 (by decide) (fun c_108 => ?_) (fun c_108 => ?_)
    · exact kN (eq_no b0 (by rw [h3]; decide)) (eq_no b1 (by rw [h3]; decide)) (eq_no b2 (by rw [h3]; decide)) c_108 (eq_no b4 (by rw [h3]; decide))
    · refine g_iconst (pc := 111) (v := 3) dX22_act_111 (by decide) ?_
      refine g_istore_n (pc := 112) (ls' := [_, _, _, _, _]) dX22_act_112 (by decide) rfl rfl ?_
      refine g_goto (pc := 113) 127 dX22_act_113 (by decide) ?_
      exact k3 c_108
  by_cases h0 : hsN t n = 3173137
  · obtain ⟨q9, w9, C9⟩ := st_X22_63 K
    refine g_lookup (pc := 8) (off := 52) 60 dX22_act_8 (by decide) (by rw [h0]; decide) (by decide) ?_
    refine g_aload_n (pc := 60) dX22_act_60 rfl ?_
    refine g_ldcS (pc := 61) (fun _ => C9.1) dX22_act_61 ?_
    refine g_cV (pc := 63) (M' := mJ9_equals) (as := [_]) (ci := 37) rfl i_X22_65_37 eJ9_equals dX22_act_63 hS.2.choose_spec.choose_spec.1 (k_equals (by omega) hs hn (by decide) hS C9) (by omega) rfl rfl (Nat.le_of_ble_eq_true rfl) ?_
    refine g_ifB_eq (pc := 66) 127 dX22_act_66 (by decide) (fun c_66 => ?_) (fun c_66 => ?_)
    · exact kN c_66 (eq_no b1 (by rw [h0]; decide)) (eq_no b2 (by rw [h0]; decide)) (eq_no b3 (by rw [h0]; decide)) (eq_no b4 (by rw [h0]; decide))
    · refine g_iconst (pc := 69) (v := 0) dX22_act_69 (by decide) ?_
      refine g_istore_n (pc := 70) (ls' := [_, _, _, _, _]) dX22_act_70 (by decide) rfl rfl ?_
      refine g_goto (pc := 71) 127 dX22_act_71 (by decide) ?_
      exact k0 c_66
  by_cases h2 : hsN t n = 102741293
  · obtain ⟨q9, w9, C9⟩ := st_X22_70 K
    refine g_lookup (pc := 8) (off := 80) 88 dX22_act_8 (by decide) (by rw [h2]; decide) (by decide) ?_
    refine g_aload_n (pc := 88) dX22_act_88 rfl ?_
    refine g_ldcS (pc := 89) (fun _ => C9.1) dX22_act_89 ?_
    refine g_cV (pc := 91) (M' := mJ9_equals) (as := [_]) (ci := 37) rfl i_X22_65_37 eJ9_equals dX22_act_91 hS.2.choose_spec.choose_spec.1 (k_equals (by omega) hs hn (by decide) hS C9) (by omega) rfl rfl (Nat.le_of_ble_eq_true rfl) ?_
    refine g_ifB_eq (pc := 94) 127 dX22_act_94 (by decide) (fun c_94 => ?_) (fun c_94 => ?_)
    · exact kN (eq_no b0 (by rw [h2]; decide)) (eq_no b1 (by rw [h2]; decide)) c_94 (eq_no b3 (by rw [h2]; decide)) (eq_no b4 (by rw [h2]; decide))
    · refine g_iconst (pc := 97) (v := 2) dX22_act_97 (by decide) ?_
      refine g_istore_n (pc := 98) (ls' := [_, _, _, _, _]) dX22_act_98 (by decide) rfl rfl ?_
      refine g_goto (pc := 99) 127 dX22_act_99 (by decide) ?_
      exact k2 c_94
  refine g_lookup (pc := 8) (off := 119) 127 dX22_act_8 (by decide) (by show (if (99456 : Int) = (hsN t n).toInt then (108 : Int) else if (3015911 : Int) = (hsN t n).toInt then (66 : Int) else if (3065381 : Int) = (hsN t n).toInt then (94 : Int) else if (3173137 : Int) = (hsN t n).toInt then (52 : Int) else if (102741293 : Int) = (hsN t n).toInt then (80 : Int) else 119) = 119; rw [if_neg (i32_ne (c := 99456) (by decide) h4), if_neg (i32_ne (c := 3015911) (by decide) h1), if_neg (i32_ne (c := 3065381) (by decide) h3), if_neg (i32_ne (c := 3173137) (by decide) h0), if_neg (i32_ne (c := 102741293) (by decide) h2)]) (by decide) ?_
  exact kN (eq_no b0 h0) (eq_no b1 h1) (eq_no b2 h2) (eq_no b3 h3) (eq_no b4 h4)
set_option maxHeartbeats 2000000 in
theorem sw_X17_unit_81 {E : jE} {d bc bs n : Nat} {h : jH} {Q : jR → jH → Prop} {s v : jN} {t : Nat → Nat} {l0 l1 l2 : Option jV} (K : jOK E) (hd : 4 ≤ d) (hs : s.1 ≠ 0) (hn : n < 16) (hS : sS h s v n t) (k3 : eqN t n 7 [116, 101, 109, 112, 116, 101, 100] = true → G E d bc bs mX17_unit 323 [l0, l1, l2, some (vR s), some (vI 3)] [] h Q) (k2 : eqN t n 6 [108, 97, 112, 115, 101, 115] = true → G E d bc bs mX17_unit 323 [l0, l1, l2, some (vR s), some (vI 2)] [] h Q) (k5 : eqN t n 6 [111, 116, 104, 101, 114, 115] = true → G E d bc bs mX17_unit 323 [l0, l1, l2, some (vR s), some (vI 5)] [] h Q) (k6 : eqN t n 6 [115, 105, 115, 116, 101, 114] = true → G E d bc bs mX17_unit 323 [l0, l1, l2, some (vR s), some (vI 6)] [] h Q) (k7 : eqN t n 3 [100, 97, 121] = true → G E d bc bs mX17_unit 323 [l0, l1, l2, some (vR s), some (vI 7)] [] h Q) (k4 : eqN t n 3 [105, 108, 108] = true → G E d bc bs mX17_unit 323 [l0, l1, l2, some (vR s), some (vI 4)] [] h Q) (k1 : eqN t n 4 [100, 97, 121, 115] = true → G E d bc bs mX17_unit 323 [l0, l1, l2, some (vR s), some (vI 1)] [] h Q) (k9 : eqN t n 4 [109, 111, 115, 116] = true → G E d bc bs mX17_unit 323 [l0, l1, l2, some (vR s), some (vI 9)] [] h Q) (k8 : eqN t n 5 [108, 101, 97, 115, 116] = true → G E d bc bs mX17_unit 323 [l0, l1, l2, some (vR s), some (vI 8)] [] h Q) (k0 : eqN t n 5 [119, 111, 114, 116, 104] = true → G E d bc bs mX17_unit 323 [l0, l1, l2, some (vR s), some (vI 0)] [] h Q) (kN : eqN t n 5 [119, 111, 114, 116, 104] = false → eqN t n 4 [100, 97, 121, 115] = false → eqN t n 6 [108, 97, 112, 115, 101, 115] = false → eqN t n 7 [116, 101, 109, 112, 116, 101, 100] = false → eqN t n 3 [105, 108, 108] = false → eqN t n 6 [111, 116, 104, 101, 114, 115] = false → eqN t n 6 [115, 105, 115, 116, 101, 114] = false → eqN t n 3 [100, 97, 121] = false → eqN t n 5 [108, 101, 97, 115, 116] = false → eqN t n 4 [109, 111, 115, 116] = false → G E d bc bs mX17_unit 323 [l0, l1, l2, some (vR s), some (vI (-1))] [] h Q) : G E d bc bs mX17_unit 81 [l0, l1, l2, some (vR s), some (vI (-1))] [vI (hsN t n)] h Q := by
  have b3 : hsB [116, 101, 109, 112, 116, 101, 100] 7 = -1428096065 := by decide +kernel
  have b2 : hsB [108, 97, 112, 115, 101, 115] 6 = -1109987098 := by decide +kernel
  have b5 : hsB [111, 116, 104, 101, 114, 115] 6 = -1006804125 := by decide +kernel
  have b6 : hsB [115, 105, 115, 116, 101, 114] 6 = -902104540 := by decide +kernel
  have b7 : hsB [100, 97, 121] 3 = 99228 := by decide +kernel
  have b4 : hsB [105, 108, 108] 3 = 104361 := by decide +kernel
  have b1 : hsB [100, 97, 121, 115] 4 = 3076183 := by decide +kernel
  have b9 : hsB [109, 111, 115, 116] 4 = 3357571 := by decide +kernel
  have b8 : hsB [108, 101, 97, 115, 116] 5 = 102846057 := by decide +kernel
  have b0 : hsB [119, 111, 114, 116, 104] 5 = 113319054 := by decide +kernel
  by_cases h3 : hsN t n = -1428096065
  · obtain ⟨q9, w9, C9⟩ := st_X17_90 K
    refine g_lookup (pc := 81) (off := 136) 217 dX17_unit_81 (by decide) (by rw [h3]; decide) (by decide) ?_
    refine g_aload_n (pc := 217) dX17_unit_217 rfl ?_
    refine g_ldcS (pc := 218) (fun _ => C9.1) dX17_unit_218 ?_
    refine g_cV (pc := 220) (M' := mJ9_equals) (as := [_]) (ci := 37) rfl i_X17_82_37 eJ9_equals dX17_unit_220 hS.2.choose_spec.choose_spec.1 (k_equals (by omega) hs hn (by decide) hS C9) (by omega) rfl rfl (Nat.le_of_ble_eq_true rfl) ?_
    refine g_ifB_eq (pc := 223) 323 dX17_unit_223 (by decide) (fun c_223 => ?_) (fun c_223 => ?_)
    · exact kN (eq_no b0 (by rw [h3]; decide)) (eq_no b1 (by rw [h3]; decide)) (eq_no b2 (by rw [h3]; decide)) c_223 (eq_no b4 (by rw [h3]; decide)) (eq_no b5 (by rw [h3]; decide)) (eq_no b6 (by rw [h3]; decide)) (eq_no b7 (by rw [h3]; decide)) (eq_no b8 (by rw [h3]; decide)) (eq_no b9 (by rw [h3]; decide))
    · refine g_iconst (pc := 226) (v := 3) dX17_unit_226 (by decide) ?_
      refine g_istore (pc := 227) (ls' := [_, _, _, _, _]) dX17_unit_227 (by decide) rfl rfl ?_
      refine g_goto (pc := 229) 323 dX17_unit_229 (by decide) ?_
      exact k3 c_223
  by_cases h2 : hsN t n = -1109987098
  · obtain ⟨q9, w9, C9⟩ := st_X17_88 K
    refine g_lookup (pc := 81) (off := 121) 202 dX17_unit_81 (by decide) (by rw [h2]; decide) (by decide) ?_
    refine g_aload_n (pc := 202) dX17_unit_202 rfl ?_
    refine g_ldcS (pc := 203) (fun _ => C9.1) dX17_unit_203 ?_
    refine g_cV (pc := 205) (M' := mJ9_equals) (as := [_]) (ci := 37) rfl i_X17_82_37 eJ9_equals dX17_unit_205 hS.2.choose_spec.choose_spec.1 (k_equals (by omega) hs hn (by decide) hS C9) (by omega) rfl rfl (Nat.le_of_ble_eq_true rfl) ?_
    refine g_ifB_eq (pc := 208) 323 dX17_unit_208 (by decide) (fun c_208 => ?_) (fun c_208 => ?_)
    · exact kN (eq_no b0 (by rw [h2]; decide)) (eq_no b1 (by rw [h2]; decide)) c_208 (eq_no b3 (by rw [h2]; decide)) (eq_no b4 (by rw [h2]; decide)) (eq_no b5 (by rw [h2]; decide)) (eq_no b6 (by rw [h2]; decide)) (eq_no b7 (by rw [h2]; decide)) (eq_no b8 (by rw [h2]; decide)) (eq_no b9 (by rw [h2]; decide))
    · refine g_iconst (pc := 211) (v := 2) dX17_unit_211 (by decide) ?_
      refine g_istore (pc := 212) (ls' := [_, _, _, _, _]) dX17_unit_212 (by decide) rfl rfl ?_
      refine g_goto (pc := 214) 323 dX17_unit_214 (by decide) ?_
      exact k2 c_208
  by_cases h5 : hsN t n = -1006804125
  · obtain ⟨q9, w9, C9⟩ := st_X17_94 K
    refine g_lookup (pc := 81) (off := 166) 247 dX17_unit_81 (by decide) (by rw [h5]; decide) (by decide) ?_
    refine g_aload_n (pc := 247) dX17_unit_247 rfl ?_
    refine g_ldcS (pc := 248) (fun _ => C9.1) dX17_unit_248 ?_
    refine g_cV (pc := 250) (M' := mJ9_equals) (as := [_]) (ci := 37) rfl i_X17_82_37 eJ9_equals dX17_unit_250 hS.2.choose_spec.choose_spec.1 (k_equals (by omega) hs hn (by decide) hS C9) (by omega) rfl rfl (Nat.le_of_ble_eq_true rfl) ?_
    refine g_ifB_eq (pc := 253) 323 dX17_unit_253 (by decide) (fun c_253 => ?_) (fun c_253 => ?_)
    · exact kN (eq_no b0 (by rw [h5]; decide)) (eq_no b1 (by rw [h5]; decide)) (eq_no b2 (by rw [h5]; decide)) (eq_no b3 (by rw [h5]; decide)) (eq_no b4 (by rw [h5]; decide)) c_253 (eq_no b6 (by rw [h5]; decide)) (eq_no b7 (by rw [h5]; decide)) (eq_no b8 (by rw [h5]; decide)) (eq_no b9 (by rw [h5]; decide))
    · refine g_iconst (pc := 256) (v := 5) dX17_unit_256 (by decide) ?_
      refine g_istore (pc := 257) (ls' := [_, _, _, _, _]) dX17_unit_257 (by decide) rfl rfl ?_
      refine g_goto (pc := 259) 323 dX17_unit_259 (by decide) ?_
      exact k5 c_253
  by_cases h6 : hsN t n = -902104540
  · obtain ⟨q9, w9, C9⟩ := st_X17_96 K
    refine g_lookup (pc := 81) (off := 181) 262 dX17_unit_81 (by decide) (by rw [h6]; decide) (by decide) ?_
    refine g_aload_n (pc := 262) dX17_unit_262 rfl ?_
    refine g_ldcS (pc := 263) (fun _ => C9.1) dX17_unit_263 ?_
    refine g_cV (pc := 265) (M' := mJ9_equals) (as := [_]) (ci := 37) rfl i_X17_82_37 eJ9_equals dX17_unit_265 hS.2.choose_spec.choose_spec.1 (k_equals (by omega) hs hn (by decide) hS C9) (by omega) rfl rfl (Nat.le_of_ble_eq_true rfl) ?_
    refine g_ifB_eq (pc := 268) 323 dX17_unit_268 (by decide) (fun c_268 => ?_) (fun c_268 => ?_)
    · exact kN (eq_no b0 (by rw [h6]; decide)) (eq_no b1 (by rw [h6]; decide)) (eq_no b2 (by rw [h6]; decide)) (eq_no b3 (by rw [h6]; decide)) (eq_no b4 (by rw [h6]; decide)) (eq_no b5 (by rw [h6]; decide)) c_268 (eq_no b7 (by rw [h6]; decide)) (eq_no b8 (by rw [h6]; decide)) (eq_no b9 (by rw [h6]; decide))
    · refine g_bipush (pc := 271) (v := 6) dX17_unit_271 (by decide) ?_
      refine g_istore (pc := 273) (ls' := [_, _, _, _, _]) dX17_unit_273 (by decide) rfl rfl ?_
      refine g_goto (pc := 275) 323 dX17_unit_275 (by decide) ?_
      exact k6 c_268
  by_cases h7 : hsN t n = 99228
  · obtain ⟨q9, w9, C9⟩ := st_X17_98 K
    refine g_lookup (pc := 81) (off := 197) 278 dX17_unit_81 (by decide) (by rw [h7]; decide) (by decide) ?_
    refine g_aload_n (pc := 278) dX17_unit_278 rfl ?_
    refine g_ldcS (pc := 279) (fun _ => C9.1) dX17_unit_279 ?_
    refine g_cV (pc := 281) (M' := mJ9_equals) (as := [_]) (ci := 37) rfl i_X17_82_37 eJ9_equals dX17_unit_281 hS.2.choose_spec.choose_spec.1 (k_equals (by omega) hs hn (by decide) hS C9) (by omega) rfl rfl (Nat.le_of_ble_eq_true rfl) ?_
    refine g_ifB_eq (pc := 284) 323 dX17_unit_284 (by decide) (fun c_284 => ?_) (fun c_284 => ?_)
    · exact kN (eq_no b0 (by rw [h7]; decide)) (eq_no b1 (by rw [h7]; decide)) (eq_no b2 (by rw [h7]; decide)) (eq_no b3 (by rw [h7]; decide)) (eq_no b4 (by rw [h7]; decide)) (eq_no b5 (by rw [h7]; decide)) (eq_no b6 (by rw [h7]; decide)) c_284 (eq_no b8 (by rw [h7]; decide)) (eq_no b9 (by rw [h7]; decide))
    · refine g_bipush (pc := 287) (v := 7) dX17_unit_287 (by decide) ?_
      refine g_istore (pc := 289) (ls' := [_, _, _, _, _]) dX17_unit_289 (by decide) rfl rfl ?_
      refine g_goto (pc := 291) 323 dX17_unit_291 (by decide) ?_
      exact k7 c_284
  by_cases h4 : hsN t n = 104361
  · obtain ⟨q9, w9, C9⟩ := st_X17_92 K
    refine g_lookup (pc := 81) (off := 151) 232 dX17_unit_81 (by decide) (by rw [h4]; decide) (by decide) ?_
    refine g_aload_n (pc := 232) dX17_unit_232 rfl ?_
    refine g_ldcS (pc := 233) (fun _ => C9.1) dX17_unit_233 ?_
    refine g_cV (pc := 235) (M' := mJ9_equals) (as := [_]) (ci := 37) rfl i_X17_82_37 eJ9_equals dX17_unit_235 hS.2.choose_spec.choose_spec.1 (k_equals (by omega) hs hn (by decide) hS C9) (by omega) rfl rfl (Nat.le_of_ble_eq_true rfl) ?_
    refine g_ifB_eq (pc := 238) 323 dX17_unit_238 (by decide) (fun c_238 => ?_) (fun c_238 => ?_)
    · exact kN (eq_no b0 (by rw [h4]; decide)) (eq_no b1 (by rw [h4]; decide)) (eq_no b2 (by rw [h4]; decide)) (eq_no b3 (by rw [h4]; decide)) c_238 (eq_no b5 (by rw [h4]; decide)) (eq_no b6 (by rw [h4]; decide)) (eq_no b7 (by rw [h4]; decide)) (eq_no b8 (by rw [h4]; decide)) (eq_no b9 (by rw [h4]; decide))
    · refine g_iconst (pc := 241) (v := 4) dX17_unit_241 (by decide) ?_
      refine g_istore (pc := 242) (ls' := [_, _, _, _, _]) dX17_unit_242 (by decide) rfl rfl ?_
      refine g_goto (pc := 244) 323 dX17_unit_244 (by decide) ?_
      exact k4 c_238
  by_cases h1 : hsN t n = 3076183
  · obtain ⟨q9, w9, C9⟩ := st_X17_86 K
    refine g_lookup (pc := 81) (off := 106) 187 dX17_unit_81 (by decide) (by rw [h1]; decide) (by decide) ?_
    refine g_aload_n (pc := 187) dX17_unit_187 rfl ?_
    refine g_ldcS (pc := 188) (fun _ => C9.1) dX17_unit_188 ?_
    refine g_cV (pc := 190) (M' := mJ9_equals) (as := [_]) (ci := 37) rfl i_X17_82_37 eJ9_equals dX17_unit_190 hS.2.choose_spec.choose_spec.1 (k_equals (by omega) hs hn (by decide) hS C9) (by omega) rfl rfl (Nat.le_of_ble_eq_true rfl) ?_
    refine g_ifB_eq (pc := 193) 323 dX17_unit_193 (by decide) (fun c_193 => ?_) (fun c_193 => ?_)
    · exact kN (eq_no b0 (by rw [h1]; decide)) c_193 (eq_no b2 (by rw [h1]; decide)) (eq_no b3 (by rw [h1]; decide)) (eq_no b4 (by rw [h1]; decide)) (eq_no b5 (by rw [h1]; decide)) (eq_no b6 (by rw [h1]; decide)) (eq_no b7 (by rw [h1]; decide)) (eq_no b8 (by rw [h1]; decide)) (eq_no b9 (by rw [h1]; decide))
    · refine g_iconst (pc := 196) (v := 1) dX17_unit_196 (by decide) ?_
      refine g_istore (pc := 197) (ls' := [_, _, _, _, _]) dX17_unit_197 (by decide) rfl rfl ?_
      refine g_goto (pc := 199) 323 dX17_unit_199 (by decide) ?_
      exact k1 c_193
  by_cases h9 : hsN t n = 3357571
  · obtain ⟨q9, w9, C9⟩ := st_X17_102 K
    refine g_lookup (pc := 81) (off := 229) 310 dX17_unit_81 (by decide) (by rw [h9]; decide) (by decide) ?_
    refine g_aload_n (pc := 310) dX17_unit_310 rfl ?_
    refine g_ldcS (pc := 311) (fun _ => C9.1) dX17_unit_311 ?_
    refine g_cV (pc := 313) (M' := mJ9_equals) (as := [_]) (ci := 37) rfl i_X17_82_37 eJ9_equals dX17_unit_313 hS.2.choose_spec.choose_spec.1 (k_equals (by omega) hs hn (by decide) hS C9) (by omega) rfl rfl (Nat.le_of_ble_eq_true rfl) ?_
    refine g_ifB_eq (pc := 316) 323 dX17_unit_316 (by decide) (fun c_316 => ?_) (fun c_316 => ?_)
    · exact kN (eq_no b0 (by rw [h9]; decide)) (eq_no b1 (by rw [h9]; decide)) (eq_no b2 (by rw [h9]; decide)) (eq_no b3 (by rw [h9]; decide)) (eq_no b4 (by rw [h9]; decide)) (eq_no b5 (by rw [h9]; decide)) (eq_no b6 (by rw [h9]; decide)) (eq_no b7 (by rw [h9]; decide)) (eq_no b8 (by rw [h9]; decide)) c_316
    · refine g_bipush (pc := 319) (v := 9) dX17_unit_319 (by decide) ?_
      refine g_istore (pc := 321) (ls' := [_, _, _, _, _]) dX17_unit_321 (by decide) rfl rfl ?_
      exact k9 c_316
  by_cases h8 : hsN t n = 102846057
  · obtain ⟨q9, w9, C9⟩ := st_X17_100 K
    refine g_lookup (pc := 81) (off := 213) 294 dX17_unit_81 (by decide) (by rw [h8]; decide) (by decide) ?_
    refine g_aload_n (pc := 294) dX17_unit_294 rfl ?_
    refine g_ldcS (pc := 295) (fun _ => C9.1) dX17_unit_295 ?_
    refine g_cV (pc := 297) (M' := mJ9_equals) (as := [_]) (ci := 37) rfl i_X17_82_37 eJ9_equals dX17_unit_297 hS.2.choose_spec.choose_spec.1 (k_equals (by omega) hs hn (by decide) hS C9) (by omega) rfl rfl (Nat.le_of_ble_eq_true rfl) ?_
    refine g_ifB_eq (pc := 300) 323 dX17_unit_300 (by decide) (fun c_300 => ?_) (fun c_300 => ?_)
    · exact kN (eq_no b0 (by rw [h8]; decide)) (eq_no b1 (by rw [h8]; decide)) (eq_no b2 (by rw [h8]; decide)) (eq_no b3 (by rw [h8]; decide)) (eq_no b4 (by rw [h8]; decide)) (eq_no b5 (by rw [h8]; decide)) (eq_no b6 (by rw [h8]; decide)) (eq_no b7 (by rw [h8]; decide)) c_300 (eq_no b9 (by rw [h8]; decide))
    · refine g_bipush (pc := 303) (v := 8) dX17_unit_303 (by decide) ?_
      refine g_istore (pc := 305) (ls' := [_, _, _, _, _]) dX17_unit_305 (by decide) rfl rfl ?_
      refine g_goto (pc := 307) 323 dX17_unit_307 (by decide) ?_
      exact k8 c_300
  by_cases h0 : hsN t n = 113319054
  · obtain ⟨q9, w9, C9⟩ := st_X17_80 K
    refine g_lookup (pc := 81) (off := 91) 172 dX17_unit_81 (by decide) (by rw [h0]; decide) (by decide) ?_
    refine g_aload_n (pc := 172) dX17_unit_172 rfl ?_
    refine g_ldcS (pc := 173) (fun _ => C9.1) dX17_unit_173 ?_
    refine g_cV (pc := 175) (M' := mJ9_equals) (as := [_]) (ci := 37) rfl i_X17_82_37 eJ9_equals dX17_unit_175 hS.2.choose_spec.choose_spec.1 (k_equals (by omega) hs hn (by decide) hS C9) (by omega) rfl rfl (Nat.le_of_ble_eq_true rfl) ?_
    refine g_ifB_eq (pc := 178) 323 dX17_unit_178 (by decide) (fun c_178 => ?_) (fun c_178 => ?_)
    · exact kN c_178 (eq_no b1 (by rw [h0]; decide)) (eq_no b2 (by rw [h0]; decide)) (eq_no b3 (by rw [h0]; decide)) (eq_no b4 (by rw [h0]; decide)) (eq_no b5 (by rw [h0]; decide)) (eq_no b6 (by rw [h0]; decide)) (eq_no b7 (by rw [h0]; decide)) (eq_no b8 (by rw [h0]; decide)) (eq_no b9 (by rw [h0]; decide))
    · refine g_iconst (pc := 181) (v := 0) dX17_unit_181 (by decide) ?_
      refine g_istore (pc := 182) (ls' := [_, _, _, _, _]) dX17_unit_182 (by decide) rfl rfl ?_
      refine g_goto (pc := 184) 323 dX17_unit_184 (by decide) ?_
      exact k0 c_178
  refine g_lookup (pc := 81) (off := 242) 323 dX17_unit_81 (by decide) (by show (if (-1428096065 : Int) = (hsN t n).toInt then (136 : Int) else if (-1109987098 : Int) = (hsN t n).toInt then (121 : Int) else if (-1006804125 : Int) = (hsN t n).toInt then (166 : Int) else if (-902104540 : Int) = (hsN t n).toInt then (181 : Int) else if (99228 : Int) = (hsN t n).toInt then (197 : Int) else if (104361 : Int) = (hsN t n).toInt then (151 : Int) else if (3076183 : Int) = (hsN t n).toInt then (106 : Int) else if (3357571 : Int) = (hsN t n).toInt then (229 : Int) else if (102846057 : Int) = (hsN t n).toInt then (213 : Int) else if (113319054 : Int) = (hsN t n).toInt then (91 : Int) else 242) = 242; rw [if_neg (i32_ne (c := -1428096065) (by decide) h3), if_neg (i32_ne (c := -1109987098) (by decide) h2), if_neg (i32_ne (c := -1006804125) (by decide) h5), if_neg (i32_ne (c := -902104540) (by decide) h6), if_neg (i32_ne (c := 99228) (by decide) h7), if_neg (i32_ne (c := 104361) (by decide) h4), if_neg (i32_ne (c := 3076183) (by decide) h1), if_neg (i32_ne (c := 3357571) (by decide) h9), if_neg (i32_ne (c := 102846057) (by decide) h8), if_neg (i32_ne (c := 113319054) (by decide) h0)]) (by decide) ?_
  exact kN (eq_no b0 h0) (eq_no b1 h1) (eq_no b2 h2) (eq_no b3 h3) (eq_no b4 h4) (eq_no b5 h5) (eq_no b6 h6) (eq_no b7 h7) (eq_no b8 h8) (eq_no b9 h9)
