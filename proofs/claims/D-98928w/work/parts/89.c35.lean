/-! THE COMPONENT: the reader of houses, seven. Printed by m_c35.py -/
set_option maxRecDepth 100000
theorem kd_4 {t : Nat → Nat} {n b : Nat} (h0 : wdB t n b W_sister = false) (h1 : wdB t n b W_relic = false) (h2 : wdB t n b W_pilgrim = false) (h3 : wdB t n b W_vow = false) : kdN t n b = 4 := by
  unfold kdN
  rw [if_neg (by rw [h0]; decide), if_neg (by rw [h1]; decide), if_neg (by rw [h2]; decide), if_neg (by rw [h3]; decide)]
theorem kd_3 {t : Nat → Nat} {n b : Nat} (h : wdB t n b W_vow = true) : kdN t n b = 3 := by
  have e : wl t n b = 3 := wdB_wl h
  unfold kdN
  rw [if_neg (fun q => by have e1 : wl t n b = 6 := wdB_wl q; omega), if_neg (fun q => by have e1 : wl t n b = 5 := wdB_wl q; omega), if_neg (fun q => by have e1 : wl t n b = 7 := wdB_wl q; omega), if_pos h]
/-- a clause without what ends it -/
def clD (t : Nat → Nat) (n c : Nat) (g : HD) (a : Nat) : pR HD := if kdN t n a = 4 then .inl (1, a) else clC t n c g a
theorem clP_D {t : Nat → Nat} {n c : Nat} {g : HD} {a : Nat} : clP t n c g a = pB (clD t n c g a) fun p g' => clE t n g' p := by
  unfold clP clD clC
  by_cases h : kdN t n a = 4
  · rw [if_pos h, if_pos h]; rfl
  · rw [if_neg h, if_neg h]
    by_cases q : clFull g c (kdN t n a) = true
    · rw [if_pos q, if_pos q]; rfl
    · rw [if_neg q, if_neg q]; exact clK_0
section
variable {E : jE} {d : Nat} {h : jH} {t : Nat → Nat} {n b c : Nat} {T : Nat → Int32} {tp x : jN} {fr op : Int32} {P : jN → Prop} {ac : Nat → Nat} {g : HD}
set_option maxHeartbeats 2000000 in
theorem k_clause {s v : jN} (hd : 16 ≤ d) (hc : c ≤ 60) (hcx : cxt P h) (hR : RH x tp n T t) (hP : P x) (hPt : ∀ j, 50 ≤ j → j < 57 → P (nC ac j)) (hx8 : 80 ≤ x.1) (hg : okH g) (ha : b ≤ n) (fx : h x = some (rdO 13 tp n b fr op [vR (nC ac 50)])) (ft : h tp = some (bA 600 T)) (ht : tdI ac g c h) (hs0 : s.1 ≠ 0) (hs9 : s.1 < 900) (hs8 : 80 ≤ s.1) (hPs : P s) (hxs : x ≠ s) (hts : tp ≠ s) (hl : ∀ k, k < wL t n b → t (b + k) < 128) (hS : sS h s v (wL t n b) (fun k => t (b + k))) : Ct E d 6 220 mX13_clause [vR x, vR s] h (clQ ac P h x tp n c op (clD t n c g b)) := by
  refine ct_of (by decide) (Nat.le_of_ble_eq_true rfl) rfl ?_
  have hL : wL t n b ≤ 10 := Nat.min_le_right _ _
  refine g_ok (fun K => ?_)
  refine g_aload_n (pc := 0) dX13_clause_0 rfl ?_
  refine g_astore_n (pc := 1) (ls' := [_, _, _, _, _, _]) dX13_clause_1 (by decide) rfl rfl ?_
  refine g_iconst (pc := 2) (v := -1) dX13_clause_2 (by decide) ?_
  refine g_istore_n (pc := 3) (ls' := [_, _, _, _, _, _]) dX13_clause_3 (by decide) rfl rfl ?_
  refine g_aload_n (pc := 4) dX13_clause_4 rfl ?_
  refine g_callV (pc := 5) (M' := mJ9_hashCode) (as := []) (ci := 37) rfl i_X13_46_37 eJ9_hashCode dX13_clause_5 hS.2.choose_spec.choose_spec.1 (k_hash (by omega) hs0 (by omega) hl hS) (by omega) rfl rfl (Nat.le_of_ble_eq_true rfl) (by omega) (by omega) (fun C9 x9 h9 q9 => ?_) (fun r9 h9 q9 => ?_)
  · cases q9.1
  obtain ⟨e9, hS9, o9⟩ := q9
  cases e9
  replace fx := (o9 _ hxs).trans fx
  replace ft := (o9 _ hts).trans ft
  replace ht := ht.ex hg (fun y o h1 h2 q => (o9 y (fun e => by rw [e] at h2; exact absurd hs8 (by omega))).trans q)
  have k0 : kp P h h9 := kp.at hPs hs9 o9
  replace hcx := hcx.kp k0
  refine sw_X13_clause_8 K (by omega) hs0 (by omega) hS9 (fun g0 => ?_) (fun g2 => ?_) (fun g3 => ?_) (fun g1 => ?_) (fun n0 n1 n2 n3 => ?_)
  · have e := kd_0 ((wd_sister hl).symm.trans g0)
    have ec : clD t n c g b = clC t n c g b := if_neg (by rw [e]; decide)
    rw [ec]
    refine g_iload_n (pc := 105) dX13_clause_105 rfl ?_
    refine g_tableIn (pc := 106) (off := 30) 136 dX13_clause_106 (by decide) (by decide) (by decide) (by decide) ?_
    refine g_goto (pc := 136) 144 dX13_clause_136 (by decide) ?_
    exact l_cl1 (l2 := none) (by omega) (by omega) (by omega) hc hcx hR hP hPt hx8 hg ha fx ft ht k0 hs0 hs9 hs8 hPs hxs hts hl hS9 (by rw [e]; decide)
  · have e := kd_2 ((wd_pilgrim hl).symm.trans g2)
    have ec : clD t n c g b = clC t n c g b := if_neg (by rw [e]; decide)
    rw [ec]
    refine g_iload_n (pc := 105) dX13_clause_105 rfl ?_
    refine g_tableIn (pc := 106) (off := 30) 136 dX13_clause_106 (by decide) (by decide) (by decide) (by decide) ?_
    refine g_goto (pc := 136) 144 dX13_clause_136 (by decide) ?_
    exact l_cl1 (l2 := none) (by omega) (by omega) (by omega) hc hcx hR hP hPt hx8 hg ha fx ft ht k0 hs0 hs9 hs8 hPs hxs hts hl hS9 (by rw [e]; decide)
  · have e := kd_3 ((wd_vow hl).symm.trans g3)
    have ec : clD t n c g b = clC t n c g b := if_neg (by rw [e]; decide)
    rw [ec]
    refine g_iload_n (pc := 105) dX13_clause_105 rfl ?_
    refine g_tableIn (pc := 106) (off := 30) 136 dX13_clause_106 (by decide) (by decide) (by decide) (by decide) ?_
    refine g_goto (pc := 136) 144 dX13_clause_136 (by decide) ?_
    exact l_cl1 (l2 := none) (by omega) (by omega) (by omega) hc hcx hR hP hPt hx8 hg ha fx ft ht k0 hs0 hs9 hs8 hPs hxs hts hl hS9 (by rw [e]; decide)
  · have e := kd_1 ((wd_relic hl).symm.trans g1)
    have ec : clD t n c g b = clC t n c g b := if_neg (by rw [e]; decide)
    rw [ec]
    refine g_iload_n (pc := 105) dX13_clause_105 rfl ?_
    refine g_tableIn (pc := 106) (off := 30) 136 dX13_clause_106 (by decide) (by decide) (by decide) (by decide) ?_
    refine g_goto (pc := 136) 144 dX13_clause_136 (by decide) ?_
    exact l_cl1 (l2 := none) (by omega) (by omega) (by omega) hc hcx hR hP hPt hx8 hg ha fx ft ht k0 hs0 hs9 hs8 hPs hxs hts hl hS9 (by rw [e]; decide)
  · have e := kd_4 ((wd_sister hl).symm.trans n0) ((wd_relic hl).symm.trans n1) ((wd_pilgrim hl).symm.trans n2) ((wd_vow hl).symm.trans n3)
    have ec : clD t n c g b = .inl (1, b) := if_pos e
    rw [ec]
    refine g_iload_n (pc := 105) dX13_clause_105 rfl ?_
    refine g_tableOut (pc := 106) 139 dX13_clause_106 (by decide) (by decide) ?_
    refine g_aload_n (pc := 139) dX13_clause_139 rfl ?_
    refine g_callV (pc := 140) (M' := mX12_wrong) (as := []) (ci := 13) rfl i_X13_81_13 eX12_wrong dX13_clause_140 fx (k_wrong13 (by omega) fx) (by omega) rfl rfl (Nat.le_of_ble_eq_true rfl) (by omega) (by omega) (fun C9 x9 h9 q9 => ?_) (fun r9 h9 q9 => ?_)
    · obtain ⟨b9, e9, -⟩ := q9
      cases e9
    obtain ⟨b9, e9, w9, n9, E9, C9⟩ := q9
    cases e9
    refine g_athrow (pc := 143) (ci := 14) rfl dX13_clause_143 w9 (gx_out (fun z hz => absurd hz List.not_mem_nil) ?_)
    exact ⟨b9, rfl, w9, k0.tr (kp.ex E9 C9)⟩
end
