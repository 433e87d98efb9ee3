/-! THE COMPONENT: the reader of houses, five. Printed by m_c33.py -/
set_option maxRecDepth 100000
theorem kd_1 {t : Nat → Nat} {n b : Nat} (h : wdB t n b W_relic = true) : kdN t n b = 1 := by
  have e : wl t n b = 5 := wdB_wl h
  unfold kdN
  rw [if_neg (fun q => by have e1 : wl t n b = 6 := wdB_wl q; omega), if_pos h]
theorem kd_2 {t : Nat → Nat} {n b : Nat} (h : wdB t n b W_pilgrim = true) : kdN t n b = 2 := by
  have e : wl t n b = 7 := wdB_wl h
  unfold kdN
  rw [if_neg (fun q => by have e1 : wl t n b = 6 := wdB_wl q; omega), if_neg (fun q => by have e1 : wl t n b = 5 := wdB_wl q; omega), if_pos h]
theorem kd_n {t : Nat → Nat} {n b : Nat} (h0 : wdB t n b W_sister = false) (h1 : wdB t n b W_relic = false) (h2 : wdB t n b W_pilgrim = false) (hk : kdN t n b < 4) : kdN t n b = 3 := by
  unfold kdN at hk ⊢
  rw [if_neg (by rw [h0]; decide), if_neg (by rw [h1]; decide), if_neg (by rw [h2]; decide)] at hk ⊢
  by_cases q : wdB t n b W_vow = true
  · rw [if_pos q]
  · rw [if_neg q] at hk; omega
section
variable {E : jE} {d : Nat} {h : jH} {t : Nat → Nat} {n a c : Nat} {T : Nat → Int32} {tp x : jN} {fr op : Int32} {P : jN → Prop} {ac : Nat → Nat} {g : HD}
set_option maxHeartbeats 2000000 in
theorem l_cl2 {bc bs b : Nat} {h0 : jH} {s v : jN} {l2 l3 l4 l5 : Option jV} (hd : 12 ≤ d) (hbc : 6 ≤ bc) (hbs : 220 ≤ bs) (hcx : cxt P h) (hR : RH x tp n T t) (hP : P x) (hPt : ∀ j, 50 ≤ j → j < 57 → P (nC ac j)) (hx8 : 80 ≤ x.1) (hg : okH g) (ha : a ≤ n) (fx : h x = some (rdO 13 tp n a fr op [vR (nC ac 50)])) (ft : h tp = some (bA 600 T)) (ht : tdI ac g c h) (k0 : kp P h0 h) (hs0 : s.1 ≠ 0) (hs9 : s.1 < 900) (hs8 : 80 ≤ s.1) (hPs : P s) (hxs : x ≠ s) (hts : tp ≠ s) (hl : ∀ k, k < wL t n b → t (b + k) < 128) (hS : sS h s v (wL t n b) (fun k => t (b + k))) (hk : kdN t n b < 4) (hf : (kdN t n b = 0 → gS g < 8) ∧ (kdN t n b = 1 → gR g < 10) ∧ (kdN t n b = 2 → gP g < 8)) : G E d bc bs mX13_clause 178 [some (vR x), some (vR s), some (vR s), l3, l4, l5] [] h (clQ ac P h0 x tp n c op (clK0 t n g (kdN t n b) a)) := by
  have hL : wL t n b ≤ 10 := Nat.min_le_right _ _
  refine g_ok (fun K => ?_)
  refine g_aload_n (pc := 178) dX13_clause_178 rfl ?_
  refine g_astore_n (pc := 179) (ls' := [_, _, _, _, _, _]) dX13_clause_179 (by decide) rfl rfl ?_
  refine g_iconst (pc := 180) (v := -1) dX13_clause_180 (by decide) ?_
  refine g_istore_n (pc := 181) (ls' := [_, _, _, _, _, _]) dX13_clause_181 (by decide) rfl rfl ?_
  refine g_aload_n (pc := 182) dX13_clause_182 rfl ?_
  refine g_callV (pc := 183) (M' := mJ9_hashCode) (as := []) (ci := 37) rfl i_X13_46_37 eJ9_hashCode dX13_clause_183 hS.2.choose_spec.choose_spec.1 (k_hash (by omega) hs0 (by omega) hl hS) (by omega) rfl rfl (Nat.le_of_ble_eq_true rfl) (by omega) (by omega) (fun C9 x9 h9 q9 => ?_) (fun r9 h9 q9 => ?_)
  · cases q9.1
  obtain ⟨e9, hS9, o9⟩ := q9
  cases e9
  replace fx := (o9 _ hxs).trans fx
  replace ft := (o9 _ hts).trans ft
  replace ht := ht.ex hg (fun y o h1 h2 q => (o9 y (fun e => by rw [e] at h2; exact absurd hs8 (by omega))).trans q)
  replace k0 := k0.tr (kp.at hPs hs9 o9)
  replace hcx := hcx.kp (kp.at hPs hs9 o9)
  refine sw_X13_clause_186 K (by omega) hs0 (by omega) hS9 (fun g0 => ?_) (fun g2 => ?_) (fun g1 => ?_) (fun n0 n1 n2 => ?_)
  · have e := kd_0 ((wd_sister hl).symm.trans g0)
    rw [e]
    refine g_iload_n (pc := 259) dX13_clause_259 rfl ?_
    refine g_tableIn (pc := 260) (off := 28) 288 dX13_clause_260 (by decide) (by decide) (by decide) (by decide) ?_
    exact l_clS (by omega) (by omega) (by omega) hR hP hPt hx8 hg ha fx ft ht k0 (hf.1 e)
  · have e := kd_2 ((wd_pilgrim hl).symm.trans g2)
    rw [e]
    refine g_iload_n (pc := 259) dX13_clause_259 rfl ?_
    refine g_tableIn (pc := 260) (off := 108) 368 dX13_clause_260 (by decide) (by decide) (by decide) (by decide) ?_
    exact l_clP (by omega) (by omega) (by omega) hcx hR hP hPt hx8 hg ha fx ft ht k0 (hf.2.2 e)
  · have e := kd_1 ((wd_relic hl).symm.trans g1)
    rw [e]
    refine g_iload_n (pc := 259) dX13_clause_259 rfl ?_
    refine g_tableIn (pc := 260) (off := 64) 324 dX13_clause_260 (by decide) (by decide) (by decide) (by decide) ?_
    exact l_clR (by omega) (by omega) (by omega) hcx hR hP hPt hx8 hg ha fx ft ht k0 (hf.2.1 e)
  · have e := kd_n ((wd_sister hl).symm.trans n0) ((wd_relic hl).symm.trans n1) ((wd_pilgrim hl).symm.trans n2) hk
    rw [e]
    refine g_iload_n (pc := 259) dX13_clause_259 rfl ?_
    refine g_tableOut (pc := 260) 404 dX13_clause_260 (by decide) (by decide) ?_
    exact l_clV (by omega) (by omega) (by omega) hR hP hPt hx8 hg ha fx ft ht k0
end
