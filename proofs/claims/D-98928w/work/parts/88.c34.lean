/-! THE COMPONENT: the reader of houses, six. Printed by m_c34.py -/
set_option maxRecDepth 100000
theorem kd_F {t : Nat → Nat} {n b : Nat} (hl : ∀ k, k < wL t n b → t (b + k) < 128) (hk : kdN t n b < 4) : (if eqN (fun k => t (b + k)) (wL t n b) 6 [115, 105, 115, 116, 101, 114] = true then 0 else if eqN (fun k => t (b + k)) (wL t n b) 5 [114, 101, 108, 105, 99] = true then 1 else if eqN (fun k => t (b + k)) (wL t n b) 7 [112, 105, 108, 103, 114, 105, 109] = true then 2 else 3) = kdN t n b := by
  rw [wd_sister hl, wd_relic hl, wd_pilgrim hl]
  unfold kdN at hk ⊢
  by_cases h0 : wdB t n b W_sister = true
  · rw [if_pos h0, if_pos h0]
  · rw [if_neg h0] at hk ⊢
    rw [if_neg h0]
    by_cases h1 : wdB t n b W_relic = true
    · rw [if_pos h1, if_pos h1]
    · rw [if_neg h1] at hk ⊢
      rw [if_neg h1]
      by_cases h2 : wdB t n b W_pilgrim = true
      · rw [if_pos h2, if_pos h2]
      · rw [if_neg h2] at hk ⊢
        rw [if_neg h2]
        by_cases h3 : wdB t n b W_vow = true
        · rw [if_pos h3]
        · rw [if_neg h3] at hk; omega
theorem kd_wl {t : Nat → Nat} {n b : Nat} (hk : kdN t n b < 4) : wl t n b ≤ 7 := by
  unfold kdN at hk
  by_cases h0 : wdB t n b W_sister = true
  · have e : wl t n b = 6 := wdB_wl h0
    omega
  · rw [if_neg h0] at hk
    by_cases h1 : wdB t n b W_relic = true
    · have e : wl t n b = 5 := wdB_wl h1
      omega
    · rw [if_neg h1] at hk
      by_cases h2 : wdB t n b W_pilgrim = true
      · have e : wl t n b = 7 := wdB_wl h2
        omega
      · rw [if_neg h2] at hk
        by_cases h3 : wdB t n b W_vow = true
        · have e : wl t n b = 3 := wdB_wl h3
          omega
        · rw [if_neg h3] at hk; omega
theorem clF_n {g : HD} {c k : Nat} (h : clFull g c k = false) (hg : okH g) : (k = 0 → gS g < 8) ∧ (k = 1 → gR g < 10) ∧ (k = 2 → gP g < 8) := by
  unfold clFull at h
  simp only [Bool.or_eq_false_iff, decide_eq_false_iff_not] at h
  have h8 := hg.1
  have h10 := hg.2.1
  have hp := hg.2.2.1
  refine ⟨fun e => ?_, fun e => ?_, fun e => ?_⟩ <;> omega
/-- a clause without what ends it, its word known -/
def clC (t : Nat → Nat) (n c : Nat) (g : HD) (a : Nat) : pR HD := if clFull g c (kdN t n a) = true then .inl (3, a) else clK0 t n g (kdN t n a) (a + wl t n a)
section
variable {E : jE} {d : Nat} {h : jH} {t : Nat → Nat} {n b c : Nat} {T : Nat → Int32} {tp x : jN} {fr op : Int32} {P : jN → Prop} {ac : Nat → Nat} {g : HD}
set_option maxHeartbeats 2000000 in
theorem l_cl1 {bc bs : Nat} {h0 : jH} {s v : jN} {l2 l3 l4 l5 : Option jV} (hd : 14 ≤ d) (hbc : 6 ≤ bc) (hbs : 220 ≤ bs) (hc : c ≤ 60) (hcx : cxt P h) (hR : RH x tp n T t) (hP : P x) (hPt : ∀ j, 50 ≤ j → j < 57 → P (nC ac j)) (hx8 : 80 ≤ x.1) (hg : okH g) (ha : b ≤ n) (fx : h x = some (rdO 13 tp n b fr op [vR (nC ac 50)])) (ft : h tp = some (bA 600 T)) (ht : tdI ac g c h) (k0 : kp P h0 h) (hs0 : s.1 ≠ 0) (hs9 : s.1 < 900) (hs8 : 80 ≤ s.1) (hPs : P s) (hxs : x ≠ s) (hts : tp ≠ s) (hl : ∀ k, k < wL t n b → t (b + k) < 128) (hS : sS h s v (wL t n b) (fun k => t (b + k))) (hk : kdN t n b < 4) : G E d bc bs mX13_clause 144 [some (vR x), some (vR s), some (vR s), l3, l4, l5] [] h (clQ ac P h0 x tp n c op (clC t n c g b)) := by
  have hL : wL t n b ≤ 10 := Nat.min_le_right _ _
  have h7 := kd_wl hk
  have hLw : wL t n b = wl t n b := Nat.min_eq_left (by omega)
  have hwn : wl t n b ≤ n - b := wlF_le t (n - b) b
  have h600 := hR.2.2.2.1
  refine g_aload_n (pc := 144) dX13_clause_144 rfl ?_
  refine g_aload_n (pc := 145) dX13_clause_145 rfl ?_
  refine g_callV (pc := 146) (M' := mX13_isFull) (as := [_]) (ci := 13) rfl i_X13_85_13 eX13_isFull dX13_clause_146 fx (k_isFull (by omega) hg hc fx ht hs0 hs8 hxs (by omega) hl hS) (by omega) rfl rfl (Nat.le_of_ble_eq_true rfl) (by omega) (by omega) (fun C9 x9 h9 q9 => ?_) (fun r9 h9 q9 => ?_)
  · cases q9.1
  obtain ⟨e9, hS9, o9⟩ := q9
  cases e9
  replace fx := (o9 _ hxs).trans fx
  replace ft := (o9 _ hts).trans ft
  replace ht := ht.ex hg (fun y o h1 h2 q => (o9 y (fun e => by rw [e] at h2; exact absurd hs8 (by omega))).trans q)
  replace k0 := k0.tr (kp.at hPs hs9 o9)
  replace hcx := hcx.kp (kp.at hPs hs9 o9)
  rw [kd_F hl hk]
  refine g_ifB_eq (pc := 149) 165 dX13_clause_149 (by decide) (fun c_149 => ?_) (fun c_149 => ?_)
  · refine g_aload_n (pc := 165) dX13_clause_165 rfl ?_
    refine g_dup (pc := 166) dX13_clause_166 rfl ?_
    refine g_getfield (pc := 167) f_X13_24_13 dX13_clause_167 fx rfl ?_
    refine g_aload_n (pc := 170) dX13_clause_170 rfl ?_
    refine g_cV (pc := 171) (M' := mJ9_length) (as := []) (ci := 37) rfl i_X13_94_37 eJ9_length dX13_clause_171 hS9.2.choose_spec.choose_spec.1 (k_length (by omega) (by omega) hS9) (by omega) rfl rfl (Nat.le_of_ble_eq_true rfl) ?_
    refine g_iadd (pc := 174) dX13_clause_174 ?_
    rw [show nI b + nI (wL t n b) = nI (b + wl t n b) from by rw [hLw]; exact nI_add b _]
    refine n_put (pc := 175) w_X13_24_13 dX13_clause_175 fx (Nat.le_of_ble_eq_true rfl) hR.1 (j_fit_int _) rfl (fun h2 q8 o8 => ?_)
    have hxv : x ≠ v := fun e => by obtain ⟨⟨f, fv, -⟩, -⟩ := hS9; rw [e] at fx; rw [fx] at fv; cases fv
    have hS8 : sS h2 s v (wL t n b) (fun k => t (b + k)) := by
      obtain ⟨⟨f, fv, hf⟩, hh, z, fs, r⟩ := hS9
      exact ⟨⟨f, (o8 _ hxv.symm).trans fv, hf⟩, hh, z, (o8 _ hxs.symm).trans fs, r⟩
    have ec : clC t n c g b = clK0 t n g (kdN t n b) (b + wl t n b) := by
      unfold clC
      rw [if_neg (by rw [c_149]; decide)]
    rw [ec]
    exact l_cl2 (l2 := none) (by omega) (by omega) (by omega) (hcx.kp (kp.at hP hR.2.1 o8)) hR hP hPt hx8 hg (by omega) q8 ((o8 _ hR.2.2.1.symm).trans ft) (ht.ex hg (fun y o h1 h2 q => (o8 y (fun e => by rw [e] at h2; exact absurd hx8 (by omega))).trans q)) (k0.tr (kp.at hP hR.2.1 o8)) hs0 hs9 hs8 hPs hxs hts hl hS8 hk (clF_n c_149 hg)
  · refine n_new (pc := 152) (fs := [vN, vN, vN, vN, vN, vI 0, vI 0, vI 0]) 92 k_X14 q1159 q1127 q132 dX13_clause_152 (fun j hj => by match j, hj with | 0, _ => rfl | 1, _ => rfl | 2, _ => rfl | 3, _ => rfl | 4, _ => rfl | 5, _ => rfl | 6, _ => rfl | 7, _ => rfl | j + 8, hj => exact absurd hj (by omega)) (by omega) (by omega) (fun b9 h8 q8 n9 o8 => ?_)
    refine g_dup (pc := 155) dX13_clause_155 rfl ?_
    refine g_iconst (pc := 156) (v := 3) dX13_clause_156 (by decide) ?_
    refine g_aload_n (pc := 157) dX13_clause_157 rfl ?_
    refine g_getfield (pc := 158) f_X13_24_13 dX13_clause_158 ((o8 _ (ne_new fx n9)).trans fx) rfl ?_
    refine n_init (pc := 161) (M' := mX14_init) (as := [_, _]) i_X13_91 eX14_init dX13_clause_161 (k_Wrong (x := (92, b9)) (by omega) (by show 92 ≠ 0; decide) q8 _ _) (by omega) rfl rfl (Nat.le_of_ble_eq_true rfl) (fun h2 w9 o7 => ?_)
    have E9 : ∀ y o, h9 y = some o → h2 y = some o := fun y o k => (o7 _ (ne_new k n9)).trans ((o8 _ (ne_new k n9)).trans k)
    have C9 : cFr h9 h2 := cFr.tr (cFr.at (by show 92 < 900; decide) o8) (cFr.at (by show 92 < 900; decide) o7)
    refine g_athrow (pc := 164) (ci := 14) rfl dX13_clause_164 w9 (gx_out (fun z hz => absurd hz List.not_mem_nil) ?_)
    unfold clC
    rw [if_pos c_149]
    exact ⟨b9, rfl, w9, k0.tr (kp.ex E9 C9)⟩
end
