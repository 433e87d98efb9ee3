/-! THE COMPONENT: the reader of houses, one. Printed by m_c28.py -/
set_option maxRecDepth 100000
/-- a list that is being filled -/
def liB (h : jH) (l e : jN) (n : Nat) (x : Nat → jN) : Prop := ∃ (mc : Int32) (cap : Nat) (f : Nat → Option jN), h l = some (oO 33 [vI mc, vR e, vI (nI n)]) ∧ h e = some (rA 3 cap f) ∧ n ≤ cap ∧ 1 ≤ cap ∧ cap ≤ 100 ∧ ∀ r, r < n → f r = some (x r)
/-- what is told, while it is read: c clauses -/
def tdI (ac : Nat → Nat) (g : HD) (c : Nat) (h : jH) : Prop := h (nC ac 50) = some (oO 2 [vR (nC ac 51), vR (nC ac 52), vR (nC ac 53), vR (nC ac 54), vI (nI (gS g)), vI (nI c)]) ∧ (∃ f, h (nC ac 51) = some (iA 8 f) ∧ ∀ s, s < gS g → f s = nI (gD g 5 s)) ∧ h (nC ac 52) = some (iA 8 (gW g)) ∧
  liB h (nC ac 53) (nC ac 55) (gR g) (fun r => nC ac (60 + r)) ∧ liB h (nC ac 54) (nC ac 56) (gP g) (fun p => nC ac (70 + p)) ∧ (∀ r, r < gR g → h (nC ac (60 + r)) = some (oO 15 [vI (nI (gD g 0 r)), vI (nI (gD g 1 r)), vI (nI (gD g 2 r))])) ∧ (∀ p, p < gP g → h (nC ac (70 + p)) = some (oO 16 [vI (nI (gD g 3 p)), vI (nI (gD g 4 p))]))
theorem tdI.sz {ac : Nat → Nat} {g : HD} {c : Nat} {h : jH} (k : tdI ac g c h) : (∃ mc e, h (nC ac 53) = some (oO 33 [vI mc, e, vI (nI (gR g))])) ∧ ∃ mc e, h (nC ac 54) = some (oO 33 [vI mc, e, vI (nI (gP g))]) := by
  obtain ⟨-, -, -, ⟨m1, c1, f1, h1, -⟩, ⟨m2, c2, f2, h2, -⟩, -, -⟩ := k
  exact ⟨⟨m1, _, h1⟩, ⟨m2, _, h2⟩⟩
theorem liB.kp {h h' : jH} {l e : jN} {n : Nat} {x : Nat → jN} (k : liB h l e n x) (e1 : ∀ y o, h y = some o → y.1 = l.1 ∨ y.1 = e.1 → h' y = some o) : liB h' l e n x := by
  obtain ⟨mc, cap, f, h1, h2, h3⟩ := k
  exact ⟨mc, cap, f, e1 _ _ h1 (Or.inl rfl), e1 _ _ h2 (Or.inr rfl), h3⟩
/-- what is told has the roles 50 to 77 -/
theorem tdI.ex {ac : Nat → Nat} {g : HD} {c : Nat} {h h' : jH} (k : tdI ac g c h) (hg : okH g) (e : ∀ y o, 50 ≤ y.1 → y.1 < 80 → h y = some o → h' y = some o) : tdI ac g c h' := by
  have hR := hg.2.1
  have hP := hg.2.2.1
  obtain ⟨h1, ⟨f, h2, h2b⟩, h3, h4, h5, h6, h7⟩ := k
  refine ⟨e _ _ (by show 50 ≤ 50; decide) (by show 50 < 80; decide) h1, ⟨f, e _ _ (by show 50 ≤ 51; decide) (by show 51 < 80; decide) h2, h2b⟩, e _ _ (by show 50 ≤ 52; decide) (by show 52 < 80; decide) h3, h4.kp (fun y o q w => e y o ?_ ?_ q), h5.kp (fun y o q w => e y o ?_ ?_ q), fun r hr => e _ _ (by show 50 ≤ 60 + r; omega) (by show 60 + r < 80; omega) (h6 r hr), fun p hp => e _ _ (by show 50 ≤ 70 + p; omega) (by show 70 + p < 80; omega) (h7 p hp)⟩
  · have : y.1 = 53 ∨ y.1 = 55 := w
    omega
  · have : y.1 = 53 ∨ y.1 = 55 := w
    omega
  · have : y.1 = 54 ∨ y.1 = 56 := w
    omega
  · have : y.1 = 54 ∨ y.1 = 56 := w
    omega
theorem wrX.kp {P : jN → Prop} {h0 h h' : jH} {e : Nat × Nat} {r : jR} (k : kp P h0 h) (w : wrX P h e r h') : wrX P h0 e r h' := by
  obtain ⟨b, h1, h2, h3⟩ := w
  exact ⟨b, h1, h2, k.tr h3⟩
theorem nu13_x {P : jN → Prop} {h h' : jH} {x tp z : jN} {n b : Nat} {op : Int32} {rest : List jV} {q : pR Nat} {C : String} (k : nuQ13 P h x tp n b op rest q (.inr (C, z)) h') : ∃ e, q = .inl e ∧ wrX P h e (.inr (C, z)) h' := by
  unfold nuQ13 at k
  cases q with
  | inl e => exact ⟨e, rfl, k⟩
  | inr p => cases k.1
theorem nu13_r {P : jN → Prop} {h h' : jH} {x tp : jN} {n b : Nat} {op : Int32} {rest : List jV} {q : pR Nat} {r : Option jV} (k : nuQ13 P h x tp n b op rest q (.inl r) h') : ∃ p, q = .inr p ∧ r = some (vI (nI p.2)) ∧ h' x = some (rdO 13 tp n p.1 (nI b) op rest) ∧ ∀ y, y ≠ x → h' y = h y := by
  unfold nuQ13 at k
  cases q with
  | inl e => obtain ⟨b, h1, -⟩ := k; cases h1
  | inr p => exact ⟨p, rfl, Sum.inl.inj k.1, k.2.1, k.2.2⟩
section
variable {E : jE} {d : Nat} {h : jH} {t : Nat → Nat} {n a c : Nat} {T : Nat → Int32} {tp x : jN} {fr op : Int32} {P : jN → Prop} {ac : Nat → Nat} {g : HD}
set_option maxHeartbeats 2000000 in
theorem k_sister13 (hd : 8 ≤ d) (hR : RH x tp n T t) (hP : P x) (ha : a ≤ n) (fx : h x = some (rdO 13 tp n a fr op [vR (nC ac 50)])) (ft : h tp = some (bA 600 T)) (ht : tdI ac g c h) : Ct E d 1 8 mX13_sister [vR x] h (nuQ13 P h x tp n (bl t n a) op [vR (nC ac 50)] (nuP t n 0 (nI (gS g) - 1) a)) := by
  refine ct_of (by decide) (Nat.le_of_ble_eq_true rfl) rfl ?_
  refine g_aload_n (pc := 0) dX13_sister_0 rfl ?_
  refine g_iconst (pc := 1) (v := 0) dX13_sister_1 (by decide) ?_
  refine g_aload_n (pc := 2) dX13_sister_2 rfl ?_
  refine g_getfield (pc := 3) f_X13_14_13 dX13_sister_3 fx rfl ?_
  refine g_getfield (pc := 6) f_X13_61_2 dX13_sister_6 ht.1 rfl ?_
  refine g_iconst (pc := 9) (v := 1) dX13_sister_9 (by decide) ?_
  refine g_isub (pc := 10) dX13_sister_10 ?_
  refine g_callV (pc := 11) (M' := mX12_number) (as := [_, _]) (ci := 13) rfl i_X13_75_13 eX12_number dX13_sister_11 fx (k_number13 (by omega) hR hP ha fx ft) (by omega) rfl rfl (Nat.le_of_ble_eq_true rfl) (by omega) (by omega) (fun C9 x9 h9 q9 => ?_) (fun r9 h9 q9 => ?_)
  · exact gx_out (fun z hz => absurd hz List.not_mem_nil) q9
  obtain ⟨p9, e9, e8, q8⟩ := nu13_r q9
  subst e8
  refine g_ireturn (pc := 14) dX13_sister_14 rfl (by first | exact rfl | exact j_nb _) ?_
  unfold nuQ13
  rw [e9]
  exact ⟨rfl, q8⟩
theorem k_sz {l : jN} {mc : Int32} {e : jV} {m : Int32} (hl : h l = some (oO 33 [vI mc, e, vI m])) : Ct E d 0 0 mJ2_size [vR l] h (qR (some (vI m)) h) := by
  refine ct_of (by decide) (Nat.le_of_ble_eq_true rfl) rfl ?_
  refine g_aload_n (pc := 0) dJ2_size_0 rfl ?_
  refine g_getfield (pc := 1) f_J2_48_33 dJ2_size_1 hl rfl ?_
  refine g_ireturn (pc := 4) dJ2_size_4 rfl (by first | exact rfl | exact j_nb _) ?_
  exact ⟨rfl, rfl⟩
def fuQ (h : jH) (s v : jN) (m : Nat) (t' : Nat → Nat) (b : Bool) : jR → jH → Prop := fun r h' => r = .inl (some (vI (bI b))) ∧ sS h' s v m t' ∧ ∀ y, y ≠ s → h' y = h y
set_option maxHeartbeats 2000000 in
theorem k_isFull {s v : jN} {m : Nat} {t' : Nat → Nat} (hd : 8 ≤ d) (hg : okH g) (hc : c ≤ 60) (fx : h x = some (rdO 13 tp n a fr op [vR (nC ac 50)])) (ht : tdI ac g c h) (hs : s.1 ≠ 0) (hs9 : 80 ≤ s.1) (hxs : x ≠ s) (hm : m < 16) (hl : ∀ j, j < m → t' j < 128) (hS : sS h s v m t') : Ct E d 0 0 mX13_isFull [vR x, vR s] h (fuQ h s v m t' (clFull g c (if eqN t' m 6 [115, 105, 115, 116, 101, 114] = true then 0 else if eqN t' m 5 [114, 101, 108, 105, 99] = true then 1 else if eqN t' m 7 [112, 105, 108, 103, 114, 105, 109] = true then 2 else 3))) := by
  refine ct_of (by decide) (Nat.le_of_ble_eq_true rfl) rfl ?_
  have b8 := hg.1
  have b10 := hg.2.1
  have bP := hg.2.2.1
  refine g_ok (fun K => ?_)
  refine g_aload_n (pc := 0) dX13_isFull_0 rfl ?_
  refine g_getfield (pc := 1) f_X13_14_13 dX13_isFull_1 fx rfl ?_
  refine g_getfield (pc := 4) f_X13_43_2 dX13_isFull_4 ht.1 rfl ?_
  refine g_bipush (pc := 7) (v := 60) dX13_isFull_7 (by decide) ?_
  refine g_icmp_ne (pc := 9) 14 dX13_isFull_9 (by decide) (fun c_9 => ?_) (fun c_9 => ?_)
  · refine g_aload_n (pc := 14) dX13_isFull_14 rfl ?_
    refine g_astore_n (pc := 15) (ls' := [_, _, _, _]) dX13_isFull_15 (by decide) rfl rfl ?_
    refine g_iconst (pc := 16) (v := -1) dX13_isFull_16 (by decide) ?_
    refine g_istore_n (pc := 17) (ls' := [_, _, _, _]) dX13_isFull_17 (by decide) rfl rfl ?_
    refine g_aload_n (pc := 18) dX13_isFull_18 rfl ?_
    refine g_callV (pc := 19) (M' := mJ9_hashCode) (as := []) (ci := 37) rfl i_X13_46_37 eJ9_hashCode dX13_isFull_19 hS.2.choose_spec.choose_spec.1 (k_hash (by omega) hs hm hl hS) (by omega) rfl rfl (Nat.le_of_ble_eq_true rfl) (by omega) (by omega) (fun C9 x9 h9 q9 => ?_) (fun r9 h9 q9 => ?_)
    · cases q9.1
    obtain ⟨e9, hS9, o9⟩ := q9
    cases e9
    have hc60 : ¬ c = 60 := fun w => c_9 (by rw [w]; rfl)
    replace fx := (o9 _ hxs).trans fx
    replace ht := ht.ex hg (fun y o h1 h2 q => (o9 y (fun e => by rw [e] at h2; exact absurd hs9 (by omega))).trans q)
    obtain ⟨⟨m1, e1, hz1⟩, ⟨m2, e2, hz2⟩⟩ := ht.sz
    refine sw_X13_isFull_22 K (by omega) hs hm hS9 (fun g0 => ?_) (fun g2 => ?_) (fun g1 => ?_) (fun n0 n1 n2 => ?_)
    · have hk : (if eqN t' m 6 [115, 105, 115, 116, 101, 114] = true then 0 else if eqN t' m 5 [114, 101, 108, 105, 99] = true then 1 else if eqN t' m 7 [112, 105, 108, 103, 114, 105, 109] = true then 2 else 3) = 0 := by rw [if_pos g0]
      refine g_iload_n (pc := 95) dX13_isFull_95 rfl ?_
      refine g_tableIn (pc := 96) (off := 28) 124 dX13_isFull_96 (by decide) (by decide) (by decide) (by decide) ?_
      refine g_aload_n (pc := 124) dX13_isFull_124 rfl ?_
      refine g_getfield (pc := 125) f_X13_14_13 dX13_isFull_125 fx rfl ?_
      refine g_getfield (pc := 128) f_X13_61_2 dX13_isFull_128 ht.1 rfl ?_
      refine g_bipush (pc := 131) (v := 8) dX13_isFull_131 (by decide) ?_
      refine g_icmp_ne (pc := 133) 140 dX13_isFull_133 (by decide) (fun c_133 => ?_) (fun c_133 => ?_)
      · refine g_iconst (pc := 140) (v := 0) dX13_isFull_140 (by decide) ?_
        refine g_ireturn (pc := 141) dX13_isFull_141 rfl (by first | exact rfl | exact j_nb _) ?_
        refine ⟨?_, hS9, o9⟩
        rw [hk]
        unfold clFull
        rw [decide_eq_false hc60, decide_eq_false (fun w => (fun w => c_133 (by rw [w]; rfl)) w.2), decide_eq_false (fun w => absurd w.1 (by decide)), decide_eq_false (fun w => absurd w.1 (by decide))]
        rfl
      · refine g_iconst (pc := 136) (v := 1) dX13_isFull_136 (by decide) ?_
        refine g_goto (pc := 137) 141 dX13_isFull_137 (by decide) ?_
        refine g_ireturn (pc := 141) dX13_isFull_141 rfl (by first | exact rfl | exact j_nb _) ?_
        refine ⟨?_, hS9, o9⟩
        rw [hk]
        unfold clFull
        rw [decide_eq_false hc60, decide_eq_true (⟨rfl, (nI_eq (a := gS g) (b := 8) (by omega) (by decide)).mp c_133⟩ : 0 = 0 ∧ _ = _), decide_eq_false (fun w => absurd w.1 (by decide)), decide_eq_false (fun w => absurd w.1 (by decide))]
        rfl
    · have hk : (if eqN t' m 6 [115, 105, 115, 116, 101, 114] = true then 0 else if eqN t' m 5 [114, 101, 108, 105, 99] = true then 1 else if eqN t' m 7 [112, 105, 108, 103, 114, 105, 109] = true then 2 else 3) = 2 := by rw [if_neg (fun q => absurd ((hs_eq (c := -902104540) (by decide +kernel) q).symm.trans (hs_eq (c := -569820318) (by decide +kernel) g2)) (by decide)), if_neg (fun q => absurd ((hs_eq (c := 108397427) (by decide +kernel) q).symm.trans (hs_eq (c := -569820318) (by decide +kernel) g2)) (by decide)), if_pos g2]
      refine g_iload_n (pc := 95) dX13_isFull_95 rfl ?_
      refine g_tableIn (pc := 96) (off := 67) 163 dX13_isFull_96 (by decide) (by decide) (by decide) (by decide) ?_
      refine g_aload_n (pc := 163) dX13_isFull_163 rfl ?_
      refine g_getfield (pc := 164) f_X13_14_13 dX13_isFull_164 fx rfl ?_
      refine g_getfield (pc := 167) f_X13_72_2 dX13_isFull_167 ht.1 rfl ?_
      refine g_cV (pc := 170) (M' := mJ2_size) (as := []) (ci := 33) rfl i_X13_68_33 eJ2_size dX13_isFull_170 hz2 (k_sz hz2) (by omega) rfl rfl (Nat.le_of_ble_eq_true rfl) ?_
      refine g_bipush (pc := 173) (v := 8) dX13_isFull_173 (by decide) ?_
      refine g_icmp_ne (pc := 175) 182 dX13_isFull_175 (by decide) (fun c_175 => ?_) (fun c_175 => ?_)
      · refine g_iconst (pc := 182) (v := 0) dX13_isFull_182 (by decide) ?_
        refine g_ireturn (pc := 183) dX13_isFull_183 rfl (by first | exact rfl | exact j_nb _) ?_
        refine ⟨?_, hS9, o9⟩
        rw [hk]
        unfold clFull
        rw [decide_eq_false hc60, decide_eq_false (fun w => absurd w.1 (by decide)), decide_eq_false (fun w => absurd w.1 (by decide)), decide_eq_false (fun w => (fun w => c_175 (by rw [w]; rfl)) w.2)]
        rfl
      · refine g_iconst (pc := 178) (v := 1) dX13_isFull_178 (by decide) ?_
        refine g_goto (pc := 179) 183 dX13_isFull_179 (by decide) ?_
        refine g_ireturn (pc := 183) dX13_isFull_183 rfl (by first | exact rfl | exact j_nb _) ?_
        refine ⟨?_, hS9, o9⟩
        rw [hk]
        unfold clFull
        rw [decide_eq_false hc60, decide_eq_false (fun w => absurd w.1 (by decide)), decide_eq_false (fun w => absurd w.1 (by decide)), decide_eq_true (⟨rfl, (nI_eq (a := gP g) (b := 8) (by omega) (by decide)).mp c_175⟩ : 2 = 2 ∧ _ = _)]
        rfl
    · have hk : (if eqN t' m 6 [115, 105, 115, 116, 101, 114] = true then 0 else if eqN t' m 5 [114, 101, 108, 105, 99] = true then 1 else if eqN t' m 7 [112, 105, 108, 103, 114, 105, 109] = true then 2 else 3) = 1 := by rw [if_neg (fun q => absurd ((hs_eq (c := -902104540) (by decide +kernel) q).symm.trans (hs_eq (c := 108397427) (by decide +kernel) g1)) (by decide)), if_pos g1]
      refine g_iload_n (pc := 95) dX13_isFull_95 rfl ?_
      refine g_tableIn (pc := 96) (off := 46) 142 dX13_isFull_96 (by decide) (by decide) (by decide) (by decide) ?_
      refine g_aload_n (pc := 142) dX13_isFull_142 rfl ?_
      refine g_getfield (pc := 143) f_X13_14_13 dX13_isFull_143 fx rfl ?_
      refine g_getfield (pc := 146) f_X13_64_2 dX13_isFull_146 ht.1 rfl ?_
      refine g_cV (pc := 149) (M' := mJ2_size) (as := []) (ci := 33) rfl i_X13_68_33 eJ2_size dX13_isFull_149 hz1 (k_sz hz1) (by omega) rfl rfl (Nat.le_of_ble_eq_true rfl) ?_
      refine g_bipush (pc := 152) (v := 10) dX13_isFull_152 (by decide) ?_
      refine g_icmp_ne (pc := 154) 161 dX13_isFull_154 (by decide) (fun c_154 => ?_) (fun c_154 => ?_)
      · refine g_iconst (pc := 161) (v := 0) dX13_isFull_161 (by decide) ?_
        refine g_ireturn (pc := 162) dX13_isFull_162 rfl (by first | exact rfl | exact j_nb _) ?_
        refine ⟨?_, hS9, o9⟩
        rw [hk]
        unfold clFull
        rw [decide_eq_false hc60, decide_eq_false (fun w => absurd w.1 (by decide)), decide_eq_false (fun w => (fun w => c_154 (by rw [w]; rfl)) w.2), decide_eq_false (fun w => absurd w.1 (by decide))]
        rfl
      · refine g_iconst (pc := 157) (v := 1) dX13_isFull_157 (by decide) ?_
        refine g_goto (pc := 158) 162 dX13_isFull_158 (by decide) ?_
        refine g_ireturn (pc := 162) dX13_isFull_162 rfl (by first | exact rfl | exact j_nb _) ?_
        refine ⟨?_, hS9, o9⟩
        rw [hk]
        unfold clFull
        rw [decide_eq_false hc60, decide_eq_false (fun w => absurd w.1 (by decide)), decide_eq_true (⟨rfl, (nI_eq (a := gR g) (b := 10) (by omega) (by decide)).mp c_154⟩ : 1 = 1 ∧ _ = _), decide_eq_false (fun w => absurd w.1 (by decide))]
        rfl
    · have hk : (if eqN t' m 6 [115, 105, 115, 116, 101, 114] = true then 0 else if eqN t' m 5 [114, 101, 108, 105, 99] = true then 1 else if eqN t' m 7 [112, 105, 108, 103, 114, 105, 109] = true then 2 else 3) = 3 := by rw [if_neg (by rw [n0]; decide), if_neg (by rw [n1]; decide), if_neg (by rw [n2]; decide)]
      refine g_iload_n (pc := 95) dX13_isFull_95 rfl ?_
      refine g_tableOut (pc := 96) 184 dX13_isFull_96 (by decide) (by decide) ?_
      refine g_iconst (pc := 184) (v := 0) dX13_isFull_184 (by decide) ?_
      refine g_ireturn (pc := 185) dX13_isFull_185 rfl (by first | exact rfl | exact j_nb _) ?_
      refine ⟨?_, hS9, o9⟩
      rw [hk]
      unfold clFull
      rw [decide_eq_false hc60, decide_eq_false (fun w => absurd w.1 (by decide)), decide_eq_false (fun w => absurd w.1 (by decide)), decide_eq_false (fun w => absurd w.1 (by decide))]
      rfl
  · refine g_iconst (pc := 12) (v := 1) dX13_isFull_12 (by decide) ?_
    refine g_ireturn (pc := 13) dX13_isFull_13 rfl (by first | exact rfl | exact j_nb _) ?_
    have e : c = 60 := (nI_eq (a := c) (b := 60) (by omega) (by decide)).mp c_9
    refine ⟨?_, hS, fun _ _ => rfl⟩
    unfold clFull
    rw [decide_eq_true e]
    rfl
end
