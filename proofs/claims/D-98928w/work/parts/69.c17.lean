/-! THE COMPONENT: the tape, undo. Printed by m_c17.py -/
set_option maxRecDepth 100000
def pbF (v : Int32) (i : Nat) : Int32 := (v >>> ((24 - 8 * nI i) &&& 31)).toInt8.toInt32
/-- k bytes more upon the tape, from T on -/
def tpE (W W' : mV) (T k : Nat) (f : Nat → Int32) : Prop := (∀ r, ¬ r = 0 → ¬ r = 18 → W' r = W r) ∧ (∀ j, ¬ j = 15 → W' 0 j = W 0 j) ∧ W' 0 15 = nI (T + k) ∧ ∀ q, W' 18 q = if T ≤ q ∧ q < T + k then f (q - T) else W 18 q
theorem tpE.rf {W : mV} {T : Nat} {f : Nat → Int32} (h : W 0 15 = nI T) : tpE W W T 0 f := ⟨fun _ _ _ => rfl, fun _ _ => rfl, h, fun q => by rw [if_neg (by omega)]⟩
theorem tpE.s {W W' : mV} {T k : Nat} {f : Nat → Int32} {y : Int32} (h : tpE W W' T k f) (hy : y = f k) : tpE W (sv (sv W' 18 (T + k) y) 0 15 (nI (T + k + 1))) T (k + 1) f := by
  obtain ⟨h1, h2, h3, h4⟩ := h
  refine ⟨fun r a b => by rw [sv_ne a, sv_ne b]; exact h1 r a b, fun j a => by rw [sv_nj a, sv_ne (by decide)]; exact h2 j a, by rw [sv_same]; rfl, fun q => ?_⟩
  rw [sv_ne (by decide)]
  by_cases e : q = T + k
  · subst e
    rw [sv_same, if_pos ⟨by omega, by omega⟩, hy]
    congr 1
    omega
  · rw [sv_nj e, h4]
    by_cases w : T ≤ q ∧ q < T + k
    · rw [if_pos w, if_pos ⟨w.1, by omega⟩]
    · rw [if_neg w, if_neg (fun z => w ⟨z.1, by omega⟩)]
theorem tpE.tr {A B C : mV} {T k : Nat} {f g : Nat → Int32} (h : tpE A B T k f) (n : tpE B C (T + k) 4 g) : tpE A C T (k + 4) (fun q => if q < k then f q else g (q - k)) := by
  obtain ⟨h1, h2, h3, h4⟩ := h
  obtain ⟨n1, n2, n3, n4⟩ := n
  refine ⟨fun r a b => (n1 r a b).trans (h1 r a b), fun j a => (n2 j a).trans (h2 j a), by rw [n3]; congr 1, fun q => ?_⟩
  rw [n4, h4]
  by_cases a : T ≤ q ∧ q < T + k
  · rw [if_neg (by omega), if_pos a, if_pos ⟨a.1, by omega⟩]
    show f (q - T) = if q - T < k then f (q - T) else g (q - T - k)
    rw [if_pos (by omega)]
  · by_cases b : T + k ≤ q ∧ q < T + k + 4
    · rw [if_pos b, if_pos ⟨by omega, by omega⟩]
      show g (q - (T + k)) = if q - T < k then f (q - T) else g (q - T - k)
      rw [if_neg (by omega)]
      congr 1
      omega
    · rw [if_neg b, if_neg a, if_neg (by omega)]
theorem toi8 (x : Int32) : x.toInt8.toInt32.toInt8 = x.toInt8 := Int8.toInt8_toInt32 _
def fdF (a b c e f : Int32) (k : Nat) : Int32 := pbF (feeW a b c e f k) (k % 4)
section
variable {E : jE} {d : Nat} {h : jH} {ac : Nat → Nat} {W : mV} {g : HD} {F : (Nat → Int32) → Int32}
set_option maxHeartbeats 2000000 in
theorem l_kput {bc bs T k : Nat} {Q : jR → jH → Prop} {h0 : jH} {v : Int32} {W' : mV} (hk : k < 4) (hT : T + 4 ≤ 600) (hI : InvC ac W' g F h) (hF : cFr h0 h) (he : tpE W W' T k (pbF v)) (kk : ∀ (h : jH) (W' : mV), InvC ac W' g F h → cFr h0 h → tpE W W' T (k + 1) (pbF v) → G E d bc bs mX1_put 3 [some (vR (nC ac 1)), some (vI v), some (vI (24 - 8 * nI (k + 1)))] [] h Q) : G E d bc bs mX1_put 3 [some (vR (nC ac 1)), some (vI v), some (vI (24 - 8 * nI k))] [] h Q := by
  have hz : ¬ (24 : Int32) - 8 * nI k < 0 := by
    have : k = 0 ∨ k = 1 ∨ k = 2 ∨ k = 3 := by omega
    rcases this with rfl | rfl | rfl | rfl <;> decide
  have hz2 : (24 : Int32) - 8 * nI k + Int32.ofInt (-8) = 24 - 8 * nI (k + 1) := by
    have : k = 0 ∨ k = 1 ∨ k = 2 ∨ k = 3 := by omega
    rcases this with rfl | rfl | rfl | rfl <;> decide
  refine g_iload_n (pc := 3) dX1_put_3 rfl ?_
  refine g_if_lt (pc := 4) 36 dX1_put_4 (by decide) (fun c_4 => absurd c_4 hz) (fun c_4 => ?_)
  refine g_aload_n (pc := 7) dX1_put_7 rfl ?_
  refine g_getfield (pc := 8) f_X1_82_1 dX1_put_8 hI.1 rfl ?_
  refine g_aload_n (pc := 11) dX1_put_11 rfl ?_
  refine g_getfield (pc := 12) f_X1_169_1 dX1_put_12 hI.1 rfl ?_
  refine g_iload_n (pc := 15) dX1_put_15 rfl ?_
  refine g_iload_n (pc := 16) dX1_put_16 rfl ?_
  refine g_ishr (pc := 17) dX1_put_17 ?_
  refine g_i2b (pc := 18) dX1_put_18 ?_
  refine g_bastore (pc := 19) dX1_put_19 hI.2.1.2.2.2.1 (by show 28 ≠ 0; decide) (j := T + k) he.2.2.1 (by omega) (by decide) ?_
  have fr : cFr h (hs h (nC ac 28) (bA 600 (j_up (W' 18) (T + k) (v >>> ((24 - 8 * nI k) &&& 31)).toInt8.toInt32.toInt8.toInt32))) := cFr.set (Nat.le_of_ble_eq_true rfl)
  replace hI := hI.tap (j := T + k) (y := (v >>> ((24 - 8 * nI k) &&& 31)).toInt8.toInt32.toInt8.toInt32)
  generalize hs h (nC ac 28) (bA 600 (j_up (W' 18) (T + k) (v >>> ((24 - 8 * nI k) &&& 31)).toInt8.toInt32.toInt8.toInt32)) = h at hI fr ⊢
  replace hF := cFr.tr hF fr
  refine g_aload_n (pc := 20) dX1_put_20 rfl ?_
  refine g_dup (pc := 21) dX1_put_21 rfl ?_
  refine g_getfield (pc := 22) f_X1_169_1 dX1_put_22 hI.1 rfl ?_
  rw [sv_ne (by decide), he.2.2.1]
  refine g_iconst (pc := 25) (v := 1) dX1_put_25 (by decide) ?_
  refine g_iadd (pc := 26) dX1_put_26 ?_
  rw [nI_1]
  refine c_put (pc := 27) hI w_X1_169_1 rfl (by decide) dX1_put_27 (fun h hI fr => ?_)
  replace hF := cFr.tr hF fr
  refine g_iinc (pc := 30) (ls' := [_, _, _]) dX1_put_30 rfl rfl (by decide) rfl rfl ?_
  refine g_goto (pc := 33) 3 dX1_put_33 (by decide) ?_
  rw [hz2]
  exact kk h _ hI hF (he.s (by rw [toi8]; rfl))
set_option maxHeartbeats 2000000 in
theorem k_put {T : Nat} (hI : InvC ac W g F h) (hT : W 0 15 = nI T) (hT4 : T + 4 ≤ 600) (v : Int32) : Ct E d 0 0 mX1_put [vR (nC ac 1), vI v] h (fun r h' => r = .inl none ∧ ∃ W', InvC ac W' g F h' ∧ cFr h h' ∧ tpE W W' T 4 (pbF v)) := by
  refine ct_of (by decide) (Nat.le_of_ble_eq_true rfl) rfl ?_
  have hF : cFr h h := cFr.rf
  refine g_bipush (pc := 0) (v := 24) dX1_put_0 (by decide) ?_
  refine g_istore_n (pc := 2) (ls' := [_, _, _]) dX1_put_2 (by decide) rfl rfl ?_
  change G E d 0 0 mX1_put 3 [some (vR (nC ac 1)), some (vI v), some (vI (24 - 8 * nI 0))] [] h _
  refine l_kput (by decide) hT4 hI hF (tpE.rf hT) (fun h W' hI hF he => ?_)
  refine l_kput (by decide) hT4 hI hF he (fun h W' hI hF he => ?_)
  refine l_kput (by decide) hT4 hI hF he (fun h W' hI hF he => ?_)
  refine l_kput (by decide) hT4 hI hF he (fun h W' hI hF he => ?_)
  refine g_iload_n (pc := 3) dX1_put_3 rfl ?_
  refine g_if_lt (pc := 4) 36 dX1_put_4 (by decide) (fun c_4 => ?_) (fun c_4 => absurd (by decide) c_4)
  refine g_return (pc := 36) dX1_put_36 rfl ?_
  exact ⟨rfl, W', hI, hF, he⟩
theorem k_feed0 {T : Nat} (hI : InvC ac W g F h) (hT : W 0 15 = nI T) (h6 : T ≤ 600) (h5 : 600 < T + 20) (a b c e f : Int32) : Ct E d 0 0 mX1_feed [vR (nC ac 1), vI a, vI b, vI c, vI e, vI f] h (cQ ac W g F h (some (vI (-1)))) := by
  refine ct_of (by decide) (Nat.le_of_ble_eq_true rfl) rfl ?_
  have hF : cFr h h := cFr.rf
  refine g_aload_n (pc := 0) dX1_feed_0 rfl ?_
  refine g_getfield (pc := 1) f_X1_169_1 dX1_feed_1 hI.1 rfl ?_
  rw [hT]
  refine g_bipush (pc := 4) (v := 20) dX1_feed_4 (by decide) ?_
  refine g_iadd (pc := 6) dX1_feed_6 ?_
  refine g_sipush (pc := 7) (v := 600) dX1_feed_7 (by decide) ?_
  rw [show nI T + 20 = nI (T + 20) from nI_add T 20]
  refine g_icmp_le (pc := 10) 15 dX1_feed_10 (by decide) (fun c_10 => absurd c_10 (by intro w; have := (nI_leI (a := T + 20) (b := 600) (by omega) (by decide)).mp w; omega)) (fun c_10 => ?_)
  refine g_iconst (pc := 13) (v := -1) dX1_feed_13 (by decide) ?_
  refine g_ireturn (pc := 14) dX1_feed_14 rfl (by first | exact rfl | exact j_nb _) ?_
  exact ⟨rfl, hI, hF⟩
set_option maxHeartbeats 2000000 in
theorem k_feed1 {T : Nat} (hd : 2 ≤ d) (hI : InvC ac W g F h) (hT : W 0 15 = nI T) (h6 : T + 20 ≤ 600) (a b c e f : Int32) : Ct E d 0 0 mX1_feed [vR (nC ac 1), vI a, vI b, vI c, vI e, vI f] h (fun r h' => r = .inl (some (vI (nI (T + 20)))) ∧ ∃ W', InvC ac W' g F h' ∧ cFr h h' ∧ tpE W W' T 20 (fdF a b c e f)) := by
  refine ct_of (by decide) (Nat.le_of_ble_eq_true rfl) rfl ?_
  have hF : cFr h h := cFr.rf
  refine g_aload_n (pc := 0) dX1_feed_0 rfl ?_
  refine g_getfield (pc := 1) f_X1_169_1 dX1_feed_1 hI.1 rfl ?_
  rw [hT]
  refine g_bipush (pc := 4) (v := 20) dX1_feed_4 (by decide) ?_
  refine g_iadd (pc := 6) dX1_feed_6 ?_
  refine g_sipush (pc := 7) (v := 600) dX1_feed_7 (by decide) ?_
  rw [show nI T + 20 = nI (T + 20) from nI_add T 20]
  refine g_icmp_le (pc := 10) 15 dX1_feed_10 (by decide) (fun c_10 => ?_) (fun c_10 => absurd (nI_le (a := T + 20) (b := 600) h6 (by decide)) c_10)
  refine g_aload_n (pc := 15) dX1_feed_15 rfl ?_
  refine g_iload_n (pc := 16) dX1_feed_16 rfl ?_
  refine g_callV (pc := 17) (M' := mX1_put) (as := [_]) (ci := 1) rfl i_X1_172_1 eX1_put dX1_feed_17 hI.1 (k_put hI (T := T + 0) hT (by omega) _) (by omega) rfl rfl (Nat.le_of_ble_eq_true rfl) (by omega) (by omega) (fun C9 x9 h9 q9 => ?_) (fun r9 h9 q9 => ?_)
  · cases q9.1
  obtain ⟨e9, W', hI, fr9, ht0⟩ := q9
  cases e9
  replace hF := cFr.tr hF fr9
  refine g_aload_n (pc := 20) dX1_feed_20 rfl ?_
  refine g_iload_n (pc := 21) dX1_feed_21 rfl ?_
  refine g_callV (pc := 22) (M' := mX1_put) (as := [_]) (ci := 1) rfl i_X1_172_1 eX1_put dX1_feed_22 hI.1 (k_put hI (T := T + 4) (by rw [ht0.2.2.1]) (by omega) _) (by omega) rfl rfl (Nat.le_of_ble_eq_true rfl) (by omega) (by omega) (fun C9 x9 h9 q9 => ?_) (fun r9 h9 q9 => ?_)
  · cases q9.1
  obtain ⟨e9, W', hI, fr9, ht1⟩ := q9
  cases e9
  replace hF := cFr.tr hF fr9
  refine g_aload_n (pc := 25) dX1_feed_25 rfl ?_
  refine g_iload_n (pc := 26) dX1_feed_26 rfl ?_
  refine g_callV (pc := 27) (M' := mX1_put) (as := [_]) (ci := 1) rfl i_X1_172_1 eX1_put dX1_feed_27 hI.1 (k_put hI (T := T + 8) (by rw [ht1.2.2.1]) (by omega) _) (by omega) rfl rfl (Nat.le_of_ble_eq_true rfl) (by omega) (by omega) (fun C9 x9 h9 q9 => ?_) (fun r9 h9 q9 => ?_)
  · cases q9.1
  obtain ⟨e9, W', hI, fr9, ht2⟩ := q9
  cases e9
  replace hF := cFr.tr hF fr9
  refine g_aload_n (pc := 30) dX1_feed_30 rfl ?_
  refine g_iload (pc := 31) dX1_feed_31 rfl ?_
  refine g_callV (pc := 33) (M' := mX1_put) (as := [_]) (ci := 1) rfl i_X1_172_1 eX1_put dX1_feed_33 hI.1 (k_put hI (T := T + 12) (by rw [ht2.2.2.1]) (by omega) _) (by omega) rfl rfl (Nat.le_of_ble_eq_true rfl) (by omega) (by omega) (fun C9 x9 h9 q9 => ?_) (fun r9 h9 q9 => ?_)
  · cases q9.1
  obtain ⟨e9, W', hI, fr9, ht3⟩ := q9
  cases e9
  replace hF := cFr.tr hF fr9
  refine g_aload_n (pc := 36) dX1_feed_36 rfl ?_
  refine g_iload (pc := 37) dX1_feed_37 rfl ?_
  refine g_callV (pc := 39) (M' := mX1_put) (as := [_]) (ci := 1) rfl i_X1_172_1 eX1_put dX1_feed_39 hI.1 (k_put hI (T := T + 16) (by rw [ht3.2.2.1]) (by omega) _) (by omega) rfl rfl (Nat.le_of_ble_eq_true rfl) (by omega) (by omega) (fun C9 x9 h9 q9 => ?_) (fun r9 h9 q9 => ?_)
  · cases q9.1
  obtain ⟨e9, W', hI, fr9, ht4⟩ := q9
  cases e9
  replace hF := cFr.tr hF fr9
  refine g_aload_n (pc := 42) dX1_feed_42 rfl ?_
  refine g_getfield (pc := 43) f_X1_169_1 dX1_feed_43 hI.1 rfl ?_
  refine g_ireturn (pc := 46) dX1_feed_46 rfl (by first | exact rfl | exact j_nb _) ?_
  have t5 := ((((ht0.tr ht1).tr ht2).tr ht3).tr ht4)
  refine ⟨rv t5.2.2.1, W', hI, hF, t5.1, t5.2.1, t5.2.2.1, fun q => ?_⟩
  rw [t5.2.2.2 q]
  by_cases w : T ≤ q ∧ q < T + 20
  · obtain ⟨i, hi, rfl⟩ : ∃ i, i < 20 ∧ q = T + i := ⟨q - T, by omega, by omega⟩
    rw [if_pos ⟨by omega, by omega⟩, if_pos w, show T + i - (T + 0) = i by omega, show T + i - T = i by omega]
    unfold fdF feeW
    have : i = 0 ∨ i = 1 ∨ i = 2 ∨ i = 3 ∨ i = 4 ∨ i = 5 ∨ i = 6 ∨ i = 7 ∨ i = 8 ∨ i = 9 ∨ i = 10 ∨ i = 11 ∨ i = 12 ∨ i = 13 ∨ i = 14 ∨ i = 15 ∨ i = 16 ∨ i = 17 ∨ i = 18 ∨ i = 19 := by omega
    rcases this with rfl | rfl | rfl | rfl | rfl | rfl | rfl | rfl | rfl | rfl | rfl | rfl | rfl | rfl | rfl | rfl | rfl | rfl | rfl | rfl <;> rfl
  · rw [if_neg (by omega), if_neg w]
theorem hs17_at {b n k : Nat} (hk : k < n) (h : W 7 (b + k) = 1) : vQ (hs17 ac W b n k) = vR (nC ac (100 + (b + k))) := by
  unfold hs17
  rw [if_pos ⟨hk, h⟩]
theorem k_undo0 (hI : InvC ac W g F h) (hn : W 0 11 = 0) : Ct E d 0 0 mX1_undo [vR (nC ac 1)] h (cQ ac W g F h (some (vI (-1)))) := by
  refine ct_of (by decide) (Nat.le_of_ble_eq_true rfl) rfl ?_
  have hF : cFr h h := cFr.rf
  refine g_aload_n (pc := 0) dX1_undo_0 rfl ?_
  refine g_getfield (pc := 1) f_X1_104_1 dX1_undo_1 hI.1 rfl ?_
  rw [hn]
  refine g_if_ne (pc := 4) 9 dX1_undo_4 (by decide) (fun c_4 => absurd rfl c_4) (fun c_4 => ?_)
  refine g_iconst (pc := 7) (v := -1) dX1_undo_7 (by decide) ?_
  refine g_ireturn (pc := 8) dX1_undo_8 rfl (by first | exact rfl | exact j_nb _) ?_
  exact ⟨rfl, hI, hF⟩
/-- undone: n works left -/
def unE (W W' : mV) (n : Nat) : Prop := (∀ r, ¬ r = 0 → ¬ r = 100 → ¬ r = 200 → ¬ r = 300 → ¬ r = 400 → W' r = W r) ∧ (∀ j, ¬ j = 11 → ¬ j = 12 → W' 0 j = W 0 j) ∧ W' 0 11 = nI n ∧ W' 0 12 = 0
theorem InvC.l7 {i : Nat} (hI : InvC ac W g F h) (h : i < 69) (h2 : W 7 i = 1) : liv W i := Or.inr ⟨h, h2⟩
theorem liv7 {W W' : mV} {i : Nat} (h : liv W i) (e : W' 7 = W 7) : liv W' i := by
  unfold liv at h ⊢
  rw [e]
  exact h
set_option maxHeartbeats 2000000 in
theorem k_undo1 {n : Nat} {R : Nat → Int32} (hd : 6 ≤ d) (hI : InvC ac W g F h) (hn : W 0 11 = nI (n + 1)) (h16 : n < 16) (hl : W 7 (2 + n) = 1) (hz : HZ g W (2 + n) R) : Ct E d 0 0 mX1_undo [vR (nC ac 1)] h (fun r h' => r = .inl (some (vI (nI n))) ∧ ∃ W', InvC ac W' g F h' ∧ cFr h h' ∧ unE W W' n ∧ HZ g W' 0 R) := by
  refine ct_of (by decide) (Nat.le_of_ble_eq_true rfl) rfl ?_
  have hF : cFr h h := cFr.rf
  have b8 := hI.2.2.2.2.1.2.2.2.2.2.2.2.1
  have b10 := hI.2.2.2.2.1.2.2.2.2.2.2.2.2.1
  have bP := hI.2.2.2.2.1.2.2.2.2.2.2.2.2.2.1
  refine g_aload_n (pc := 0) dX1_undo_0 rfl ?_
  refine g_getfield (pc := 1) f_X1_104_1 dX1_undo_1 hI.1 rfl ?_
  rw [hn]
  refine g_if_ne (pc := 4) 9 dX1_undo_4 (by decide) (fun c_4 => ?_) (fun c_4 => absurd c_4 (nI_ne0 (by omega) (by omega)))
  refine g_aload_n (pc := 9) dX1_undo_9 rfl ?_
  refine g_dup (pc := 10) dX1_undo_10 rfl ?_
  refine g_getfield (pc := 11) f_X1_104_1 dX1_undo_11 hI.1 rfl ?_
  rw [hn]
  refine g_iconst (pc := 14) (v := 1) dX1_undo_14 (by decide) ?_
  refine g_isub (pc := 15) dX1_undo_15 ?_
  rw [nI_pred]
  refine c_put (pc := 16) hI w_X1_104_1 rfl (by decide) dX1_undo_16 (fun h hI fr => ?_)
  replace hF := cFr.tr hF fr
  refine g_aload_n (pc := 19) dX1_undo_19 rfl ?_
  refine g_getfield (pc := 20) f_X1_58_1 dX1_undo_20 hI.1 rfl ?_
  refine g_aload_n (pc := 23) dX1_undo_23 rfl ?_
  refine g_getfield (pc := 24) f_X1_65_1 dX1_undo_24 hI.1 rfl ?_
  refine g_aload_n (pc := 27) dX1_undo_27 rfl ?_
  refine g_getfield (pc := 28) f_X1_104_1 dX1_undo_28 hI.1 rfl ?_
  rw [sv_same]
  refine g_aaload (pc := 31) (t := 4) rfl rfl dX1_undo_31 hI.2.1.2.2.2.2.1 (j := n) rfl (by omega) (by first | decide | omega) (hs17_at (W := sv W 0 11 (nI n)) (ac := ac) (b := 2) (n := 16) h16 (by rw [sv_ne (by decide)]; exact hl)) ?_
  refine g_callV (pc := 32) (M' := mX10_becomes) (as := [_]) (ci := 10) rfl i_X1_248_10 eX10_becomes dX1_undo_32 (hI.2.2.2.1 0 liv0).1 (k_becomes (i := 0) (k := 2 + n) (by omega) hI liv0 (Or.inr ⟨by omega, by rw [sv_ne (by decide)]; exact hl⟩) (by omega) hz.f0) (by omega) rfl rfl (Nat.le_of_ble_eq_true rfl) (by omega) (by omega) (fun C9 x9 h9 q9 => ?_) (fun r9 h9 q9 => ?_)
  · cases q9.1
  obtain ⟨e9, W9, hI, fr9, hz9, he9⟩ := q9
  cases e9
  replace hF := cFr.tr hF fr9
  refine g_pop (pc := 35) dX1_undo_35 rfl ?_
  refine g_aload_n (pc := 36) dX1_undo_36 rfl ?_
  refine g_iconst (pc := 37) (v := 0) dX1_undo_37 (by decide) ?_
  refine c_put (pc := 38) hI w_X1_107_1 rfl (by decide) dX1_undo_38 (fun h hI fr => ?_)
  replace hF := cFr.tr hF fr
  refine g_aload_n (pc := 41) dX1_undo_41 rfl ?_
  refine g_getfield (pc := 42) f_X1_104_1 dX1_undo_42 hI.1 rfl ?_
  refine g_ireturn (pc := 45) dX1_undo_45 rfl (by first | exact rfl | exact j_nb _) ?_
  have z0 : W9 0 = sv W 0 11 (nI n) 0 := he9.1 0 (by decide) (by decide) (by decide) (by decide)
  have zv : W9 0 11 = nI n := by rw [z0, sv_same]
  refine ⟨rv (by rw [sv_nj (by decide), zv]), _, hI, hF, ⟨fun r a b c e f => ?_, fun j a b => ?_, ?_, ?_⟩, hz9.f0⟩
  · rw [sv_ne a, he9.1 r b c e f, sv_ne a]
  · rw [sv_nj b, z0, sv_nj a]
  · rw [sv_nj (by decide), zv]
  · rw [sv_same]
end
