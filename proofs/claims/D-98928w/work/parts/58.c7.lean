/-! THE COMPONENT: a house becomes another. Printed by m_c7.py -/
set_option maxRecDepth 100000
def kcp (n : Nat) (f e : Nat → Int32) : Nat → Int32 := fun j => if j < n then f j else e j
section
variable {E : jE} {d bc bs : Nat} {M : jM} {pc : Nat} {ls : List (Option jV)} {st : List jV} {h : jH} {Q : jR → jH → Prop} {ac : Nat → Nat} {W : mV} {g : HD} {F : (Nat → Int32) → Int32} {i k : Nat}
theorem c_hcpy200 {ix : Nat} (hI : InvC ac W g F h) (hl : liv W i) (hk : liv W k) (hlk : Cond.methodLink M.1.cls ix arraycopyName ∈ lw_all) (hd : decode M.2.1 pc = .ok (.invokestatic ix, 3)) (hdp : 2 ≤ d) (hw : jW st ≤ 8) (kk : ∀ h', InvC ac (svR W (200 + i) (kcp 10 (W (200 + k)) (W (200 + i)))) g F h' → cFr h h' → G E d bc bs M (pc + 3) ls st h' Q) : G E d bc bs M pc ls (vI 10 :: vI 0 :: vR (nC ac (200 + i)) :: vI 0 :: vR (nC ac (200 + k)) :: st) h Q := by
  have hi := hl.lt
  refine g_arraycopy (t := 0) (a := 0) (b := 0) (len := 10) rfl hlk q303 q302 q116 hd (hI.2.2.2.1 k hk).2.1 (hI.2.2.2.1 i hl).2.1 (by show 200 + i ≠ 0; omega) rfl rfl rfl (by decide) (by decide) (by decide) (by decide) (fun j hj => ⟨rfl, trivial⟩) hdp hw ?_
  have e0 : va_cpy (fun j => vI (W (200 + k) j)) (fun j => vI (W (200 + i) j)) 0 0 10 = fun j => vI (kcp 10 (W (200 + k)) (W (200 + i)) j) := by
    funext j
    unfold kcp
    by_cases w : j < 10
    · rw [pk_cpy_in (Nat.zero_le _) (by omega), if_pos w, Nat.zero_add, Nat.sub_zero]
    · rw [pk_cpy_out (by omega), if_neg w]
  rw [e0]
  obtain ⟨q1, q2, q3, q4⟩ := hI.2.2.2.1 i hl
  refine kk _ (hI.hou hl (fun r w1 w2 w3 w4 => svR_ne (by omega)) (fun x hx => hs_ne (fun e => hx (Or.inr (Or.inl e)))) ⟨?_, ?_, ?_, ?_⟩) (cFr.set (by show 200 + i < 900; omega))
  · rw [hs_nr (by rw [nC_1, nC_1]; omega), svR_ne (by omega)]; exact q1
  · rw [hs_same, svR_row]
  · rw [hs_nr (by rw [nC_1, nC_1]; omega), svR_ne (by omega)]; exact q3
  · rw [hs_nr (by rw [nC_1, nC_1]; omega), svR_ne (by omega)]; exact q4

theorem c_hcpy300 {ix : Nat} (hI : InvC ac W g F h) (hl : liv W i) (hk : liv W k) (hlk : Cond.methodLink M.1.cls ix arraycopyName ∈ lw_all) (hd : decode M.2.1 pc = .ok (.invokestatic ix, 3)) (hdp : 2 ≤ d) (hw : jW st ≤ 8) (kk : ∀ h', InvC ac (svR W (300 + i) (kcp 8 (W (300 + k)) (W (300 + i)))) g F h' → cFr h h' → G E d bc bs M (pc + 3) ls st h' Q) : G E d bc bs M pc ls (vI 8 :: vI 0 :: vR (nC ac (300 + i)) :: vI 0 :: vR (nC ac (300 + k)) :: st) h Q := by
  have hi := hl.lt
  refine g_arraycopy (t := 0) (a := 0) (b := 0) (len := 8) rfl hlk q303 q302 q116 hd (hI.2.2.2.1 k hk).2.2.1 (hI.2.2.2.1 i hl).2.2.1 (by show 300 + i ≠ 0; omega) rfl rfl rfl (by decide) (by decide) (by decide) (by decide) (fun j hj => ⟨rfl, trivial⟩) hdp hw ?_
  have e0 : va_cpy (fun j => vI (W (300 + k) j)) (fun j => vI (W (300 + i) j)) 0 0 8 = fun j => vI (kcp 8 (W (300 + k)) (W (300 + i)) j) := by
    funext j
    unfold kcp
    by_cases w : j < 8
    · rw [pk_cpy_in (Nat.zero_le _) (by omega), if_pos w, Nat.zero_add, Nat.sub_zero]
    · rw [pk_cpy_out (by omega), if_neg w]
  rw [e0]
  obtain ⟨q1, q2, q3, q4⟩ := hI.2.2.2.1 i hl
  refine kk _ (hI.hou hl (fun r w1 w2 w3 w4 => svR_ne (by omega)) (fun x hx => hs_ne (fun e => hx (Or.inr (Or.inr (Or.inl e))))) ⟨?_, ?_, ?_, ?_⟩) (cFr.set (by show 300 + i < 900; omega))
  · rw [hs_nr (by rw [nC_1, nC_1]; omega), svR_ne (by omega)]; exact q1
  · rw [hs_nr (by rw [nC_1, nC_1]; omega), svR_ne (by omega)]; exact q2
  · rw [hs_same, svR_row]
  · rw [hs_nr (by rw [nC_1, nC_1]; omega), svR_ne (by omega)]; exact q4

theorem c_hcpy400 {ix : Nat} (hI : InvC ac W g F h) (hl : liv W i) (hk : liv W k) (hlk : Cond.methodLink M.1.cls ix arraycopyName ∈ lw_all) (hd : decode M.2.1 pc = .ok (.invokestatic ix, 3)) (hdp : 2 ≤ d) (hw : jW st ≤ 8) (kk : ∀ h', InvC ac (svR W (400 + i) (kcp 8 (W (400 + k)) (W (400 + i)))) g F h' → cFr h h' → G E d bc bs M (pc + 3) ls st h' Q) : G E d bc bs M pc ls (vI 8 :: vI 0 :: vR (nC ac (400 + i)) :: vI 0 :: vR (nC ac (400 + k)) :: st) h Q := by
  have hi := hl.lt
  refine g_arraycopy (t := 0) (a := 0) (b := 0) (len := 8) rfl hlk q303 q302 q116 hd (hI.2.2.2.1 k hk).2.2.2 (hI.2.2.2.1 i hl).2.2.2 (by show 400 + i ≠ 0; omega) rfl rfl rfl (by decide) (by decide) (by decide) (by decide) (fun j hj => ⟨rfl, trivial⟩) hdp hw ?_
  have e0 : va_cpy (fun j => vI (W (400 + k) j)) (fun j => vI (W (400 + i) j)) 0 0 8 = fun j => vI (kcp 8 (W (400 + k)) (W (400 + i)) j) := by
    funext j
    unfold kcp
    by_cases w : j < 8
    · rw [pk_cpy_in (Nat.zero_le _) (by omega), if_pos w, Nat.zero_add, Nat.sub_zero]
    · rw [pk_cpy_out (by omega), if_neg w]
  rw [e0]
  obtain ⟨q1, q2, q3, q4⟩ := hI.2.2.2.1 i hl
  refine kk _ (hI.hou hl (fun r w1 w2 w3 w4 => svR_ne (by omega)) (fun x hx => hs_ne (fun e => hx (Or.inr (Or.inr (Or.inr e))))) ⟨?_, ?_, ?_, ?_⟩) (cFr.set (by show 400 + i < 900; omega))
  · rw [hs_nr (by rw [nC_1, nC_1]; omega), svR_ne (by omega)]; exact q1
  · rw [hs_nr (by rw [nC_1, nC_1]; omega), svR_ne (by omega)]; exact q2
  · rw [hs_nr (by rw [nC_1, nC_1]; omega), svR_ne (by omega)]; exact q3
  · rw [hs_same, svR_row]

end
theorem liv_svR {W : mV} {r i : Nat} {f : Nat → Int32} (h : r ≠ 7) (k : liv W i) : liv (svR W r f) i := by
  have e : svR W r f 7 = W 7 := svR_ne (fun q => h q.symm)
  unfold liv at k ⊢
  rw [e]
  exact k
section
variable {E : jE} {d : Nat} {h : jH} {ac : Nat → Nat} {W : mV} {g : HD} {F : (Nat → Int32) → Int32} {i k : Nat} {R : Nat → Int32}
theorem liv_svI {r : Nat} {f : Nat → Int32} (_hI : InvC ac (svR W r f) g F h) (hr : r ≠ 7) (q : liv W k) : liv (svR W r f) k := liv_svR hr q
theorem liv_sI {r j : Nat} {y : Int32} (_hI : InvC ac (sv W r j y) g F h) (hr : r ≠ 7) (q : liv W k) : liv (sv W r j y) k := (liv_sv hr).mpr q
set_option maxHeartbeats 1000000 in
theorem k_becomes (hd : 3 ≤ d) (hI : InvC ac W g F h) (hl : liv W i) (hk : liv W k) (hik : ¬ i = k) (hz : HZ g W k R) : Ct E d 0 0 mX10_becomes [vR (nC ac (100 + i)), vR (nC ac (100 + k))] h (hQ ac W g F h i R (some (vR (nC ac (100 + i))))) := by
  refine ct_of (by decide) (Nat.le_of_ble_eq_true rfl) rfl ?_
  have hF : cFr h h := cFr.rf
  have b8 := hI.2.2.2.2.1.2.2.2.2.2.2.2.1
  have b10 := hI.2.2.2.2.1.2.2.2.2.2.2.2.2.1
  have bP := hI.2.2.2.2.1.2.2.2.2.2.2.2.2.2.1
  have hi := hl.lt
  have hi2 := hk.lt
  refine g_aload_n (pc := 0) dX10_becomes_0 rfl ?_
  refine g_getfield (pc := 1) f_X10_15_10 dX10_becomes_1 (hI.2.2.2.1 k hk).1 rfl ?_
  refine g_iconst (pc := 4) (v := 0) dX10_becomes_4 (by decide) ?_
  refine g_aload_n (pc := 5) dX10_becomes_5 rfl ?_
  refine g_getfield (pc := 6) f_X10_15_10 dX10_becomes_6 (hI.2.2.2.1 i hl).1 rfl ?_
  refine g_iconst (pc := 9) (v := 0) dX10_becomes_9 (by decide) ?_
  refine g_bipush (pc := 10) (v := 10) dX10_becomes_10 (by decide) ?_
  refine c_hcpy200 (pc := 12) hI hl hk q756 dX10_becomes_12 (by omega) (Nat.le_of_ble_eq_true rfl) (fun h hI fr => ?_)
  replace hF := cFr.tr hF fr
  replace hl := liv_svI hI (by omega) hl
  replace hk := liv_svI hI (by omega) hk
  refine g_aload_n (pc := 15) dX10_becomes_15 rfl ?_
  refine g_getfield (pc := 16) f_X10_19_10 dX10_becomes_16 (hI.2.2.2.1 k hk).1 rfl ?_
  refine g_iconst (pc := 19) (v := 0) dX10_becomes_19 (by decide) ?_
  refine g_aload_n (pc := 20) dX10_becomes_20 rfl ?_
  refine g_getfield (pc := 21) f_X10_19_10 dX10_becomes_21 (hI.2.2.2.1 i hl).1 rfl ?_
  refine g_iconst (pc := 24) (v := 0) dX10_becomes_24 (by decide) ?_
  refine g_bipush (pc := 25) (v := 8) dX10_becomes_25 (by decide) ?_
  refine c_hcpy300 (pc := 27) hI hl hk q756 dX10_becomes_27 (by omega) (Nat.le_of_ble_eq_true rfl) (fun h hI fr => ?_)
  replace hF := cFr.tr hF fr
  replace hl := liv_svI hI (by omega) hl
  replace hk := liv_svI hI (by omega) hk
  refine g_aload_n (pc := 30) dX10_becomes_30 rfl ?_
  refine g_getfield (pc := 31) f_X10_22_10 dX10_becomes_31 (hI.2.2.2.1 k hk).1 rfl ?_
  refine g_iconst (pc := 34) (v := 0) dX10_becomes_34 (by decide) ?_
  refine g_aload_n (pc := 35) dX10_becomes_35 rfl ?_
  refine g_getfield (pc := 36) f_X10_22_10 dX10_becomes_36 (hI.2.2.2.1 i hl).1 rfl ?_
  refine g_iconst (pc := 39) (v := 0) dX10_becomes_39 (by decide) ?_
  refine g_bipush (pc := 40) (v := 8) dX10_becomes_40 (by decide) ?_
  refine c_hcpy400 (pc := 42) hI hl hk q756 dX10_becomes_42 (by omega) (Nat.le_of_ble_eq_true rfl) (fun h hI fr => ?_)
  replace hF := cFr.tr hF fr
  replace hl := liv_svI hI (by omega) hl
  replace hk := liv_svI hI (by omega) hk
  refine g_aload_n (pc := 45) dX10_becomes_45 rfl ?_
  refine g_aload_n (pc := 46) dX10_becomes_46 rfl ?_
  refine g_getfield (pc := 47) f_X10_35_10 dX10_becomes_47 (hI.2.2.2.1 k hk).1 rfl ?_
  refine c_hput (pc := 50) (i := i) hI hl w_X10_35_10 (by decide) dX10_becomes_50 (fun h hI fr => ?_)
  replace hF := cFr.tr hF fr
  replace hl := liv_sI hI (by omega) hl
  replace hk := liv_sI hI (by omega) hk
  refine g_aload_n (pc := 53) dX10_becomes_53 rfl ?_
  refine g_aload_n (pc := 54) dX10_becomes_54 rfl ?_
  refine g_getfield (pc := 55) f_X10_38_10 dX10_becomes_55 (hI.2.2.2.1 k hk).1 rfl ?_
  refine c_hput (pc := 58) (i := i) hI hl w_X10_38_10 (by decide) dX10_becomes_58 (fun h hI fr => ?_)
  replace hF := cFr.tr hF fr
  replace hl := liv_sI hI (by omega) hl
  replace hk := liv_sI hI (by omega) hk
  refine g_aload_n (pc := 61) dX10_becomes_61 rfl ?_
  refine g_aload_n (pc := 62) dX10_becomes_62 rfl ?_
  refine g_getfield (pc := 63) f_X10_41_10 dX10_becomes_63 (hI.2.2.2.1 k hk).1 rfl ?_
  refine c_hput (pc := 66) (i := i) hI hl w_X10_41_10 (by decide) dX10_becomes_66 (fun h hI fr => ?_)
  replace hF := cFr.tr hF fr
  
  refine g_aload_n (pc := 69) dX10_becomes_69 rfl ?_
  refine g_areturn (pc := 70) dX10_becomes_70 rfl (by first | exact Or.inl ⟨_, rfl⟩ | exact Or.inr ⟨_, rfl⟩) ?_
  have en : ∀ (A B C : Nat → Int32) (x y z : Int32) r, ¬ r = 100 + i → ¬ r = 200 + i → ¬ r = 300 + i → ¬ r = 400 + i → sv (sv (sv (svR (svR (svR W (200 + i) A) (300 + i) B) (400 + i) C) (100 + i) 3 x) (100 + i) 4 y) (100 + i) 5 z r = W r := fun A B C x y z r a b c e => by rw [sv_ne a, sv_ne a, sv_ne a, svR_ne e, svR_ne c, svR_ne b]
  refine ⟨rfl, _, hI, hF, ⟨fun r hr => ?_, fun q hq => ?_, fun p hp => ?_, ?_, ?_, ?_⟩, fun r a b c e => en _ _ _ _ _ _ r a b c e, fun q hq => ?_⟩
  · rw [sv_ne (by omega), sv_ne (by omega), sv_ne (by omega), svR_ne (by omega), svR_ne (by omega), svR_row]
    unfold kcp
    rw [if_pos hr]
    exact hz.1 r hr
  · rw [sv_ne (by omega), sv_ne (by omega), sv_ne (by omega), svR_ne (by omega), svR_row]
    unfold kcp
    rw [if_pos hq, svR_ne (by omega)]
    exact hz.2.1 q hq
  · rw [sv_ne (by omega), sv_ne (by omega), sv_ne (by omega), svR_row]
    unfold kcp
    rw [if_pos hp, svR_ne (by omega), svR_ne (by omega)]
    exact hz.2.2.1 p hp
  · rw [sv_nj (by decide), sv_nj (by decide), sv_same, svR_ne (by omega), svR_ne (by omega), svR_ne (by omega)]
    exact hz.2.2.2.1
  · rw [sv_nj (by decide), sv_same, sv_ne (by omega), svR_ne (by omega), svR_ne (by omega), svR_ne (by omega)]
    exact hz.2.2.2.2.1
  · rw [sv_same, sv_ne (by omega), sv_ne (by omega), svR_ne (by omega), svR_ne (by omega), svR_ne (by omega)]
    exact hz.2.2.2.2.2
  · rw [sv_nj (by omega), sv_nj (by omega), sv_nj (by omega), svR_ne (by omega), svR_ne (by omega), svR_ne (by omega)]
end
