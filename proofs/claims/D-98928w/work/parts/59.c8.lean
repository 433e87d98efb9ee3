/-! THE COMPONENT: refusals. Printed by m_c8.py -/
set_option maxRecDepth 100000
theorem zZ {E : jE} (K : jOK E) : vx_Zq Bundle.tN "UNASSIGNED_STACK" Bundle.steD (eN E) (eS E) (eS E).heap ∧ vx_Zq Bundle.tN "SUPPRESSED_SENTINEL" Bundle.listD (eN E) (eS E) (eS E).heap :=
  ⟨vx_Zqof (K.2.1 _ q210) (K.2.1 _ (List.mem_filter.mp q105).1) (nw_of K [false, false, false, false, false, false, false, true, true, false] rfl) eN_old, vx_Zqof (K.2.1 _ q212) (K.2.1 _ (List.mem_filter.mp q105).1) (nw_of K [false, false, false, false, false, false, false, true, true, true] rfl) eN_old⟩
abbrev mk_B (cls : String) : List Cond := [Cond.castable cls cls, Cond.declares ⟨"java/lang/RuntimeException", "<init>", "()V"⟩, Cond.declares ⟨"java/lang/Exception", "<init>", "()V"⟩, Cond.declares ⟨"java/lang/Throwable", "<init>", "()V"⟩]
abbrev nmIA : String := "java/lang/IllegalArgumentException"
abbrev nmNS : String := "java/util/NoSuchElementException"
theorem ia_1 : ∀ w ∈ (vx_at0 "RelicHouse" 154 nmIA ["java/lang/RuntimeException", "java/lang/Exception"]).filter goodWord, w ∈ lw_all := by decide +kernel
theorem ia_2 : ∀ w ∈ (vx_at0 "RelicHouse" 154 nmIA ["java/lang/RuntimeException", "java/lang/Exception"]).filter (fun w => !goodWord w), w ∈ mk_B nmIA := by decide +kernel
theorem ia_3 : ∀ w ∈ Cond.classLink "RelicHouse" 152 nmIA :: Cond.initialized nmIA :: vx_at0 "RelicHouse" 154 nmIA ["java/lang/RuntimeException", "java/lang/Exception"], vx_ot w = true := by decide +kernel
theorem ns_1 : ∀ w ∈ (vx_at0 "RelicHouse" 157 nmNS ["java/lang/RuntimeException", "java/lang/Exception"]).filter goodWord, w ∈ lw_all := by decide +kernel
theorem ns_2 : ∀ w ∈ (vx_at0 "RelicHouse" 157 nmNS ["java/lang/RuntimeException", "java/lang/Exception"]).filter (fun w => !goodWord w), w ∈ mk_B nmNS := by decide +kernel
theorem ns_3 : ∀ w ∈ Cond.classLink "RelicHouse" 155 nmNS :: Cond.initialized nmNS :: vx_at0 "RelicHouse" 157 nmNS ["java/lang/RuntimeException", "java/lang/Exception"], vx_ot w = true := by decide +kernel
section
variable {E : jE} {d bc bs : Nat} {M : jM} {pc : Nat} {ls : List (Option jV)} {st : List jV} {h : jH} {Q : jR → jH → Prop}
/-- a new exception without a text -/
theorem g_make1 {cls : String} {names : List String} {ik ic ci : Nat} {T0 : u_T} (kd : Nat) (hcl : gCl[ci]? = some (cls, T0, 0)) (hcls : Bundle.fit cls = true) (hnames : ∀ n ∈ names, Bundle.fit n = true) (hk : Cond.classLink M.1.cls ik cls ∈ lw_all) (hini : Cond.initialized cls ∈ lw_all) (hcs : Cond.castable cls cls ∈ lw_tbl)
    (hat : ∀ w ∈ (vx_at0 M.1.cls ic cls names).filter goodWord, w ∈ lw_all) (hat2 : ∀ w ∈ (vx_at0 M.1.cls ic cls names).filter (fun w => !goodWord w), w ∈ mk_B cls) (hgood : ∀ w ∈ Cond.classLink M.1.cls ik cls :: Cond.initialized cls :: vx_at0 M.1.cls ic cls names, vx_ot w = true)
    (hZ : jOK E → vx_Zq Bundle.tN "UNASSIGNED_STACK" Bundle.steD (eN E) (eS E) (eS E).heap ∧ vx_Zq Bundle.tN "SUPPRESSED_SENTINEL" Bundle.listD (eN E) (eS E) (eS E).heap)
    (d0 : decode M.2.1 pc = .ok (.new ik, 3)) (d3 : decode M.2.1 (pc + 3) = .ok (.dup, 1)) (d4 : decode M.2.1 (pc + 4) = .ok (.invokespecial ic, 3)) (hdp : names.length + 4 ≤ d) (hnl : names.length ≤ 3) (hw : jW st ≤ 8) (h1 : 1 ≤ bc) (h2 : 6 ≤ bs)
    (k : ∀ a, (∀ k, h (k, a) = none) → G E d (bc - 1) (bs - 6) M (pc + 7) ls (vR (kd, a) :: st) (hs h (kd, a) (oO ci [])) Q) : G E d bc bs M pc ls st h Q := by
  intro p e s m args below meth c R H locs cells slots A F r z l lo hc hs
  have hR1 := F.2.2.2.2.2.2.2.2.2.2.2.1
  have hR2 := F.2.2.2.2.2.2.2.2.2.2.2.2.1
  have hts : ∀ w ∈ lw_all, w.before args s = true := fun w hw => j_w F.1 F.2.1 hw args
  have hZ' := hZ F.1
  have hjw := jW_eq st
  refine jx_make0 (A := eN E) F.2.2.1 F.2.2.2.1 (j_flags F.1.1) F.2.2.2.2.2.2.2.1 hcls hnames (hts _ hk) (hts _ hini) (vx_hat (fun w hw => hts _ (hat w hw)) hat2 (vx_c (va_Nw.use rfl (va_Nw.warmC F.2.1 (va_Nw.of rfl (F.1.2.1 _ hcs)))) (vx_c (va_Nw.use rfl (va_Nw.warmD F.2.1 (va_Nw.of rfl (F.1.2.1 _ q186)))) (vx_c (va_Nw.use rfl (va_Nw.warmD F.2.1 (va_Nw.of rfl (F.1.2.1 _ q188)))) (vx_c (va_Nw.use rfl (va_Nw.warmD F.2.1 (va_Nw.of rfl (F.1.2.1 _ q190)))) vx_n))))) hgood
    (vx_Zq.kept (vx_Zq.moved F.2.1.alike hZ'.1) (j_keep r)) (vx_Zq.kept (vx_Zq.moved F.2.1.alike hZ'.2) (j_keep r)) (l.1.trans F.2.2.2.2.2.2.1.symm) d0 d3 d4 (by omega) (by omega) (by omega) (by omega) (fun H1 ce e1 e2 e3 e4 e5 => ?_)
  refine k H.size (fun k => r.fresh k) p e s m args below meth c R H1 locs (cells + 1) (slots + 6) A F (r.new kd z ⟨_, hcl, ce, e1, ?_, e2, fun k hk => absurd hk (Nat.not_lt_zero k)⟩ e4) (by omega) l lo (by omega) (by omega)
  exact Option.some.inj (e3.symm.trans (j_kn F.1 F.2.1 hcl).2.1)
end

/-- refused: counted by j -/
def refC (W : mV) (j : Nat) : mV := sv W 4 j (W 4 j + 1)
def cX (ac : Nat → Nat) (W : mV) (g : HD) (F : (Nat → Int32) → Int32) (h : jH) (C : String) (j : Nat) : jR → jH → Prop := fun r h' => (∃ x, r = .inr (C, x)) ∧ InvC ac (refC W j) g F h' ∧ cFr h h'
theorem part_in (a : Int32) : decide (a = 0 ∨ a = 1) = inR a 0 1 := by
  have e0 : (0 : Int32).toInt = 0 := rfl
  have e1 : (1 : Int32).toInt = 1 := rfl
  unfold inR
  rw [Bool.eq_iff_iff]
  simp only [decide_eq_true_eq, Bool.and_eq_true, Bool.not_eq_true', decide_eq_false_iff_not, Int32.lt_iff_toInt_lt, ← Int32.toInt_inj, e0, e1]
  omega
theorem inr_c {s : Int32} {n : Nat} (hn : n ≤ 100) (hv : inR s 0 (nI n - 1) = false) : s < 0 ∨ nI n ≤ s := by
  have e0 : (0 : Int32).toInt = 0 := rfl
  have e1 : (nI n).toInt = n := nI_toInt (by omega)
  have e2 : (nI n - 1).toInt = (n : Int) - 1 := by
    cases n with
    | zero => rfl
    | succ n => rw [nI_pred, nI_toInt (by omega)]; omega
  unfold inR at hv
  rw [Bool.eq_false_iff] at hv
  simp only [ne_eq, Bool.and_eq_true, Bool.not_eq_true', decide_eq_false_iff_not, Int32.lt_iff_toInt_lt, e0, e2] at hv
  rw [Int32.lt_iff_toInt_lt, Int32.le_iff_toInt_le, e0, e1]
  omega
section
variable {E : jE} {d bc bs : Nat} {M M' : jM} {pc : Nat} {ls : List (Option jV)} {st st0 as : List jV} {h h0 : jH} {ac : Nat → Nat} {W : mV} {g : HD} {F : (Nat → Int32) → Int32} {n0 : Nat}
theorem g_cVv {Q : jR → jH → Prop} {b : jN} {ci i : Nat} {C0 : String} {T0 : u_T} {N0 : Nat} {fs : List jV} (hcl : gCl[ci]? = some (C0, T0, N0)) (iv : jIV M.1.cls i C0 M'.1 n0) (me : jMe M') (hd : decode M.2.1 pc = .ok (.invokevirtual i, 3)) (hb : h b = some (oO ci fs)) (hC : Ct E (d - 1) 0 0 M' (vR b :: as) h (qR none h)) (hdp : 1 ≤ d) (hn : as.length = n0) (hst : as.reverse ++ vR b :: st = st0) (hw : jW st ≤ 8) (kr : G E d bc bs M (pc + 3) ls st h Q) : G E d bc bs M pc ls st0 h Q :=
  g_callV hcl iv me hd hb hC hdp hn hst hw (Nat.zero_le _) (Nat.zero_le _) (fun C x h' q => by cases q.1) (fun r h' q => by
    obtain ⟨e1, e2⟩ := q
    cases e1
    subst e2
    exact kr)
/-- a call that is refused: it goes out -/
theorem c_tV {b : jN} {ci i j : Nat} {C C0 : String} {T0 : u_T} {N0 : Nat} {fs : List jV} (hcl : gCl[ci]? = some (C0, T0, N0)) (iv : jIV M.1.cls i C0 M'.1 n0) (me : jMe M') (hd : decode M.2.1 pc = .ok (.invokevirtual i, 3)) (hb : h b = some (oO ci fs)) (hC : Ct E (d - 1) 1 6 M' (vR b :: as) h (cX ac W g F h C j)) (hdp : 1 ≤ d) (hn : as.length = n0) (hst : as.reverse ++ vR b :: st = st0) (hw : jW st ≤ 8) (hh : ∀ z ∈ tableOf M.2.2.2.2, covers z pc = false) (hF : cFr h0 h) (h1 : 1 ≤ bc) (h2 : 6 ≤ bs) : G E d bc bs M pc ls st0 h (cX ac W g F h0 C j) :=
  g_callV hcl iv me hd hb hC hdp hn hst hw h1 h2 (fun C9 x9 h9 q9 => by
    obtain ⟨⟨y, e⟩, e2, e3⟩ := q9
    cases e
    exact gx_out hh ⟨⟨_, rfl⟩, e2, cFr.tr hF e3⟩) (fun r9 h9 q9 => by
    obtain ⟨⟨y, e⟩, -⟩ := q9
    cases e)
end
section
variable {E : jE} {d : Nat} {h : jH} {ac : Nat → Nat} {W : mV} {g : HD} {F : (Nat → Int32) → Int32}
theorem k_isPartI (a : Int32) : Ct E d 0 0 mX1_isPart [vI a] h (qR (some (vI (bI (inR a 0 1)))) h) := by
  rw [← part_in]
  exact k_isPart a
theorem k_needT : Ct E d 0 0 mX1_need [vR (nC ac 1), vI 1] h (qR none h) := by
  refine ct_of (by decide) (Nat.le_of_ble_eq_true rfl) rfl ?_
  refine g_iload_n (pc := 0) dX1_need_0 rfl ?_
  refine g_if_eq (pc := 1) 5 dX1_need_1 (by decide) (fun c_1 => absurd c_1 (by decide)) (fun c_1 => ?_)
  refine g_return (pc := 4) dX1_need_4 rfl ?_
  exact ⟨rfl, rfl⟩
theorem k_needF (hd : 6 ≤ d) (hI : InvC ac W g F h) : Ct E d 1 6 mX1_need [vR (nC ac 1), vI 0] h (cX ac W g F h nmIA 1) := by
  refine ct_of (by decide) (Nat.le_of_ble_eq_true rfl) rfl ?_
  have hF : cFr h h := cFr.rf
  refine g_iload_n (pc := 0) dX1_need_0 rfl ?_
  refine g_if_eq (pc := 1) 5 dX1_need_1 (by decide) (fun c_1 => ?_) (fun c_1 => absurd rfl c_1)
  refine g_aload_n (pc := 5) dX1_need_5 rfl ?_
  refine g_getfield (pc := 6) f_X1_50_1 dX1_need_6 hI.1 rfl ?_
  refine g_iconst (pc := 9) (v := 1) dX1_need_9 (by decide) ?_
  refine g_dup2 (pc := 10) dX1_need_10 rfl rfl ?_
  refine g_iaload (pc := 11) dX1_need_11 hI.2.1.2.1 (j := 1) (by decide) (by omega) (by first | decide | omega) rfl ?_
  refine g_iconst (pc := 12) (v := 1) dX1_need_12 (by decide) ?_
  refine g_iadd (pc := 13) dX1_need_13 ?_
  refine c_rast (pc := 14) (k := 4) (n := 2) hI rfl (by decide) dX1_need_14 (j := 1) (by decide) (by omega) (by decide) (fun h hI fr => ?_)
  replace hF := cFr.tr hF fr
  refine g_make1 (pc := 15) (cls := nmIA) (names := ["java/lang/RuntimeException", "java/lang/Exception"]) (ci := 38) 90 rfl (by decide) (by decide) q939 q108 q185 ia_1 ia_2 ia_3 zZ dX1_need_15 dX1_need_18 dX1_need_19 (show 2 + 4 ≤ d by omega) (by decide) (Nat.le_of_ble_eq_true rfl) (by omega) (by omega) (fun a9 hn9 => ?_)
  refine g_athrow (pc := 22) (ci := 38) rfl dX1_need_22 hs_same (gx_out (by decide) ⟨⟨_, rfl⟩, hI.new hn9, cFr.tr hF (cFr.set (show 90 < 900 by decide))⟩)
theorem k_thereT {r n : Nat} (hr : r < n) (hn : n ≤ 100) : Ct E d 0 0 mX1_needThere [vR (nC ac 1), vI (nI r), vI (nI n)] h (qR none h) := by
  refine ct_of (by decide) (Nat.le_of_ble_eq_true rfl) rfl ?_
  refine g_iload_n (pc := 0) dX1_needThere_0 rfl ?_
  refine g_if_lt (pc := 1) 10 dX1_needThere_1 (by decide) (fun c_1 => absurd c_1 (nI_pos (by omega))) (fun c_1 => ?_)
  refine g_iload_n (pc := 4) dX1_needThere_4 rfl ?_
  refine g_iload_n (pc := 5) dX1_needThere_5 rfl ?_
  refine g_icmp_ge (pc := 6) 10 dX1_needThere_6 (by decide) (fun c_6 => absurd c_6 (by intro w; have := (nI_leI (by omega) (by omega)).mp w; omega)) (fun c_6 => ?_)
  refine g_return (pc := 9) dX1_needThere_9 rfl ?_
  exact ⟨rfl, rfl⟩
theorem k_thereF {n : Nat} (hd : 6 ≤ d) (hI : InvC ac W g F h) (s : Int32) (hn : n ≤ 100) (hv : inR s 0 (nI n - 1) = false) : Ct E d 1 6 mX1_needThere [vR (nC ac 1), vI s, vI (nI n)] h (cX ac W g F h nmNS 0) := by
  refine ct_of (by decide) (Nat.le_of_ble_eq_true rfl) rfl ?_
  have hF : cFr h h := cFr.rf
  have hcc := inr_c hn hv
  refine g_iload_n (pc := 0) dX1_needThere_0 rfl ?_
  refine g_if_lt (pc := 1) 10 dX1_needThere_1 (by decide) (fun c_1 => ?_) (fun c_1 => ?_)
  · refine g_aload_n (pc := 10) dX1_needThere_10 rfl ?_
    refine g_getfield (pc := 11) f_X1_50_1 dX1_needThere_11 hI.1 rfl ?_
    refine g_iconst (pc := 14) (v := 0) dX1_needThere_14 (by decide) ?_
    refine g_dup2 (pc := 15) dX1_needThere_15 rfl rfl ?_
    refine g_iaload (pc := 16) dX1_needThere_16 hI.2.1.2.1 (j := 0) (by decide) (by omega) (by first | decide | omega) rfl ?_
    refine g_iconst (pc := 17) (v := 1) dX1_needThere_17 (by decide) ?_
    refine g_iadd (pc := 18) dX1_needThere_18 ?_
    refine c_rast (pc := 19) (k := 4) (n := 2) hI rfl (by decide) dX1_needThere_19 (j := 0) (by decide) (by omega) (by decide) (fun h hI fr => ?_)
    replace hF := cFr.tr hF fr
    refine g_make1 (pc := 20) (cls := nmNS) (names := ["java/lang/RuntimeException", "java/lang/Exception"]) (ci := 39) 90 rfl (by decide) (by decide) q1730 q152 q1732 ns_1 ns_2 ns_3 zZ dX1_needThere_20 dX1_needThere_23 dX1_needThere_24 (show 2 + 4 ≤ d by omega) (by decide) (Nat.le_of_ble_eq_true rfl) (by omega) (by omega) (fun a9 hn9 => ?_)
    refine g_athrow (pc := 27) (ci := 39) rfl dX1_needThere_27 hs_same (gx_out (by decide) ⟨⟨_, rfl⟩, hI.new hn9, cFr.tr hF (cFr.set (show 90 < 900 by decide))⟩)
  · refine g_iload_n (pc := 4) dX1_needThere_4 rfl ?_
    refine g_iload_n (pc := 5) dX1_needThere_5 rfl ?_
    refine g_icmp_ge (pc := 6) 10 dX1_needThere_6 (by decide) (fun c_6 => ?_) (fun c_6 => ?_)
    · refine g_aload_n (pc := 10) dX1_needThere_10 rfl ?_
      refine g_getfield (pc := 11) f_X1_50_1 dX1_needThere_11 hI.1 rfl ?_
      refine g_iconst (pc := 14) (v := 0) dX1_needThere_14 (by decide) ?_
      refine g_dup2 (pc := 15) dX1_needThere_15 rfl rfl ?_
      refine g_iaload (pc := 16) dX1_needThere_16 hI.2.1.2.1 (j := 0) (by decide) (by omega) (by first | decide | omega) rfl ?_
      refine g_iconst (pc := 17) (v := 1) dX1_needThere_17 (by decide) ?_
      refine g_iadd (pc := 18) dX1_needThere_18 ?_
      refine c_rast (pc := 19) (k := 4) (n := 2) hI rfl (by decide) dX1_needThere_19 (j := 0) (by decide) (by omega) (by decide) (fun h hI fr => ?_)
      replace hF := cFr.tr hF fr
      refine g_make1 (pc := 20) (cls := nmNS) (names := ["java/lang/RuntimeException", "java/lang/Exception"]) (ci := 39) 90 rfl (by decide) (by decide) q1730 q152 q1732 ns_1 ns_2 ns_3 zZ dX1_needThere_20 dX1_needThere_23 dX1_needThere_24 (show 2 + 4 ≤ d by omega) (by decide) (Nat.le_of_ble_eq_true rfl) (by omega) (by omega) (fun a9 hn9 => ?_)
      refine g_athrow (pc := 27) (ci := 39) rfl dX1_needThere_27 hs_same (gx_out (by decide) ⟨⟨_, rfl⟩, hI.new hn9, cFr.tr hF (cFr.set (show 90 < 900 by decide))⟩)
    · exact absurd hcc (fun w => w.elim c_1 c_6)
theorem k_needST (hd : 3 ≤ d) (hI : InvC ac W g F h) (s : Nat) (hs : s < gS g) : Ct E d 0 0 mX1_needSister [vR (nC ac 1), vI (nI s)] h (qR none h) := by
  refine ct_of (by decide) (Nat.le_of_ble_eq_true rfl) rfl ?_
  have b8 := hI.2.2.2.2.1.2.2.2.2.2.2.2.1
  have b10 := hI.2.2.2.2.1.2.2.2.2.2.2.2.2.1
  have bP := hI.2.2.2.2.1.2.2.2.2.2.2.2.2.2.1
  refine g_aload_n (pc := 0) dX1_needSister_0 rfl ?_
  refine g_iload_n (pc := 1) dX1_needSister_1 rfl ?_
  refine g_aload_n (pc := 2) dX1_needSister_2 rfl ?_
  refine g_getfield (pc := 3) f_X1_31_1 dX1_needSister_3 hI.1 rfl ?_
  refine g_getfield (pc := 6) f_X1_158_2 dX1_needSister_6 hI.2.2.2.2.1.1.choose_spec rfl ?_
  refine g_cVv (pc := 9) (M' := mX1_needThere) (as := [_, _]) (ci := 1) rfl i_X1_161_1 eX1_needThere dX1_needSister_9 hI.1 (k_thereT hs (by omega)) (by omega) rfl rfl (Nat.le_of_ble_eq_true rfl) ?_
  refine g_return (pc := 12) dX1_needSister_12 rfl ?_
  exact ⟨rfl, rfl⟩
theorem k_needSF (hd : 7 ≤ d) (hI : InvC ac W g F h) (s : Int32) (hv : inR s 0 (nI (gS g) - 1) = false) : Ct E d 1 6 mX1_needSister [vR (nC ac 1), vI s] h (cX ac W g F h nmNS 0) := by
  refine ct_of (by decide) (Nat.le_of_ble_eq_true rfl) rfl ?_
  have hF : cFr h h := cFr.rf
  have b8 := hI.2.2.2.2.1.2.2.2.2.2.2.2.1
  have b10 := hI.2.2.2.2.1.2.2.2.2.2.2.2.2.1
  have bP := hI.2.2.2.2.1.2.2.2.2.2.2.2.2.2.1
  refine g_aload_n (pc := 0) dX1_needSister_0 rfl ?_
  refine g_iload_n (pc := 1) dX1_needSister_1 rfl ?_
  refine g_aload_n (pc := 2) dX1_needSister_2 rfl ?_
  refine g_getfield (pc := 3) f_X1_31_1 dX1_needSister_3 hI.1 rfl ?_
  refine g_getfield (pc := 6) f_X1_158_2 dX1_needSister_6 hI.2.2.2.2.1.1.choose_spec rfl ?_
  exact c_tV (pc := 9) (M' := mX1_needThere) (as := [_, _]) (ci := 1) rfl i_X1_161_1 eX1_needThere dX1_needSister_9 hI.1 (k_thereF (by omega) hI s (by omega) hv) (by omega) rfl rfl (Nat.le_of_ble_eq_true rfl) (by decide) hF (by omega) (by omega)
theorem k_needRT (hd : 3 ≤ d) (hI : InvC ac W g F h) (s : Nat) (hs : s < gR g) : Ct E d 0 0 mX1_needRelic [vR (nC ac 1), vI (nI s)] h (qR none h) := by
  refine ct_of (by decide) (Nat.le_of_ble_eq_true rfl) rfl ?_
  have b8 := hI.2.2.2.2.1.2.2.2.2.2.2.2.1
  have b10 := hI.2.2.2.2.1.2.2.2.2.2.2.2.2.1
  have bP := hI.2.2.2.2.1.2.2.2.2.2.2.2.2.2.1
  refine g_aload_n (pc := 0) dX1_needRelic_0 rfl ?_
  refine g_iload_n (pc := 1) dX1_needRelic_1 rfl ?_
  refine g_aload_n (pc := 2) dX1_needRelic_2 rfl ?_
  refine g_cV (pc := 3) (M' := mX1_relics) (as := []) (ci := 1) rfl i_X1_165_1 eX1_relics dX1_needRelic_3 hI.1 (k_relics (by omega) hI) (by omega) rfl rfl (Nat.le_of_ble_eq_true rfl) ?_
  refine g_cVv (pc := 6) (M' := mX1_needThere) (as := [_, _]) (ci := 1) rfl i_X1_161_1 eX1_needThere dX1_needRelic_6 hI.1 (k_thereT hs (by omega)) (by omega) rfl rfl (Nat.le_of_ble_eq_true rfl) ?_
  refine g_return (pc := 9) dX1_needRelic_9 rfl ?_
  exact ⟨rfl, rfl⟩
theorem k_needRF (hd : 7 ≤ d) (hI : InvC ac W g F h) (s : Int32) (hv : inR s 0 (nI (gR g) - 1) = false) : Ct E d 1 6 mX1_needRelic [vR (nC ac 1), vI s] h (cX ac W g F h nmNS 0) := by
  refine ct_of (by decide) (Nat.le_of_ble_eq_true rfl) rfl ?_
  have hF : cFr h h := cFr.rf
  have b8 := hI.2.2.2.2.1.2.2.2.2.2.2.2.1
  have b10 := hI.2.2.2.2.1.2.2.2.2.2.2.2.2.1
  have bP := hI.2.2.2.2.1.2.2.2.2.2.2.2.2.2.1
  refine g_aload_n (pc := 0) dX1_needRelic_0 rfl ?_
  refine g_iload_n (pc := 1) dX1_needRelic_1 rfl ?_
  refine g_aload_n (pc := 2) dX1_needRelic_2 rfl ?_
  refine g_cV (pc := 3) (M' := mX1_relics) (as := []) (ci := 1) rfl i_X1_165_1 eX1_relics dX1_needRelic_3 hI.1 (k_relics (by omega) hI) (by omega) rfl rfl (Nat.le_of_ble_eq_true rfl) ?_
  exact c_tV (pc := 6) (M' := mX1_needThere) (as := [_, _]) (ci := 1) rfl i_X1_161_1 eX1_needThere dX1_needRelic_6 hI.1 (k_thereF (by omega) hI s (by omega) hv) (by omega) rfl rfl (Nat.le_of_ble_eq_true rfl) (by decide) hF (by omega) (by omega)
theorem k_needPT (hd : 3 ≤ d) (hI : InvC ac W g F h) (s : Nat) (hs : s < gP g) : Ct E d 0 0 mX1_needPilgrim [vR (nC ac 1), vI (nI s)] h (qR none h) := by
  refine ct_of (by decide) (Nat.le_of_ble_eq_true rfl) rfl ?_
  have b8 := hI.2.2.2.2.1.2.2.2.2.2.2.2.1
  have b10 := hI.2.2.2.2.1.2.2.2.2.2.2.2.2.1
  have bP := hI.2.2.2.2.1.2.2.2.2.2.2.2.2.2.1
  refine g_aload_n (pc := 0) dX1_needPilgrim_0 rfl ?_
  refine g_iload_n (pc := 1) dX1_needPilgrim_1 rfl ?_
  refine g_aload_n (pc := 2) dX1_needPilgrim_2 rfl ?_
  refine g_cV (pc := 3) (M' := mX1_pilgrims) (as := []) (ci := 1) rfl i_X1_167_1 eX1_pilgrims dX1_needPilgrim_3 hI.1 (k_pilgrims (by omega) hI) (by omega) rfl rfl (Nat.le_of_ble_eq_true rfl) ?_
  refine g_cVv (pc := 6) (M' := mX1_needThere) (as := [_, _]) (ci := 1) rfl i_X1_161_1 eX1_needThere dX1_needPilgrim_6 hI.1 (k_thereT hs (by omega)) (by omega) rfl rfl (Nat.le_of_ble_eq_true rfl) ?_
  refine g_return (pc := 9) dX1_needPilgrim_9 rfl ?_
  exact ⟨rfl, rfl⟩
theorem k_needPF (hd : 7 ≤ d) (hI : InvC ac W g F h) (s : Int32) (hv : inR s 0 (nI (gP g) - 1) = false) : Ct E d 1 6 mX1_needPilgrim [vR (nC ac 1), vI s] h (cX ac W g F h nmNS 0) := by
  refine ct_of (by decide) (Nat.le_of_ble_eq_true rfl) rfl ?_
  have hF : cFr h h := cFr.rf
  have b8 := hI.2.2.2.2.1.2.2.2.2.2.2.2.1
  have b10 := hI.2.2.2.2.1.2.2.2.2.2.2.2.2.1
  have bP := hI.2.2.2.2.1.2.2.2.2.2.2.2.2.2.1
  refine g_aload_n (pc := 0) dX1_needPilgrim_0 rfl ?_
  refine g_iload_n (pc := 1) dX1_needPilgrim_1 rfl ?_
  refine g_aload_n (pc := 2) dX1_needPilgrim_2 rfl ?_
  refine g_cV (pc := 3) (M' := mX1_pilgrims) (as := []) (ci := 1) rfl i_X1_167_1 eX1_pilgrims dX1_needPilgrim_3 hI.1 (k_pilgrims (by omega) hI) (by omega) rfl rfl (Nat.le_of_ble_eq_true rfl) ?_
  exact c_tV (pc := 6) (M' := mX1_needThere) (as := [_, _]) (ci := 1) rfl i_X1_161_1 eX1_needThere dX1_needPilgrim_6 hI.1 (k_thereF (by omega) hI s (by omega) hv) (by omega) rfl rfl (Nat.le_of_ble_eq_true rfl) (by decide) hF (by omega) (by omega)
end
