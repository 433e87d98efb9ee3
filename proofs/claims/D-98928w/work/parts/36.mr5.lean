/-! THE REFERENCE: a law is read. Printed by m_r5.py -/
set_option maxRecDepth 100000
/-- the codes read so far -/
def LR (V : mV) (cs : List cd) : Prop := V 0 22 = nI cs.length ∧ ∀ i, i < cs.length → V (1000 * 24 + i) 0 = (cs.getD i (0, 0)).1 ∧ V (1000 * 24 + i) 1 = (cs.getD i (0, 0)).2
def lwS (V : mV) (t : Nat → Nat) (n a o : Nat) (cs : List cd) : Prop := PS V t n a ∧ V 0 5 = 0 ∧ V 0 8 = nI o ∧ LR V cs ∧ cs.length ≤ a ∧ n ≤ 150 ∧ o ≤ 6
theorem LR.f0 {V : mV} {cs : List cd} {j : Nat} {y : Int32} (h : LR V cs) (hj : j ≠ 22) : LR (sv V 0 j y) cs := ⟨by rw [sv_nj (fun e => hj e.symm)]; exact h.1, fun i hi => by rw [sv_ne (by omega)]; exact h.2 i hi⟩
theorem lwS.at {V : mV} {t : Nat → Nat} {n a o b : Nat} {cs : List cd} (h : lwS V t n a o cs) (hab : a ≤ b) (hb : b ≤ n) : lwS (sv V 0 4 (nI b)) t n b o cs := ⟨h.1.at hb, by rw [sv_nj (by decide)]; exact h.2.1, by rw [sv_nj (by decide)]; exact h.2.2.1, h.2.2.2.1.f0 (by decide), by have := h.2.2.2.2.1; omega, h.2.2.2.2.2.1, h.2.2.2.2.2.2⟩
theorem lwS.op {V : mV} {t : Nat → Nat} {n a o o' : Nat} {cs : List cd} (h : lwS V t n a o cs) (ho : o' ≤ 6) : lwS (sv V 0 8 (nI o')) t n a o' cs := ⟨h.1.out (by decide) (fun _ => by decide), by rw [sv_nj (by decide)]; exact h.2.1, sv_same, h.2.2.2.1.f0 (by decide), h.2.2.2.2.1, h.2.2.2.2.2.1, ho⟩
def noV (V : mV) (k : Nat) (w v : Int32) : mV := sv (sv (sv V (1000 * 24 + k) 0 w) (1000 * 24 + k) 1 v) 0 22 (nI (k + 1))
theorem noV_lwS {V : mV} {t : Nat → Nat} {n a o : Nat} {cs : List cd} {w v : Int32} (h : lwS V t n a o cs) (hl : cs.length + 1 ≤ a) : lwS (noV V cs.length w v) t n a o (cs ++ [(w, v)]) := by
  obtain ⟨h1, h2, h3, h4, h5, h6, h7⟩ := h
  unfold noV
  refine ⟨((h1.out (by omega) (fun e => by omega)).out (by omega) (fun e => by omega)).out (by decide) (fun _ => by decide), ?_, ?_, ⟨?_, fun i hi => ?_⟩, ?_, h6, h7⟩
  · rw [sv_nj (by decide), sv_ne (by omega), sv_ne (by omega)]; exact h2
  · rw [sv_nj (by decide), sv_ne (by omega), sv_ne (by omega)]; exact h3
  · rw [sv_same]; simp
  · rw [sv_ne (by omega)]
    by_cases e : i = cs.length
    · subst e
      rw [sv_nj (by decide), sv_same, sv_same]
      simp [List.getD]
    · have hi2 : i < cs.length := by simp at hi; omega
      rw [sv_ne (by omega), sv_ne (by omega)]
      have e2 : (cs ++ [(w, v)]).getD i (0, 0) = cs.getD i (0, 0) := by simp [List.getD, List.getElem?_append_left hi2]
      rw [e2]
      exact h4.2 i hi2
  · simp; omega
theorem rdX22 : rdX 0 22 := Or.inl ⟨rfl, by omega⟩
theorem rdX24 {i j : Nat} (h : i < 1000) : rdX (1000 * 24 + i) j := by unfold rdX; omega
theorem noV_rd {V0 V : mV} {k : Nat} {w v : Int32} (h : rdE V0 V) (hk : k < 1000) : rdE V0 (noV V k w v) := ((h.svv (rdX24 hk)).svv (rdX24 hk)).svv rdX22
theorem FS.f0 {t : Nat → Nat} {n : Nat} {V0 V : mV} {k p j : Nat} {y : Int32} (h : FS t n V0 V k p) (hx : rdX 0 j) (hj : j ≠ 5 ∧ j ≠ 6 ∧ j ≠ 2 ∧ j ≠ 4) : FS t n V0 (sv V 0 j y) k p := ⟨by rw [sv_nj (fun e => hj.1 e.symm)]; exact h.1, by rw [sv_nj (fun e => hj.2.1 e.symm)]; exact h.2.1, h.2.2.1, h.2.2.2.1.svv hx, h.2.2.2.2.imp (fun b hb => hb.out (by decide) (fun _ => ⟨hj.2.2.1, hj.2.2.2⟩))⟩
theorem FS.rdm {t : Nat → Nat} {n : Nat} {V0 V1 V : mV} {k p : Nat} (e : rdE V0 V1) (h : FS t n V1 V k p) : FS t n V0 V k p := ⟨h.1, h.2.1, h.2.2.1, e.tr h.2.2.2.1, h.2.2.2.2⟩
/-- what a law's reader leaves -/
abbrev lwQ (am : Nat → Nat) (V : mV) (h : jH) (t : Nat → Nat) (n o : Nat) (cs : List cd) (x : pR (List cd)) : jR → jH → Prop := rdQ am V h t n x (fun V' c => V' 0 8 = nI o ∧ LR V' (cs ++ c))
/-- a sign, read: good or not -/
theorem sg_cases {V0 V : mV} {t : Nat → Nat} {n a o : Nat} {cs : List cd} {c : Int32} (hc : ¬ c = -1) (hs : lwS V t n a o cs) (rd : rdE V0 V) {P : Prop} (h1 : sgP t n c a = .inl (1, bl t n a) → ¬ sgI t n a = c → FS t n V0 (sv (sv (sv V 0 4 (nI (bl t n a))) 0 5 1) 0 6 (nI (bl t n a))) 1 (bl t n a) → P) (h2 : sgP t n c a = .inr (bl t n a + 1, ()) → sgI t n a = c → lwS (sv V 0 4 (nI (bl t n a + 1))) t n (bl t n a + 1) o cs → rdE V0 (sv V 0 4 (nI (bl t n a + 1))) → P) : P := by
  have hb := bl_le (t := t) hs.1.2.2.2.2
  by_cases q : sgI t n a = c
  · have := sg_lt hc q
    exact h2 (by unfold sgP; rw [if_pos q]) q (hs.at (by omega) (by omega)) rd.a4
  · exact h1 (by unfold sgP; rw [if_neg q]) q ⟨by rw [sv_nj (by decide), sv_same]; rfl, sv_same, by decide, rd.a4.a5.a6, _, ((hs.1.at hb.2).out (by decide) (fun _ => by decide)).out (by decide) (fun _ => by decide)⟩
section
variable {E : jE} {d : Nat} {h : jH} {am : Nat → Nat} {V : mV} {t : Nat → Nat} {n a o : Nat} {cs : List cd}
theorem c_notes (hI : InvM am V h) (hs : lwS V t n a o cs) (w v : Int32) : Ct E d 0 0 mX11_notes [vR (nMo am), vI w, vI v] h (mQ am (noV V cs.length w v) h none) := by
  refine ct_of (by decide) (Nat.le_of_ble_eq_true rfl) rfl ?_
  have hF : mFr h h := mFr.rf
  have hl : cs.length < 160 := by have := hs.2.2.2.2.1; have := hs.1.2.2.2.2; have := hs.2.2.2.2.2.1; omega
  have h22 := hs.2.2.2.1.1
  refine g_aload_n (pc := 0) dX11_notes_0 rfl ?_
  refine g_getfield (pc := 1) f_X11_119_11 dX11_notes_1 hI.1 mf_5 ?_
  refine g_if_eq (pc := 4) 8 dX11_notes_4 (by decide) (fun c_4 => ?_) (fun c_4 => absurd hs.2.1 c_4)
  refine g_aload_n (pc := 8) dX11_notes_8 rfl ?_
  refine g_getfield (pc := 9) f_X11_55_11 dX11_notes_9 hI.1 mf_24 ?_
  refine g_aload_n (pc := 12) dX11_notes_12 rfl ?_
  refine g_getfield (pc := 13) f_X11_215_11 dX11_notes_13 hI.1 mf_22 ?_
  rw [h22]
  refine g_aaload (pc := 16) (t := 5) rfl rfl dX11_notes_16 (mG hI 24 160 rfl (by decide)) (j := cs.length) rfl (by omega) (by decide) rfl ?_
  refine g_iconst (pc := 17) (v := 0) dX11_notes_17 (by decide) ?_
  refine g_iload_n (pc := 18) dX11_notes_18 rfl ?_
  refine m_rast (pc := 19) (k := 24) (n := 2) hI rfl (by show _ < 160; omega) dX11_notes_19 (j := 0) (by decide) (by omega) (by decide) (fun h hI fr => ?_)
  replace hF := mFr.tr hF fr
  refine g_aload_n (pc := 20) dX11_notes_20 rfl ?_
  refine g_getfield (pc := 21) f_X11_55_11 dX11_notes_21 hI.1 mf_24 ?_
  refine g_aload_n (pc := 24) dX11_notes_24 rfl ?_
  refine g_getfield (pc := 25) f_X11_215_11 dX11_notes_25 hI.1 mf_22 ?_
  rw [sv_ne (by omega), h22]
  refine g_aaload (pc := 28) (t := 5) rfl rfl dX11_notes_28 (mG hI 24 160 rfl (by decide)) (j := cs.length) rfl (by omega) (by decide) rfl ?_
  refine g_iconst (pc := 29) (v := 1) dX11_notes_29 (by decide) ?_
  refine g_iload_n (pc := 30) dX11_notes_30 rfl ?_
  refine m_rast (pc := 31) (k := 24) (n := 2) hI rfl (by show _ < 160; omega) dX11_notes_31 (j := 1) (by decide) (by omega) (by decide) (fun h hI fr => ?_)
  replace hF := mFr.tr hF fr
  refine g_aload_n (pc := 32) dX11_notes_32 rfl ?_
  refine g_dup (pc := 33) dX11_notes_33 rfl ?_
  refine g_getfield (pc := 34) f_X11_215_11 dX11_notes_34 hI.1 mf_22 ?_
  rw [sv_ne (by omega), sv_ne (by omega), h22]
  refine g_iconst (pc := 37) (v := 1) dX11_notes_37 (by decide) ?_
  refine g_iadd (pc := 38) dX11_notes_38 ?_
  rw [nI_1]
  refine m_put (pc := 39) hI w_X11_215_11 rfl (by decide) dX11_notes_39 (fun h hI fr => ?_)
  replace hF := mFr.tr hF fr
  refine g_return (pc := 42) dX11_notes_42 rfl ?_
  exact ⟨rfl, hI, hF⟩
theorem c_notes1 (hI : InvM am V h) (hf : ¬ V 0 5 = 0) (w v : Int32) : Ct E d 0 0 mX11_notes [vR (nMo am), vI w, vI v] h (mQ am V h none) := by
  refine ct_of (by decide) (Nat.le_of_ble_eq_true rfl) rfl ?_
  have hF : mFr h h := mFr.rf
  refine g_aload_n (pc := 0) dX11_notes_0 rfl ?_
  refine g_getfield (pc := 1) f_X11_119_11 dX11_notes_1 hI.1 mf_5 ?_
  refine g_if_eq (pc := 4) 8 dX11_notes_4 (by decide) (fun c_4 => absurd c_4 hf) (fun c_4 => ?_)
  refine g_return (pc := 7) dX11_notes_7 rfl ?_
  exact ⟨rfl, hI, hF⟩
theorem c_opens (hI : InvM am V h) (h5 : V 0 5 = 0) (h8 : V 0 8 = nI o) (ho : o < 6) : Ct E d 0 0 mX11_opensOne [vR (nMo am)] h (mQ am (sv V 0 8 (nI (o + 1))) h (some (vI (bI true)))) := by
  refine ct_of (by decide) (Nat.le_of_ble_eq_true rfl) rfl ?_
  have hF : mFr h h := mFr.rf
  refine g_aload_n (pc := 0) dX11_opensOne_0 rfl ?_
  refine g_getfield (pc := 1) f_X11_119_11 dX11_opensOne_1 hI.1 mf_5 ?_
  refine g_if_ne (pc := 4) 28 dX11_opensOne_4 (by decide) (fun c_4 => absurd h5 c_4) (fun c_4 => ?_)
  refine g_aload_n (pc := 7) dX11_opensOne_7 rfl ?_
  refine g_getfield (pc := 8) f_X11_162_11 dX11_opensOne_8 hI.1 mf_8 ?_
  rw [h8]
  refine g_bipush (pc := 11) (v := 6) dX11_opensOne_11 (by decide) ?_
  refine g_icmp_ne (pc := 13) 28 dX11_opensOne_13 (by decide) (fun c_13 => ?_) (fun c_13 => absurd c_13 (fun e => by have := (nI_eq (b := 6) (by omega) (by decide)).mp e; omega))
  refine g_aload_n (pc := 28) dX11_opensOne_28 rfl ?_
  refine g_getfield (pc := 29) f_X11_119_11 dX11_opensOne_29 hI.1 mf_5 ?_
  refine g_if_ne (pc := 32) 45 dX11_opensOne_32 (by decide) (fun c_32 => absurd h5 c_32) (fun c_32 => ?_)
  refine g_aload_n (pc := 35) dX11_opensOne_35 rfl ?_
  refine g_dup (pc := 36) dX11_opensOne_36 rfl ?_
  refine g_getfield (pc := 37) f_X11_162_11 dX11_opensOne_37 hI.1 mf_8 ?_
  rw [h8]
  refine g_iconst (pc := 40) (v := 1) dX11_opensOne_40 (by decide) ?_
  refine g_iadd (pc := 41) dX11_opensOne_41 ?_
  rw [nI_1]
  refine m_put (pc := 42) hI w_X11_162_11 rfl (by decide) dX11_opensOne_42 (fun h hI fr => ?_)
  replace hF := mFr.tr hF fr
  refine g_aload_n (pc := 45) dX11_opensOne_45 rfl ?_
  refine g_getfield (pc := 46) f_X11_119_11 dX11_opensOne_46 hI.1 mf_5 ?_
  refine g_if_ne (pc := 49) 56 dX11_opensOne_49 (by decide) (fun c_49 => absurd ((sv_nj (by decide)).trans h5) c_49) (fun c_49 => ?_)
  refine g_iconst (pc := 52) (v := 1) dX11_opensOne_52 (by decide) ?_
  refine g_goto (pc := 53) 57 dX11_opensOne_53 (by decide) ?_
  refine g_ireturn (pc := 57) dX11_opensOne_57 rfl (by first | exact rfl | exact j_nb _) ?_
  exact ⟨rfl, hI, hF⟩
theorem c_opens6 (hd : 1 ≤ d) (hI : InvM am V h) (h5 : V 0 5 = 0) (h8 : V 0 8 = 6) (h4 : V 0 4 = nI a) : Ct E d 0 0 mX11_opensOne [vR (nMo am)] h (mQ am (sv (sv V 0 5 3) 0 6 (nI a)) h (some (vI (bI false)))) := by
  refine ct_of (by decide) (Nat.le_of_ble_eq_true rfl) rfl ?_
  have hF : mFr h h := mFr.rf
  have hne : ¬ sv (sv V 0 5 3) 0 6 (nI a) 0 5 = 0 := by rw [sv_nj (by decide), sv_same]; decide
  refine g_aload_n (pc := 0) dX11_opensOne_0 rfl ?_
  refine g_getfield (pc := 1) f_X11_119_11 dX11_opensOne_1 hI.1 mf_5 ?_
  refine g_if_ne (pc := 4) 28 dX11_opensOne_4 (by decide) (fun c_4 => absurd h5 c_4) (fun c_4 => ?_)
  refine g_aload_n (pc := 7) dX11_opensOne_7 rfl ?_
  refine g_getfield (pc := 8) f_X11_162_11 dX11_opensOne_8 hI.1 mf_8 ?_
  rw [h8]
  refine g_bipush (pc := 11) (v := 6) dX11_opensOne_11 (by decide) ?_
  refine g_icmp_ne (pc := 13) 28 dX11_opensOne_13 (by decide) (fun c_13 => absurd rfl c_13) (fun c_13 => ?_)
  refine g_aload_n (pc := 16) dX11_opensOne_16 rfl ?_
  refine g_iconst (pc := 17) (v := 3) dX11_opensOne_17 (by decide) ?_
  refine g_aload_n (pc := 18) dX11_opensOne_18 rfl ?_
  refine g_getfield (pc := 19) f_X11_112_11 dX11_opensOne_19 hI.1 mf_4 ?_
  rw [h4]
  refine m_cVv (pc := 22) (M' := mX11_wrong) (as := [_, _]) i_X11_132_11 eX11_wrong hI dX11_opensOne_22 (c_wrong hI _ _) (by omega) rfl rfl (Nat.le_of_ble_eq_true rfl) (fun h hI fr => ?_)
  replace hF := mFr.tr hF fr
  rw [mWrong_0 h5] at hI
  refine g_goto (pc := 25) 45 dX11_opensOne_25 (by decide) ?_
  refine g_aload_n (pc := 45) dX11_opensOne_45 rfl ?_
  refine g_getfield (pc := 46) f_X11_119_11 dX11_opensOne_46 hI.1 mf_5 ?_
  refine g_if_ne (pc := 49) 56 dX11_opensOne_49 (by decide) (fun c_49 => ?_) (fun c_49 => absurd c_49 hne)
  refine g_iconst (pc := 56) (v := 0) dX11_opensOne_56 (by decide) ?_
  refine g_ireturn (pc := 57) dX11_opensOne_57 rfl (by first | exact rfl | exact j_nb _) ?_
  exact ⟨rfl, hI, hF⟩
set_option maxHeartbeats 1000000 in
theorem c_t_worth (hd : 4 ≤ d) (hI : InvM am V h) (hp : PS V t n a) (hf : V 0 5 = 0) : Ct E d 0 0 mX11_takes [vR (nMo am), vI 23, vI 15, vI 18, vI 20, vI 8, vI 0] h (mQ am (sv V 0 4 (nI (if wdB t n (bl t n a) W_worth = true then bl t n a + wl t n (bl t n a) else bl t n a))) h (some (vI (bI (wdB t n (bl t n a) W_worth))))) := by
  refine ct_of (by decide) (Nat.le_of_ble_eq_true rfl) rfl ?_
  have hF : mFr h h := mFr.rf
  have hb := bl_le (t := t) hp.2.2.2.2
  refine g_aload_n (pc := 0) dX11_takes_0 rfl ?_
  refine g_iload_n (pc := 1) dX11_takes_1 rfl ?_
  refine g_iload_n (pc := 2) dX11_takes_2 rfl ?_
  refine g_iload_n (pc := 3) dX11_takes_3 rfl ?_
  refine g_iload (pc := 4) dX11_takes_4 rfl ?_
  refine g_iload (pc := 6) dX11_takes_6 rfl ?_
  refine g_iload (pc := 8) dX11_takes_8 rfl ?_
  refine m_cV (pc := 10) (M' := mX11_isWord) (as := [_, _, _, _, _, _]) i_X11_152_11 eX11_isWord hI dX11_takes_10 (c_w_worth (by omega) hI hp hf) (by omega) rfl rfl (Nat.le_of_ble_eq_true rfl) (fun h hI fr => ?_)
  replace hF := mFr.tr hF fr
  refine g_istore (pc := 13) (ls' := [_, _, _, _, _, _, _, _]) dX11_takes_13 (by decide) rfl rfl ?_
  refine g_iload (pc := 15) dX11_takes_15 rfl ?_
  refine g_ifB_eq (pc := 17) 24 dX11_takes_17 (by decide) (fun c_17 => ?_) (fun c_17 => ?_)
  · refine g_iload (pc := 24) dX11_takes_24 rfl ?_
    refine g_ireturn (pc := 26) dX11_takes_26 rfl (by first | exact rfl | exact j_nb _) ?_
    first
      | exact ⟨rfl, by rw [if_neg (by rw [c_17]; decide)]; exact hI, hF⟩
      | (rw [sv_sv] at hI; exact ⟨rfl, by rw [if_pos c_17]; exact hI, hF⟩)
  · refine g_aload_n (pc := 20) dX11_takes_20 rfl ?_
    refine m_cVv (pc := 21) (M' := mX11_skipWord) (as := []) i_X11_156_11 eX11_skipWord hI dX11_takes_21 (c_skipWord (by omega) hI (hp.at hb.2)) (by omega) rfl rfl (Nat.le_of_ble_eq_true rfl) (fun h hI fr => ?_)
    replace hF := mFr.tr hF fr
    refine g_iload (pc := 24) dX11_takes_24 rfl ?_
    refine g_ireturn (pc := 26) dX11_takes_26 rfl (by first | exact rfl | exact j_nb _) ?_
    first
      | exact ⟨rfl, by rw [if_neg (by rw [c_17]; decide)]; exact hI, hF⟩
      | (rw [sv_sv] at hI; exact ⟨rfl, by rw [if_pos c_17]; exact hI, hF⟩)
theorem c_t_days (hd : 4 ≤ d) (hI : InvM am V h) (hp : PS V t n a) (hf : V 0 5 = 0) : Ct E d 0 0 mX11_takes [vR (nMo am), vI 4, vI 1, vI 25, vI 19, vI 0, vI 0] h (mQ am (sv V 0 4 (nI (if wdB t n (bl t n a) W_days = true then bl t n a + wl t n (bl t n a) else bl t n a))) h (some (vI (bI (wdB t n (bl t n a) W_days))))) := by
  refine ct_of (by decide) (Nat.le_of_ble_eq_true rfl) rfl ?_
  have hF : mFr h h := mFr.rf
  have hb := bl_le (t := t) hp.2.2.2.2
  refine g_aload_n (pc := 0) dX11_takes_0 rfl ?_
  refine g_iload_n (pc := 1) dX11_takes_1 rfl ?_
  refine g_iload_n (pc := 2) dX11_takes_2 rfl ?_
  refine g_iload_n (pc := 3) dX11_takes_3 rfl ?_
  refine g_iload (pc := 4) dX11_takes_4 rfl ?_
  refine g_iload (pc := 6) dX11_takes_6 rfl ?_
  refine g_iload (pc := 8) dX11_takes_8 rfl ?_
  refine m_cV (pc := 10) (M' := mX11_isWord) (as := [_, _, _, _, _, _]) i_X11_152_11 eX11_isWord hI dX11_takes_10 (c_w_days (by omega) hI hp hf) (by omega) rfl rfl (Nat.le_of_ble_eq_true rfl) (fun h hI fr => ?_)
  replace hF := mFr.tr hF fr
  refine g_istore (pc := 13) (ls' := [_, _, _, _, _, _, _, _]) dX11_takes_13 (by decide) rfl rfl ?_
  refine g_iload (pc := 15) dX11_takes_15 rfl ?_
  refine g_ifB_eq (pc := 17) 24 dX11_takes_17 (by decide) (fun c_17 => ?_) (fun c_17 => ?_)
  · refine g_iload (pc := 24) dX11_takes_24 rfl ?_
    refine g_ireturn (pc := 26) dX11_takes_26 rfl (by first | exact rfl | exact j_nb _) ?_
    first
      | exact ⟨rfl, by rw [if_neg (by rw [c_17]; decide)]; exact hI, hF⟩
      | (rw [sv_sv] at hI; exact ⟨rfl, by rw [if_pos c_17]; exact hI, hF⟩)
  · refine g_aload_n (pc := 20) dX11_takes_20 rfl ?_
    refine m_cVv (pc := 21) (M' := mX11_skipWord) (as := []) i_X11_156_11 eX11_skipWord hI dX11_takes_21 (c_skipWord (by omega) hI (hp.at hb.2)) (by omega) rfl rfl (Nat.le_of_ble_eq_true rfl) (fun h hI fr => ?_)
    replace hF := mFr.tr hF fr
    refine g_iload (pc := 24) dX11_takes_24 rfl ?_
    refine g_ireturn (pc := 26) dX11_takes_26 rfl (by first | exact rfl | exact j_nb _) ?_
    first
      | exact ⟨rfl, by rw [if_neg (by rw [c_17]; decide)]; exact hI, hF⟩
      | (rw [sv_sv] at hI; exact ⟨rfl, by rw [if_pos c_17]; exact hI, hF⟩)
theorem c_t_lapses (hd : 4 ≤ d) (hI : InvM am V h) (hp : PS V t n a) (hf : V 0 5 = 0) : Ct E d 0 0 mX11_takes [vR (nMo am), vI 12, vI 1, vI 16, vI 19, vI 5, vI 19] h (mQ am (sv V 0 4 (nI (if wdB t n (bl t n a) W_lapses = true then bl t n a + wl t n (bl t n a) else bl t n a))) h (some (vI (bI (wdB t n (bl t n a) W_lapses))))) := by
  refine ct_of (by decide) (Nat.le_of_ble_eq_true rfl) rfl ?_
  have hF : mFr h h := mFr.rf
  have hb := bl_le (t := t) hp.2.2.2.2
  refine g_aload_n (pc := 0) dX11_takes_0 rfl ?_
  refine g_iload_n (pc := 1) dX11_takes_1 rfl ?_
  refine g_iload_n (pc := 2) dX11_takes_2 rfl ?_
  refine g_iload_n (pc := 3) dX11_takes_3 rfl ?_
  refine g_iload (pc := 4) dX11_takes_4 rfl ?_
  refine g_iload (pc := 6) dX11_takes_6 rfl ?_
  refine g_iload (pc := 8) dX11_takes_8 rfl ?_
  refine m_cV (pc := 10) (M' := mX11_isWord) (as := [_, _, _, _, _, _]) i_X11_152_11 eX11_isWord hI dX11_takes_10 (c_w_lapses (by omega) hI hp hf) (by omega) rfl rfl (Nat.le_of_ble_eq_true rfl) (fun h hI fr => ?_)
  replace hF := mFr.tr hF fr
  refine g_istore (pc := 13) (ls' := [_, _, _, _, _, _, _, _]) dX11_takes_13 (by decide) rfl rfl ?_
  refine g_iload (pc := 15) dX11_takes_15 rfl ?_
  refine g_ifB_eq (pc := 17) 24 dX11_takes_17 (by decide) (fun c_17 => ?_) (fun c_17 => ?_)
  · refine g_iload (pc := 24) dX11_takes_24 rfl ?_
    refine g_ireturn (pc := 26) dX11_takes_26 rfl (by first | exact rfl | exact j_nb _) ?_
    first
      | exact ⟨rfl, by rw [if_neg (by rw [c_17]; decide)]; exact hI, hF⟩
      | (rw [sv_sv] at hI; exact ⟨rfl, by rw [if_pos c_17]; exact hI, hF⟩)
  · refine g_aload_n (pc := 20) dX11_takes_20 rfl ?_
    refine m_cVv (pc := 21) (M' := mX11_skipWord) (as := []) i_X11_156_11 eX11_skipWord hI dX11_takes_21 (c_skipWord (by omega) hI (hp.at hb.2)) (by omega) rfl rfl (Nat.le_of_ble_eq_true rfl) (fun h hI fr => ?_)
    replace hF := mFr.tr hF fr
    refine g_iload (pc := 24) dX11_takes_24 rfl ?_
    refine g_ireturn (pc := 26) dX11_takes_26 rfl (by first | exact rfl | exact j_nb _) ?_
    first
      | exact ⟨rfl, by rw [if_neg (by rw [c_17]; decide)]; exact hI, hF⟩
      | (rw [sv_sv] at hI; exact ⟨rfl, by rw [if_pos c_17]; exact hI, hF⟩)
theorem c_t_ill (hd : 4 ≤ d) (hI : InvM am V h) (hp : PS V t n a) (hf : V 0 5 = 0) : Ct E d 0 0 mX11_takes [vR (nMo am), vI 9, vI 12, vI 12, vI 0, vI 0, vI 0] h (mQ am (sv V 0 4 (nI (if wdB t n (bl t n a) W_ill = true then bl t n a + wl t n (bl t n a) else bl t n a))) h (some (vI (bI (wdB t n (bl t n a) W_ill))))) := by
  refine ct_of (by decide) (Nat.le_of_ble_eq_true rfl) rfl ?_
  have hF : mFr h h := mFr.rf
  have hb := bl_le (t := t) hp.2.2.2.2
  refine g_aload_n (pc := 0) dX11_takes_0 rfl ?_
  refine g_iload_n (pc := 1) dX11_takes_1 rfl ?_
  refine g_iload_n (pc := 2) dX11_takes_2 rfl ?_
  refine g_iload_n (pc := 3) dX11_takes_3 rfl ?_
  refine g_iload (pc := 4) dX11_takes_4 rfl ?_
  refine g_iload (pc := 6) dX11_takes_6 rfl ?_
  refine g_iload (pc := 8) dX11_takes_8 rfl ?_
  refine m_cV (pc := 10) (M' := mX11_isWord) (as := [_, _, _, _, _, _]) i_X11_152_11 eX11_isWord hI dX11_takes_10 (c_w_ill (by omega) hI hp hf) (by omega) rfl rfl (Nat.le_of_ble_eq_true rfl) (fun h hI fr => ?_)
  replace hF := mFr.tr hF fr
  refine g_istore (pc := 13) (ls' := [_, _, _, _, _, _, _, _]) dX11_takes_13 (by decide) rfl rfl ?_
  refine g_iload (pc := 15) dX11_takes_15 rfl ?_
  refine g_ifB_eq (pc := 17) 24 dX11_takes_17 (by decide) (fun c_17 => ?_) (fun c_17 => ?_)
  · refine g_iload (pc := 24) dX11_takes_24 rfl ?_
    refine g_ireturn (pc := 26) dX11_takes_26 rfl (by first | exact rfl | exact j_nb _) ?_
    first
      | exact ⟨rfl, by rw [if_neg (by rw [c_17]; decide)]; exact hI, hF⟩
      | (rw [sv_sv] at hI; exact ⟨rfl, by rw [if_pos c_17]; exact hI, hF⟩)
  · refine g_aload_n (pc := 20) dX11_takes_20 rfl ?_
    refine m_cVv (pc := 21) (M' := mX11_skipWord) (as := []) i_X11_156_11 eX11_skipWord hI dX11_takes_21 (c_skipWord (by omega) hI (hp.at hb.2)) (by omega) rfl rfl (Nat.le_of_ble_eq_true rfl) (fun h hI fr => ?_)
    replace hF := mFr.tr hF fr
    refine g_iload (pc := 24) dX11_takes_24 rfl ?_
    refine g_ireturn (pc := 26) dX11_takes_26 rfl (by first | exact rfl | exact j_nb _) ?_
    first
      | exact ⟨rfl, by rw [if_neg (by rw [c_17]; decide)]; exact hI, hF⟩
      | (rw [sv_sv] at hI; exact ⟨rfl, by rw [if_pos c_17]; exact hI, hF⟩)
theorem c_t_others (hd : 4 ≤ d) (hI : InvM am V h) (hp : PS V t n a) (hf : V 0 5 = 0) : Ct E d 0 0 mX11_takes [vR (nMo am), vI 15, vI 20, vI 8, vI 5, vI 18, vI 19] h (mQ am (sv V 0 4 (nI (if wdB t n (bl t n a) W_others = true then bl t n a + wl t n (bl t n a) else bl t n a))) h (some (vI (bI (wdB t n (bl t n a) W_others))))) := by
  refine ct_of (by decide) (Nat.le_of_ble_eq_true rfl) rfl ?_
  have hF : mFr h h := mFr.rf
  have hb := bl_le (t := t) hp.2.2.2.2
  refine g_aload_n (pc := 0) dX11_takes_0 rfl ?_
  refine g_iload_n (pc := 1) dX11_takes_1 rfl ?_
  refine g_iload_n (pc := 2) dX11_takes_2 rfl ?_
  refine g_iload_n (pc := 3) dX11_takes_3 rfl ?_
  refine g_iload (pc := 4) dX11_takes_4 rfl ?_
  refine g_iload (pc := 6) dX11_takes_6 rfl ?_
  refine g_iload (pc := 8) dX11_takes_8 rfl ?_
  refine m_cV (pc := 10) (M' := mX11_isWord) (as := [_, _, _, _, _, _]) i_X11_152_11 eX11_isWord hI dX11_takes_10 (c_w_others (by omega) hI hp hf) (by omega) rfl rfl (Nat.le_of_ble_eq_true rfl) (fun h hI fr => ?_)
  replace hF := mFr.tr hF fr
  refine g_istore (pc := 13) (ls' := [_, _, _, _, _, _, _, _]) dX11_takes_13 (by decide) rfl rfl ?_
  refine g_iload (pc := 15) dX11_takes_15 rfl ?_
  refine g_ifB_eq (pc := 17) 24 dX11_takes_17 (by decide) (fun c_17 => ?_) (fun c_17 => ?_)
  · refine g_iload (pc := 24) dX11_takes_24 rfl ?_
    refine g_ireturn (pc := 26) dX11_takes_26 rfl (by first | exact rfl | exact j_nb _) ?_
    first
      | exact ⟨rfl, by rw [if_neg (by rw [c_17]; decide)]; exact hI, hF⟩
      | (rw [sv_sv] at hI; exact ⟨rfl, by rw [if_pos c_17]; exact hI, hF⟩)
  · refine g_aload_n (pc := 20) dX11_takes_20 rfl ?_
    refine m_cVv (pc := 21) (M' := mX11_skipWord) (as := []) i_X11_156_11 eX11_skipWord hI dX11_takes_21 (c_skipWord (by omega) hI (hp.at hb.2)) (by omega) rfl rfl (Nat.le_of_ble_eq_true rfl) (fun h hI fr => ?_)
    replace hF := mFr.tr hF fr
    refine g_iload (pc := 24) dX11_takes_24 rfl ?_
    refine g_ireturn (pc := 26) dX11_takes_26 rfl (by first | exact rfl | exact j_nb _) ?_
    first
      | exact ⟨rfl, by rw [if_neg (by rw [c_17]; decide)]; exact hI, hF⟩
      | (rw [sv_sv] at hI; exact ⟨rfl, by rw [if_pos c_17]; exact hI, hF⟩)
theorem c_t_sister (hd : 4 ≤ d) (hI : InvM am V h) (hp : PS V t n a) (hf : V 0 5 = 0) : Ct E d 0 0 mX11_takes [vR (nMo am), vI 19, vI 9, vI 19, vI 20, vI 5, vI 18] h (mQ am (sv V 0 4 (nI (if wdB t n (bl t n a) W_sister = true then bl t n a + wl t n (bl t n a) else bl t n a))) h (some (vI (bI (wdB t n (bl t n a) W_sister))))) := by
  refine ct_of (by decide) (Nat.le_of_ble_eq_true rfl) rfl ?_
  have hF : mFr h h := mFr.rf
  have hb := bl_le (t := t) hp.2.2.2.2
  refine g_aload_n (pc := 0) dX11_takes_0 rfl ?_
  refine g_iload_n (pc := 1) dX11_takes_1 rfl ?_
  refine g_iload_n (pc := 2) dX11_takes_2 rfl ?_
  refine g_iload_n (pc := 3) dX11_takes_3 rfl ?_
  refine g_iload (pc := 4) dX11_takes_4 rfl ?_
  refine g_iload (pc := 6) dX11_takes_6 rfl ?_
  refine g_iload (pc := 8) dX11_takes_8 rfl ?_
  refine m_cV (pc := 10) (M' := mX11_isWord) (as := [_, _, _, _, _, _]) i_X11_152_11 eX11_isWord hI dX11_takes_10 (c_w_sister (by omega) hI hp hf) (by omega) rfl rfl (Nat.le_of_ble_eq_true rfl) (fun h hI fr => ?_)
  replace hF := mFr.tr hF fr
  refine g_istore (pc := 13) (ls' := [_, _, _, _, _, _, _, _]) dX11_takes_13 (by decide) rfl rfl ?_
  refine g_iload (pc := 15) dX11_takes_15 rfl ?_
  refine g_ifB_eq (pc := 17) 24 dX11_takes_17 (by decide) (fun c_17 => ?_) (fun c_17 => ?_)
  · refine g_iload (pc := 24) dX11_takes_24 rfl ?_
    refine g_ireturn (pc := 26) dX11_takes_26 rfl (by first | exact rfl | exact j_nb _) ?_
    first
      | exact ⟨rfl, by rw [if_neg (by rw [c_17]; decide)]; exact hI, hF⟩
      | (rw [sv_sv] at hI; exact ⟨rfl, by rw [if_pos c_17]; exact hI, hF⟩)
  · refine g_aload_n (pc := 20) dX11_takes_20 rfl ?_
    refine m_cVv (pc := 21) (M' := mX11_skipWord) (as := []) i_X11_156_11 eX11_skipWord hI dX11_takes_21 (c_skipWord (by omega) hI (hp.at hb.2)) (by omega) rfl rfl (Nat.le_of_ble_eq_true rfl) (fun h hI fr => ?_)
    replace hF := mFr.tr hF fr
    refine g_iload (pc := 24) dX11_takes_24 rfl ?_
    refine g_ireturn (pc := 26) dX11_takes_26 rfl (by first | exact rfl | exact j_nb _) ?_
    first
      | exact ⟨rfl, by rw [if_neg (by rw [c_17]; decide)]; exact hI, hF⟩
      | (rw [sv_sv] at hI; exact ⟨rfl, by rw [if_pos c_17]; exact hI, hF⟩)
theorem c_t_day (hd : 4 ≤ d) (hI : InvM am V h) (hp : PS V t n a) (hf : V 0 5 = 0) : Ct E d 0 0 mX11_takes [vR (nMo am), vI 4, vI 1, vI 25, vI 0, vI 0, vI 0] h (mQ am (sv V 0 4 (nI (if wdB t n (bl t n a) W_day = true then bl t n a + wl t n (bl t n a) else bl t n a))) h (some (vI (bI (wdB t n (bl t n a) W_day))))) := by
  refine ct_of (by decide) (Nat.le_of_ble_eq_true rfl) rfl ?_
  have hF : mFr h h := mFr.rf
  have hb := bl_le (t := t) hp.2.2.2.2
  refine g_aload_n (pc := 0) dX11_takes_0 rfl ?_
  refine g_iload_n (pc := 1) dX11_takes_1 rfl ?_
  refine g_iload_n (pc := 2) dX11_takes_2 rfl ?_
  refine g_iload_n (pc := 3) dX11_takes_3 rfl ?_
  refine g_iload (pc := 4) dX11_takes_4 rfl ?_
  refine g_iload (pc := 6) dX11_takes_6 rfl ?_
  refine g_iload (pc := 8) dX11_takes_8 rfl ?_
  refine m_cV (pc := 10) (M' := mX11_isWord) (as := [_, _, _, _, _, _]) i_X11_152_11 eX11_isWord hI dX11_takes_10 (c_w_day (by omega) hI hp hf) (by omega) rfl rfl (Nat.le_of_ble_eq_true rfl) (fun h hI fr => ?_)
  replace hF := mFr.tr hF fr
  refine g_istore (pc := 13) (ls' := [_, _, _, _, _, _, _, _]) dX11_takes_13 (by decide) rfl rfl ?_
  refine g_iload (pc := 15) dX11_takes_15 rfl ?_
  refine g_ifB_eq (pc := 17) 24 dX11_takes_17 (by decide) (fun c_17 => ?_) (fun c_17 => ?_)
  · refine g_iload (pc := 24) dX11_takes_24 rfl ?_
    refine g_ireturn (pc := 26) dX11_takes_26 rfl (by first | exact rfl | exact j_nb _) ?_
    first
      | exact ⟨rfl, by rw [if_neg (by rw [c_17]; decide)]; exact hI, hF⟩
      | (rw [sv_sv] at hI; exact ⟨rfl, by rw [if_pos c_17]; exact hI, hF⟩)
  · refine g_aload_n (pc := 20) dX11_takes_20 rfl ?_
    refine m_cVv (pc := 21) (M' := mX11_skipWord) (as := []) i_X11_156_11 eX11_skipWord hI dX11_takes_21 (c_skipWord (by omega) hI (hp.at hb.2)) (by omega) rfl rfl (Nat.le_of_ble_eq_true rfl) (fun h hI fr => ?_)
    replace hF := mFr.tr hF fr
    refine g_iload (pc := 24) dX11_takes_24 rfl ?_
    refine g_ireturn (pc := 26) dX11_takes_26 rfl (by first | exact rfl | exact j_nb _) ?_
    first
      | exact ⟨rfl, by rw [if_neg (by rw [c_17]; decide)]; exact hI, hF⟩
      | (rw [sv_sv] at hI; exact ⟨rfl, by rw [if_pos c_17]; exact hI, hF⟩)
def knI (k : Nat) : Int32 := if k < 8 then nI k else -1
set_option maxHeartbeats 2000000 in
theorem c_knownHere (hd : 5 ≤ d) (hI : InvM am V h) (hp : PS V t n a) (hf : V 0 5 = 0) (hb : bl t n a = a) : Ct E d 0 0 mX11_knownHere [vR (nMo am)] h (mQ am (sv V 0 4 (nI (if knN t n a < 8 then a + wl t n a else a))) h (some (vI (knI (knN t n a))))) := by
  refine ct_of (by decide) (Nat.le_of_ble_eq_true rfl) rfl ?_
  have hF : mFr h h := mFr.rf
  refine g_aload_n (pc := 0) dX11_knownHere_0 rfl ?_
  refine g_bipush (pc := 1) (v := 23) dX11_knownHere_1 (by decide) ?_
  refine g_bipush (pc := 3) (v := 15) dX11_knownHere_3 (by decide) ?_
  refine g_bipush (pc := 5) (v := 18) dX11_knownHere_5 (by decide) ?_
  refine g_bipush (pc := 7) (v := 20) dX11_knownHere_7 (by decide) ?_
  refine g_bipush (pc := 9) (v := 8) dX11_knownHere_9 (by decide) ?_
  refine g_iconst (pc := 11) (v := 0) dX11_knownHere_11 (by decide) ?_
  refine m_cV (pc := 12) (M' := mX11_takes) (as := [_, _, _, _, _, _]) i_X11_230_11 eX11_takes hI dX11_knownHere_12 (c_t_worth (by omega) hI hp hf) (by omega) rfl rfl (Nat.le_of_ble_eq_true rfl) (fun h hI fr => ?_)
  replace hF := mFr.tr hF fr
  rw [hb] at hI
  rw [hb]
  refine g_ifB_eq (pc := 15) 20 dX11_knownHere_15 (by decide) (fun c_15 => ?_) (fun c_15 => ?_)
  · rw [if_neg (show ¬ wdB t n a W_worth = true by rw [c_15]; decide), ← hp.2.2.2.1, sv_self] at hI
    refine g_aload_n (pc := 20) dX11_knownHere_20 rfl ?_
    refine g_iconst (pc := 21) (v := 4) dX11_knownHere_21 (by decide) ?_
    refine g_iconst (pc := 22) (v := 1) dX11_knownHere_22 (by decide) ?_
    refine g_bipush (pc := 23) (v := 25) dX11_knownHere_23 (by decide) ?_
    refine g_bipush (pc := 25) (v := 19) dX11_knownHere_25 (by decide) ?_
    refine g_iconst (pc := 27) (v := 0) dX11_knownHere_27 (by decide) ?_
    refine g_iconst (pc := 28) (v := 0) dX11_knownHere_28 (by decide) ?_
    refine m_cV (pc := 29) (M' := mX11_takes) (as := [_, _, _, _, _, _]) i_X11_230_11 eX11_takes hI dX11_knownHere_29 (c_t_days (by omega) hI hp hf) (by omega) rfl rfl (Nat.le_of_ble_eq_true rfl) (fun h hI fr => ?_)
    replace hF := mFr.tr hF fr
    rw [hb] at hI
    rw [hb]
    refine g_ifB_eq (pc := 32) 37 dX11_knownHere_32 (by decide) (fun c_32 => ?_) (fun c_32 => ?_)
    · rw [if_neg (show ¬ wdB t n a W_days = true by rw [c_32]; decide), ← hp.2.2.2.1, sv_self] at hI
      refine g_aload_n (pc := 37) dX11_knownHere_37 rfl ?_
      refine g_bipush (pc := 38) (v := 12) dX11_knownHere_38 (by decide) ?_
      refine g_iconst (pc := 40) (v := 1) dX11_knownHere_40 (by decide) ?_
      refine g_bipush (pc := 41) (v := 16) dX11_knownHere_41 (by decide) ?_
      refine g_bipush (pc := 43) (v := 19) dX11_knownHere_43 (by decide) ?_
      refine g_iconst (pc := 45) (v := 5) dX11_knownHere_45 (by decide) ?_
      refine g_bipush (pc := 46) (v := 19) dX11_knownHere_46 (by decide) ?_
      refine m_cV (pc := 48) (M' := mX11_takes) (as := [_, _, _, _, _, _]) i_X11_230_11 eX11_takes hI dX11_knownHere_48 (c_t_lapses (by omega) hI hp hf) (by omega) rfl rfl (Nat.le_of_ble_eq_true rfl) (fun h hI fr => ?_)
      replace hF := mFr.tr hF fr
      rw [hb] at hI
      rw [hb]
      refine g_ifB_eq (pc := 51) 56 dX11_knownHere_51 (by decide) (fun c_51 => ?_) (fun c_51 => ?_)
      · rw [if_neg (show ¬ wdB t n a W_lapses = true by rw [c_51]; decide), ← hp.2.2.2.1, sv_self] at hI
        refine g_aload_n (pc := 56) dX11_knownHere_56 rfl ?_
        refine m_cV (pc := 57) (M' := mX11_isTempted) (as := []) i_X11_233_11 eX11_isTempted hI dX11_knownHere_57 (c_isTempted (by omega) hI hp hf) (by omega) rfl rfl (Nat.le_of_ble_eq_true rfl) (fun h hI fr => ?_)
        replace hF := mFr.tr hF fr
        rw [hb] at hI
        rw [hb]
        refine g_ifB_eq (pc := 60) 65 dX11_knownHere_60 (by decide) (fun c_60 => ?_) (fun c_60 => ?_)
        · rw [if_neg (show ¬ wdB t n a W_tempted = true by rw [c_60]; decide), ← hp.2.2.2.1, sv_self] at hI
          refine g_aload_n (pc := 65) dX11_knownHere_65 rfl ?_
          refine g_bipush (pc := 66) (v := 9) dX11_knownHere_66 (by decide) ?_
          refine g_bipush (pc := 68) (v := 12) dX11_knownHere_68 (by decide) ?_
          refine g_bipush (pc := 70) (v := 12) dX11_knownHere_70 (by decide) ?_
          refine g_iconst (pc := 72) (v := 0) dX11_knownHere_72 (by decide) ?_
          refine g_iconst (pc := 73) (v := 0) dX11_knownHere_73 (by decide) ?_
          refine g_iconst (pc := 74) (v := 0) dX11_knownHere_74 (by decide) ?_
          refine m_cV (pc := 75) (M' := mX11_takes) (as := [_, _, _, _, _, _]) i_X11_230_11 eX11_takes hI dX11_knownHere_75 (c_t_ill (by omega) hI hp hf) (by omega) rfl rfl (Nat.le_of_ble_eq_true rfl) (fun h hI fr => ?_)
          replace hF := mFr.tr hF fr
          rw [hb] at hI
          rw [hb]
          refine g_ifB_eq (pc := 78) 83 dX11_knownHere_78 (by decide) (fun c_78 => ?_) (fun c_78 => ?_)
          · rw [if_neg (show ¬ wdB t n a W_ill = true by rw [c_78]; decide), ← hp.2.2.2.1, sv_self] at hI
            refine g_aload_n (pc := 83) dX11_knownHere_83 rfl ?_
            refine g_bipush (pc := 84) (v := 15) dX11_knownHere_84 (by decide) ?_
            refine g_bipush (pc := 86) (v := 20) dX11_knownHere_86 (by decide) ?_
            refine g_bipush (pc := 88) (v := 8) dX11_knownHere_88 (by decide) ?_
            refine g_iconst (pc := 90) (v := 5) dX11_knownHere_90 (by decide) ?_
            refine g_bipush (pc := 91) (v := 18) dX11_knownHere_91 (by decide) ?_
            refine g_bipush (pc := 93) (v := 19) dX11_knownHere_93 (by decide) ?_
            refine m_cV (pc := 95) (M' := mX11_takes) (as := [_, _, _, _, _, _]) i_X11_230_11 eX11_takes hI dX11_knownHere_95 (c_t_others (by omega) hI hp hf) (by omega) rfl rfl (Nat.le_of_ble_eq_true rfl) (fun h hI fr => ?_)
            replace hF := mFr.tr hF fr
            rw [hb] at hI
            rw [hb]
            refine g_ifB_eq (pc := 98) 103 dX11_knownHere_98 (by decide) (fun c_98 => ?_) (fun c_98 => ?_)
            · rw [if_neg (show ¬ wdB t n a W_others = true by rw [c_98]; decide), ← hp.2.2.2.1, sv_self] at hI
              refine g_aload_n (pc := 103) dX11_knownHere_103 rfl ?_
              refine g_bipush (pc := 104) (v := 19) dX11_knownHere_104 (by decide) ?_
              refine g_bipush (pc := 106) (v := 9) dX11_knownHere_106 (by decide) ?_
              refine g_bipush (pc := 108) (v := 19) dX11_knownHere_108 (by decide) ?_
              refine g_bipush (pc := 110) (v := 20) dX11_knownHere_110 (by decide) ?_
              refine g_iconst (pc := 112) (v := 5) dX11_knownHere_112 (by decide) ?_
              refine g_bipush (pc := 113) (v := 18) dX11_knownHere_113 (by decide) ?_
              refine m_cV (pc := 115) (M' := mX11_takes) (as := [_, _, _, _, _, _]) i_X11_230_11 eX11_takes hI dX11_knownHere_115 (c_t_sister (by omega) hI hp hf) (by omega) rfl rfl (Nat.le_of_ble_eq_true rfl) (fun h hI fr => ?_)
              replace hF := mFr.tr hF fr
              rw [hb] at hI
              rw [hb]
              refine g_ifB_eq (pc := 118) 124 dX11_knownHere_118 (by decide) (fun c_118 => ?_) (fun c_118 => ?_)
              · rw [if_neg (show ¬ wdB t n a W_sister = true by rw [c_118]; decide), ← hp.2.2.2.1, sv_self] at hI
                refine g_aload_n (pc := 124) dX11_knownHere_124 rfl ?_
                refine g_iconst (pc := 125) (v := 4) dX11_knownHere_125 (by decide) ?_
                refine g_iconst (pc := 126) (v := 1) dX11_knownHere_126 (by decide) ?_
                refine g_bipush (pc := 127) (v := 25) dX11_knownHere_127 (by decide) ?_
                refine g_iconst (pc := 129) (v := 0) dX11_knownHere_129 (by decide) ?_
                refine g_iconst (pc := 130) (v := 0) dX11_knownHere_130 (by decide) ?_
                refine g_iconst (pc := 131) (v := 0) dX11_knownHere_131 (by decide) ?_
                refine m_cV (pc := 132) (M' := mX11_takes) (as := [_, _, _, _, _, _]) i_X11_230_11 eX11_takes hI dX11_knownHere_132 (c_t_day (by omega) hI hp hf) (by omega) rfl rfl (Nat.le_of_ble_eq_true rfl) (fun h hI fr => ?_)
                replace hF := mFr.tr hF fr
                rw [hb] at hI
                rw [hb]
                refine g_ifB_eq (pc := 135) 143 dX11_knownHere_135 (by decide) (fun c_135 => ?_) (fun c_135 => ?_)
                · rw [if_neg (show ¬ wdB t n a W_day = true by rw [c_135]; decide), ← hp.2.2.2.1, sv_self] at hI
                  refine g_iconst (pc := 143) (v := -1) dX11_knownHere_143 (by decide) ?_
                  refine g_ireturn (pc := 144) dX11_knownHere_144 rfl (by first | exact rfl | exact j_nb _) ?_
                  have ek : knN t n a = 8 := by
                    unfold knN
                    rw [if_neg (show ¬ wdB t n a W_worth = true by rw [c_15]; decide), if_neg (show ¬ wdB t n a W_days = true by rw [c_32]; decide), if_neg (show ¬ wdB t n a W_lapses = true by rw [c_51]; decide), if_neg (show ¬ wdB t n a W_tempted = true by rw [c_60]; decide), if_neg (show ¬ wdB t n a W_ill = true by rw [c_78]; decide), if_neg (show ¬ wdB t n a W_others = true by rw [c_98]; decide), if_neg (show ¬ wdB t n a W_sister = true by rw [c_118]; decide), if_neg (show ¬ wdB t n a W_day = true by rw [c_135]; decide)]
                  refine ⟨by rw [ek]; rfl, ?_, hF⟩
                  rw [ek, if_neg (by decide), ← hp.2.2.2.1, sv_self]
                  exact hI
                · refine g_bipush (pc := 138) (v := 7) dX11_knownHere_138 (by decide) ?_
                  refine g_goto (pc := 140) 144 dX11_knownHere_140 (by decide) ?_
                  refine g_ireturn (pc := 144) dX11_knownHere_144 rfl (by first | exact rfl | exact j_nb _) ?_
                  have ek : knN t n a = 7 := by
                    unfold knN
                    rw [if_neg (show ¬ wdB t n a W_worth = true by rw [c_15]; decide), if_neg (show ¬ wdB t n a W_days = true by rw [c_32]; decide), if_neg (show ¬ wdB t n a W_lapses = true by rw [c_51]; decide), if_neg (show ¬ wdB t n a W_tempted = true by rw [c_60]; decide), if_neg (show ¬ wdB t n a W_ill = true by rw [c_78]; decide), if_neg (show ¬ wdB t n a W_others = true by rw [c_98]; decide), if_neg (show ¬ wdB t n a W_sister = true by rw [c_118]; decide), if_pos c_135]
                  rw [if_pos c_135] at hI
                  refine ⟨by rw [ek]; rfl, ?_, hF⟩
                  rw [ek, if_pos (by decide)]
                  exact hI
              · refine g_bipush (pc := 121) (v := 6) dX11_knownHere_121 (by decide) ?_
                refine g_ireturn (pc := 123) dX11_knownHere_123 rfl (by first | exact rfl | exact j_nb _) ?_
                have ek : knN t n a = 6 := by
                  unfold knN
                  rw [if_neg (show ¬ wdB t n a W_worth = true by rw [c_15]; decide), if_neg (show ¬ wdB t n a W_days = true by rw [c_32]; decide), if_neg (show ¬ wdB t n a W_lapses = true by rw [c_51]; decide), if_neg (show ¬ wdB t n a W_tempted = true by rw [c_60]; decide), if_neg (show ¬ wdB t n a W_ill = true by rw [c_78]; decide), if_neg (show ¬ wdB t n a W_others = true by rw [c_98]; decide), if_pos c_118]
                rw [if_pos c_118] at hI
                refine ⟨by rw [ek]; rfl, ?_, hF⟩
                rw [ek, if_pos (by decide)]
                exact hI
            · refine g_iconst (pc := 101) (v := 5) dX11_knownHere_101 (by decide) ?_
              refine g_ireturn (pc := 102) dX11_knownHere_102 rfl (by first | exact rfl | exact j_nb _) ?_
              have ek : knN t n a = 5 := by
                unfold knN
                rw [if_neg (show ¬ wdB t n a W_worth = true by rw [c_15]; decide), if_neg (show ¬ wdB t n a W_days = true by rw [c_32]; decide), if_neg (show ¬ wdB t n a W_lapses = true by rw [c_51]; decide), if_neg (show ¬ wdB t n a W_tempted = true by rw [c_60]; decide), if_neg (show ¬ wdB t n a W_ill = true by rw [c_78]; decide), if_pos c_98]
              rw [if_pos c_98] at hI
              refine ⟨by rw [ek]; rfl, ?_, hF⟩
              rw [ek, if_pos (by decide)]
              exact hI
          · refine g_iconst (pc := 81) (v := 4) dX11_knownHere_81 (by decide) ?_
            refine g_ireturn (pc := 82) dX11_knownHere_82 rfl (by first | exact rfl | exact j_nb _) ?_
            have ek : knN t n a = 4 := by
              unfold knN
              rw [if_neg (show ¬ wdB t n a W_worth = true by rw [c_15]; decide), if_neg (show ¬ wdB t n a W_days = true by rw [c_32]; decide), if_neg (show ¬ wdB t n a W_lapses = true by rw [c_51]; decide), if_neg (show ¬ wdB t n a W_tempted = true by rw [c_60]; decide), if_pos c_78]
            rw [if_pos c_78] at hI
            refine ⟨by rw [ek]; rfl, ?_, hF⟩
            rw [ek, if_pos (by decide)]
            exact hI
        · refine g_iconst (pc := 63) (v := 3) dX11_knownHere_63 (by decide) ?_
          refine g_ireturn (pc := 64) dX11_knownHere_64 rfl (by first | exact rfl | exact j_nb _) ?_
          have ek : knN t n a = 3 := by
            unfold knN
            rw [if_neg (show ¬ wdB t n a W_worth = true by rw [c_15]; decide), if_neg (show ¬ wdB t n a W_days = true by rw [c_32]; decide), if_neg (show ¬ wdB t n a W_lapses = true by rw [c_51]; decide), if_pos c_60]
          rw [if_pos c_60] at hI
          refine ⟨by rw [ek]; rfl, ?_, hF⟩
          rw [ek, if_pos (by decide)]
          exact hI
      · refine g_iconst (pc := 54) (v := 2) dX11_knownHere_54 (by decide) ?_
        refine g_ireturn (pc := 55) dX11_knownHere_55 rfl (by first | exact rfl | exact j_nb _) ?_
        have ek : knN t n a = 2 := by
          unfold knN
          rw [if_neg (show ¬ wdB t n a W_worth = true by rw [c_15]; decide), if_neg (show ¬ wdB t n a W_days = true by rw [c_32]; decide), if_pos c_51]
        rw [if_pos c_51] at hI
        refine ⟨by rw [ek]; rfl, ?_, hF⟩
        rw [ek, if_pos (by decide)]
        exact hI
    · refine g_iconst (pc := 35) (v := 1) dX11_knownHere_35 (by decide) ?_
      refine g_ireturn (pc := 36) dX11_knownHere_36 rfl (by first | exact rfl | exact j_nb _) ?_
      have ek : knN t n a = 1 := by
        unfold knN
        rw [if_neg (show ¬ wdB t n a W_worth = true by rw [c_15]; decide), if_pos c_32]
      rw [if_pos c_32] at hI
      refine ⟨by rw [ek]; rfl, ?_, hF⟩
      rw [ek, if_pos (by decide)]
      exact hI
  · refine g_iconst (pc := 18) (v := 0) dX11_knownHere_18 (by decide) ?_
    refine g_ireturn (pc := 19) dX11_knownHere_19 rfl (by first | exact rfl | exact j_nb _) ?_
    have ek : knN t n a = 0 := by
      unfold knN
      rw [if_pos c_15]
    rw [if_pos c_15] at hI
    refine ⟨by rw [ek]; rfl, ?_, hF⟩
    rw [ek, if_pos (by decide)]
    exact hI
theorem c_one1 (hI : InvM am V h) (hf : ¬ V 0 5 = 0) : Ct E d 0 0 mX11_one [vR (nMo am)] h (mQ am V h none) := by
  refine ct_of (by decide) (Nat.le_of_ble_eq_true rfl) rfl ?_
  have hF : mFr h h := mFr.rf
  refine g_aload_n (pc := 0) dX11_one_0 rfl ?_
  refine g_getfield (pc := 1) f_X11_119_11 dX11_one_1 hI.1 mf_5 ?_
  refine g_if_eq (pc := 4) 8 dX11_one_4 (by decide) (fun c_4 => absurd c_4 hf) (fun c_4 => ?_)
  refine g_return (pc := 7) dX11_one_7 rfl ?_
  exact ⟨rfl, hI, hF⟩
theorem c_product1 (hd : 1 ≤ d) (hI : InvM am V h) (hf : ¬ V 0 5 = 0) : Ct E d 0 0 mX11_product [vR (nMo am)] h (mQ am V h none) := by
  refine ct_of (by decide) (Nat.le_of_ble_eq_true rfl) rfl ?_
  have hF : mFr h h := mFr.rf
  refine g_aload_n (pc := 0) dX11_product_0 rfl ?_
  refine m_cVv (pc := 1) (M' := mX11_one) (as := []) i_X11_227_11 eX11_one hI dX11_product_1 (c_one1 hI hf) (by omega) rfl rfl (Nat.le_of_ble_eq_true rfl) (fun h hI fr => ?_)
  replace hF := mFr.tr hF fr
  refine g_aload_n (pc := 4) dX11_product_4 rfl ?_
  refine g_getfield (pc := 5) f_X11_119_11 dX11_product_5 hI.1 mf_5 ?_
  refine g_if_ne (pc := 8) 72 dX11_product_8 (by decide) (fun c_8 => ?_) (fun c_8 => absurd c_8 hf)
  refine g_return (pc := 72) dX11_product_72 rfl ?_
  exact ⟨rfl, hI, hF⟩
theorem c_sum1 (hd : 2 ≤ d) (hI : InvM am V h) (hf : ¬ V 0 5 = 0) : Ct E d 0 0 mX11_sum [vR (nMo am)] h (mQ am V h none) := by
  refine ct_of (by decide) (Nat.le_of_ble_eq_true rfl) rfl ?_
  have hF : mFr h h := mFr.rf
  refine g_aload_n (pc := 0) dX11_sum_0 rfl ?_
  refine m_cVv (pc := 1) (M' := mX11_product) (as := []) i_X11_218_11 eX11_product hI dX11_sum_1 (c_product1 (by omega) hI hf) (by omega) rfl rfl (Nat.le_of_ble_eq_true rfl) (fun h hI fr => ?_)
  replace hF := mFr.tr hF fr
  refine g_aload_n (pc := 4) dX11_sum_4 rfl ?_
  refine g_getfield (pc := 5) f_X11_119_11 dX11_sum_5 hI.1 mf_5 ?_
  refine g_if_ne (pc := 8) 58 dX11_sum_8 (by decide) (fun c_8 => ?_) (fun c_8 => absurd c_8 hf)
  refine g_return (pc := 58) dX11_sum_58 rfl ?_
  exact ⟨rfl, hI, hF⟩
/-- the three readers and the two loops, at one measure -/
def LWa (E : jE) (am : Nat → Nat) (t : Nat → Nat) (n m : Nat) : Prop := ∀ (d : Nat) (V : mV) (h : jH) (o a : Nat) (cs : List cd), InvM am V h → lwS V t n a o cs →
  (5 * (n - a) + 3 ≤ m → 3 * (6 - o) + 14 ≤ d → Ct E d 0 0 mX11_sum [vR (nMo am)] h (lwQ am V h t n o cs (lw t n m 0 o a []))) ∧
  (5 * (n - a) + 2 ≤ m → 3 * (6 - o) + 13 ≤ d → Ct E d 0 0 mX11_product [vR (nMo am)] h (lwQ am V h t n o cs (lw t n m 1 o a []))) ∧
  (5 * (n - a) + 1 ≤ m → 3 * (6 - o) + 12 ≤ d → Ct E d 0 0 mX11_one [vR (nMo am)] h (lwQ am V h t n o cs (lw t n m 2 o a [])))
def LWb (E : jE) (am : Nat → Nat) (t : Nat → Nat) (n m : Nat) : Prop := ∀ (d bc bs : Nat) (V V0 : mV) (h h0 : jH) (o a : Nat) (cs acc : List cd) (u : Option jV), InvM am V h → mFr h0 h → rdE V0 V → lwS V t n a o (cs ++ acc) → 5 * (n - a) + 1 ≤ m →
  (3 * (6 - o) + 14 ≤ d → G E d bc bs mX11_sum 4 [some (vR (nMo am)), u] [] h (lwQ am V0 h0 t n o cs (lw t n m 3 o a acc))) ∧ (3 * (6 - o) + 13 ≤ d → G E d bc bs mX11_product 4 [some (vR (nMo am)), u] [] h (lwQ am V0 h0 t n o cs (lw t n m 4 o a acc)))
set_option maxHeartbeats 2000000 in
theorem lw_sum {m : Nat} (ih : LWa E am t n m) (ihb : LWb E am t n m) (hI : InvM am V h) (hs : lwS V t n a o cs) (hm : 5 * (n - a) + 3 ≤ m + 1) (hd : 3 * (6 - o) + 14 ≤ d) : Ct E d 0 0 mX11_sum [vR (nMo am)] h (lwQ am V h t n o cs (lw t n (m + 1) 0 o a [])) := by
  refine ct_of (by decide) (Nat.le_of_ble_eq_true rfl) rfl ?_
  have hF : mFr h h := mFr.rf
  refine g_aload_n (pc := 0) dX11_sum_0 rfl ?_
  refine m_cX (pc := 1) (M' := mX11_product) (as := []) i_X11_218_11 eX11_product hI dX11_sum_1 (((ih (d - 1) V h o a cs hI hs).2.1 (by omega) (by omega))) (by omega) rfl rfl (Nat.le_of_ble_eq_true rfl) (fun r9 h9 q9 => ?_)
  obtain ⟨rfl, V2, hI, fr, rd2, q9⟩ := q9
  refine ⟨none, rfl, ?_⟩
  replace hF := mFr.tr hF fr
  show G _ _ _ _ _ _ _ _ _ (lwQ am V h t n o cs (pB (lw t n m 1 o a []) fun p c => lw t n m 3 o p c))
  cases ex : lw t n m 1 o a [] with
  | inl e =>
    rw [ex] at q9
    obtain ⟨f5, f6, fk, fp⟩ := q9
    have hne : ¬ V2 0 5 = 0 := by rw [f5]; exact nI_ne0 (by omega) (by omega)
    refine g_aload_n (pc := 4) dX11_sum_4 rfl ?_
    refine g_getfield (pc := 5) f_X11_119_11 dX11_sum_5 hI.1 mf_5 ?_
    refine g_if_ne (pc := 8) 58 dX11_sum_8 (by decide) (fun c_8 => ?_) (fun c_8 => absurd c_8 hne)
    refine g_return (pc := 58) dX11_sum_58 rfl ?_
    exact ⟨rfl, _, hI, hF, rd2, f5, f6, fk, fp⟩
  | inr q =>
    obtain ⟨p, c⟩ := q
    rw [ex] at q9
    obtain ⟨f5, fp, f8, fl⟩ := q9
    obtain ⟨g1, g2, -⟩ := lw_ok m 1 o a [] p c (by omega) hs.1.2.2.2.2 ex
    have g3 := g2 (by omega)
    have hcl := hs.2.2.2.2.1
    exact ((ihb d 0 0 V2 V h9 h o p cs c _ hI hF rd2 ⟨fp, f5, f8, fl, by simp; omega, hs.2.2.2.2.2.1, hs.2.2.2.2.2.2⟩ (by omega)).1 (by omega))
set_option maxHeartbeats 2000000 in
theorem lw_product {m : Nat} (ih : LWa E am t n m) (ihb : LWb E am t n m) (hI : InvM am V h) (hs : lwS V t n a o cs) (hm : 5 * (n - a) + 2 ≤ m + 1) (hd : 3 * (6 - o) + 13 ≤ d) : Ct E d 0 0 mX11_product [vR (nMo am)] h (lwQ am V h t n o cs (lw t n (m + 1) 1 o a [])) := by
  refine ct_of (by decide) (Nat.le_of_ble_eq_true rfl) rfl ?_
  have hF : mFr h h := mFr.rf
  refine g_aload_n (pc := 0) dX11_product_0 rfl ?_
  refine m_cX (pc := 1) (M' := mX11_one) (as := []) i_X11_227_11 eX11_one hI dX11_product_1 (((ih (d - 1) V h o a cs hI hs).2.2 (by omega) (by omega))) (by omega) rfl rfl (Nat.le_of_ble_eq_true rfl) (fun r9 h9 q9 => ?_)
  obtain ⟨rfl, V2, hI, fr, rd2, q9⟩ := q9
  refine ⟨none, rfl, ?_⟩
  replace hF := mFr.tr hF fr
  show G _ _ _ _ _ _ _ _ _ (lwQ am V h t n o cs (pB (lw t n m 2 o a []) fun p c => lw t n m 4 o p c))
  cases ex : lw t n m 2 o a [] with
  | inl e =>
    rw [ex] at q9
    obtain ⟨f5, f6, fk, fp⟩ := q9
    have hne : ¬ V2 0 5 = 0 := by rw [f5]; exact nI_ne0 (by omega) (by omega)
    refine g_aload_n (pc := 4) dX11_product_4 rfl ?_
    refine g_getfield (pc := 5) f_X11_119_11 dX11_product_5 hI.1 mf_5 ?_
    refine g_if_ne (pc := 8) 72 dX11_product_8 (by decide) (fun c_8 => ?_) (fun c_8 => absurd c_8 hne)
    refine g_return (pc := 72) dX11_product_72 rfl ?_
    exact ⟨rfl, _, hI, hF, rd2, f5, f6, fk, fp⟩
  | inr q =>
    obtain ⟨p, c⟩ := q
    rw [ex] at q9
    obtain ⟨f5, fp, f8, fl⟩ := q9
    obtain ⟨g1, g2, -⟩ := lw_ok m 2 o a [] p c (by omega) hs.1.2.2.2.2 ex
    have g3 := g2 (by omega)
    have hcl := hs.2.2.2.2.1
    exact ((ihb d 0 0 V2 V h9 h o p cs c _ hI hF rd2 ⟨fp, f5, f8, fl, by simp; omega, hs.2.2.2.2.2.1, hs.2.2.2.2.2.2⟩ (by omega)).2 (by omega))
theorem sgI_bl {t : Nat → Nat} {n a : Nat} : sgI t n (bl t n a) = sgI t n a := by unfold sgI; rw [bl_bl]
set_option maxHeartbeats 4000000 in
theorem lw_l3 {m bc bs : Nat} {V0 : mV} {h0 : jH} {acc : List cd} {u : Option jV} (ih : LWa E am t n m) (ihb : LWb E am t n m) (hI : InvM am V h) (hF : mFr h0 h) (rd : rdE V0 V) (hs : lwS V t n a o (cs ++ acc)) (hm : 5 * (n - a) + 1 ≤ m + 1) (hd : 3 * (6 - o) + 14 ≤ d) : G E d bc bs mX11_sum 4 [some (vR (nMo am)), u] [] h (lwQ am V0 h0 t n o cs (lw t n (m + 1) 3 o a acc)) := by
  have hb := bl_le (t := t) hs.1.2.2.2.2
  refine g_aload_n (pc := 4) dX11_sum_4 rfl ?_
  refine g_getfield (pc := 5) f_X11_119_11 dX11_sum_5 hI.1 mf_5 ?_
  refine g_if_ne (pc := 8) 58 dX11_sum_8 (by decide) (fun c_8 => absurd hs.2.1 c_8) (fun c_8 => ?_)
  refine g_aload_n (pc := 11) dX11_sum_11 rfl ?_
  refine g_bipush (pc := 12) (v := 43) dX11_sum_12 (by decide) ?_
  refine m_cV (pc := 14) (M' := mX11_takesSign) (as := [_]) i_X11_221_11 eX11_takesSign hI dX11_sum_14 (c_takesSign (by omega) hI hs.1 hs.2.1 43) (by omega) rfl rfl (Nat.le_of_ble_eq_true rfl) (fun h hI fr => ?_)
  replace hF := mFr.tr hF fr
  refine g_ifB_eq (pc := 17) 24 dX11_sum_17 (by decide) (fun c_17 => ?_) (fun c_17 => ?_)
  · have n0 : ¬ sgI t n a = 43 := of_decide_eq_false c_17
    rw [if_neg n0] at hI
    have hs1 := hs.at hb.1 hb.2
    refine g_aload_n (pc := 24) dX11_sum_24 rfl ?_
    refine g_bipush (pc := 25) (v := 45) dX11_sum_25 (by decide) ?_
    refine m_cV (pc := 27) (M' := mX11_takesSign) (as := [_]) i_X11_221_11 eX11_takesSign hI dX11_sum_27 (c_takesSign (by omega) hI hs1.1 hs1.2.1 45) (by omega) rfl rfl (Nat.le_of_ble_eq_true rfl) (fun h hI fr => ?_)
    replace hF := mFr.tr hF fr
    rw [sgI_bl, bl_bl, sv_sv, sv_sv] at hI
    rw [sgI_bl]
    refine g_ifB_eq (pc := 30) 37 dX11_sum_30 (by decide) (fun c_30 => ?_) (fun c_30 => ?_)
    · have n1 : ¬ sgI t n a = 45 := of_decide_eq_false c_30
      rw [if_neg n1] at hI
      refine g_iconst (pc := 37) (v := -1) dX11_sum_37 (by decide) ?_
      refine g_istore_n (pc := 38) (ls' := [_, _]) dX11_sum_38 (by decide) rfl rfl ?_
      refine g_iload_n (pc := 39) dX11_sum_39 rfl ?_
      refine g_iconst (pc := 40) (v := -1) dX11_sum_40 (by decide) ?_
      refine g_icmp_ne (pc := 41) 45 dX11_sum_41 (by decide) (fun c_41 => absurd rfl c_41) (fun c_41 => ?_)
      refine g_return (pc := 44) dX11_sum_44 rfl ?_
      have hj : jnN 3 (sgI t n a) = 0 := by
        unfold jnN
        rw [if_pos rfl, if_neg n0, if_neg n1]
      have elw : lw t n (m + 1) 3 o a acc = .inr (bl t n a, acc) := by
        show (if _ then _ else _) = _
        rw [if_neg (by decide), if_neg (by decide), if_pos hj]
      refine ⟨rfl, _, hI, hF, rd.a4, ?_⟩
      rw [elw]
      exact ⟨hs1.2.1, hs1.1, hs1.2.2.1, hs1.2.2.2.1⟩
    · have y0 : sgI t n a = 45 := of_decide_eq_true c_30
      rw [if_pos y0] at hI
      have hlt := sg_lt (by decide) y0
      have hj : jnN 3 (sgI t n a) = 3 := by
        unfold jnN
        rw [if_pos rfl, if_neg n0, if_pos y0]
      have elw : lw t n (m + 1) 3 o a acc = pB (lw t n m 1 o (bl t n a + 1) []) fun p c => lw t n m 3 o p (acc ++ c ++ [(nI 3, 0)]) := by
        show (if _ then _ else _) = _
        rw [if_neg (by decide), if_neg (by decide), if_neg (by rw [hj]; decide), hj]
      rw [elw]
      have hs2 := hs.at (b := bl t n a + 1) (by omega) (by omega)
      have hcl := hs.2.2.2.2.1
      refine g_iconst (pc := 33) (v := 3) dX11_sum_33 (by decide) ?_
      refine g_goto (pc := 34) 38 dX11_sum_34 (by decide) ?_
      refine g_istore_n (pc := 38) (ls' := [_, _]) dX11_sum_38 (by decide) rfl rfl ?_
      refine g_iload_n (pc := 39) dX11_sum_39 rfl ?_
      refine g_iconst (pc := 40) (v := -1) dX11_sum_40 (by decide) ?_
      refine g_icmp_ne (pc := 41) 45 dX11_sum_41 (by decide) (fun c_41 => ?_) (fun c_41 => absurd c_41 (by decide))
      refine g_aload_n (pc := 45) dX11_sum_45 rfl ?_
      refine m_cX (pc := 46) (M' := mX11_product) (as := []) i_X11_218_11 eX11_product hI dX11_sum_46 (((ih (d - 1) _ h o (bl t n a + 1) (cs ++ acc) hI hs2).2.1 (by omega) (by omega))) (by omega) rfl rfl (Nat.le_of_ble_eq_true rfl) (fun r9 h9 q9 => ?_)
      obtain ⟨rfl, V2, hI, fr, rd2, q9⟩ := q9
      refine ⟨none, rfl, ?_⟩
      replace hF := mFr.tr hF fr
      cases ex : lw t n m 1 o (bl t n a + 1) [] with
      | inl e =>
        rw [ex] at q9
        obtain ⟨f5, f6, fk, fp⟩ := q9
        have hne : ¬ V2 0 5 = 0 := by rw [f5]; exact nI_ne0 (by omega) (by omega)
        refine g_aload_n (pc := 49) dX11_sum_49 rfl ?_
        refine g_iload_n (pc := 50) dX11_sum_50 rfl ?_
        refine g_iconst (pc := 51) (v := 0) dX11_sum_51 (by decide) ?_
        refine m_cVv (pc := 52) (M' := mX11_notes) (as := [_, _]) i_X11_224_11 eX11_notes hI dX11_sum_52 (c_notes1 hI hne _ _) (by omega) rfl rfl (Nat.le_of_ble_eq_true rfl) (fun h hI fr => ?_)
        replace hF := mFr.tr hF fr
        refine g_goto (pc := 55) 4 dX11_sum_55 (by decide) ?_
        refine g_aload_n (pc := 4) dX11_sum_4 rfl ?_
        refine g_getfield (pc := 5) f_X11_119_11 dX11_sum_5 hI.1 mf_5 ?_
        refine g_if_ne (pc := 8) 58 dX11_sum_8 (by decide) (fun c_8 => ?_) (fun c_8 => absurd c_8 hne)
        refine g_return (pc := 58) dX11_sum_58 rfl ?_
        exact ⟨rfl, _, hI, hF, (rd.a4).tr rd2, f5, f6, fk, fp⟩
      | inr q =>
        obtain ⟨p, c⟩ := q
        rw [ex] at q9
        obtain ⟨f5, fp, f8, fl⟩ := q9
        obtain ⟨g1, g2, -⟩ := lw_ok m 1 o (bl t n a + 1) [] p c (by omega) (by omega) ex
        have g3 := g2 (by omega)
        have hs3 : lwS V2 t n p o (cs ++ acc ++ c) := ⟨fp, f5, f8, fl, by simp at *; omega, hs.2.2.2.2.2.1, hs.2.2.2.2.2.2⟩
        have hs4 := noV_lwS (w := nI 3) (v := 0) hs3 (by simp at *; omega)
        refine g_aload_n (pc := 49) dX11_sum_49 rfl ?_
        refine g_iload_n (pc := 50) dX11_sum_50 rfl ?_
        refine g_iconst (pc := 51) (v := 0) dX11_sum_51 (by decide) ?_
        refine m_cVv (pc := 52) (M' := mX11_notes) (as := [_, _]) i_X11_224_11 eX11_notes hI dX11_sum_52 (c_notes hI hs3 _ _) (by omega) rfl rfl (Nat.le_of_ble_eq_true rfl) (fun h hI fr => ?_)
        replace hF := mFr.tr hF fr
        refine g_goto (pc := 55) 4 dX11_sum_55 (by decide) ?_
        rw [show cs ++ acc ++ c ++ [(nI 3, 0)] = cs ++ (acc ++ c ++ [(nI 3, 0)]) by simp] at hs4
        exact ((ihb d bc bs _ V0 h h0 o p cs _ _ hI hF (noV_rd ((rd.a4).tr rd2) (by have := hs3.2.2.2.2.1; have := hs3.2.2.2.2.2.1; omega)) hs4 (by omega)).1 (by omega))
  · have y0 : sgI t n a = 43 := of_decide_eq_true c_17
    rw [if_pos y0] at hI
    have hlt := sg_lt (by decide) y0
    have hj : jnN 3 (sgI t n a) = 2 := by
      unfold jnN
      rw [if_pos rfl, if_pos y0]
    have elw : lw t n (m + 1) 3 o a acc = pB (lw t n m 1 o (bl t n a + 1) []) fun p c => lw t n m 3 o p (acc ++ c ++ [(nI 2, 0)]) := by
      show (if _ then _ else _) = _
      rw [if_neg (by decide), if_neg (by decide), if_neg (by rw [hj]; decide), hj]
    rw [elw]
    have hs2 := hs.at (b := bl t n a + 1) (by omega) (by omega)
    have hcl := hs.2.2.2.2.1
    refine g_iconst (pc := 20) (v := 2) dX11_sum_20 (by decide) ?_
    refine g_goto (pc := 21) 38 dX11_sum_21 (by decide) ?_
    refine g_istore_n (pc := 38) (ls' := [_, _]) dX11_sum_38 (by decide) rfl rfl ?_
    refine g_iload_n (pc := 39) dX11_sum_39 rfl ?_
    refine g_iconst (pc := 40) (v := -1) dX11_sum_40 (by decide) ?_
    refine g_icmp_ne (pc := 41) 45 dX11_sum_41 (by decide) (fun c_41 => ?_) (fun c_41 => absurd c_41 (by decide))
    refine g_aload_n (pc := 45) dX11_sum_45 rfl ?_
    refine m_cX (pc := 46) (M' := mX11_product) (as := []) i_X11_218_11 eX11_product hI dX11_sum_46 (((ih (d - 1) _ h o (bl t n a + 1) (cs ++ acc) hI hs2).2.1 (by omega) (by omega))) (by omega) rfl rfl (Nat.le_of_ble_eq_true rfl) (fun r9 h9 q9 => ?_)
    obtain ⟨rfl, V2, hI, fr, rd2, q9⟩ := q9
    refine ⟨none, rfl, ?_⟩
    replace hF := mFr.tr hF fr
    cases ex : lw t n m 1 o (bl t n a + 1) [] with
    | inl e =>
      rw [ex] at q9
      obtain ⟨f5, f6, fk, fp⟩ := q9
      have hne : ¬ V2 0 5 = 0 := by rw [f5]; exact nI_ne0 (by omega) (by omega)
      refine g_aload_n (pc := 49) dX11_sum_49 rfl ?_
      refine g_iload_n (pc := 50) dX11_sum_50 rfl ?_
      refine g_iconst (pc := 51) (v := 0) dX11_sum_51 (by decide) ?_
      refine m_cVv (pc := 52) (M' := mX11_notes) (as := [_, _]) i_X11_224_11 eX11_notes hI dX11_sum_52 (c_notes1 hI hne _ _) (by omega) rfl rfl (Nat.le_of_ble_eq_true rfl) (fun h hI fr => ?_)
      replace hF := mFr.tr hF fr
      refine g_goto (pc := 55) 4 dX11_sum_55 (by decide) ?_
      refine g_aload_n (pc := 4) dX11_sum_4 rfl ?_
      refine g_getfield (pc := 5) f_X11_119_11 dX11_sum_5 hI.1 mf_5 ?_
      refine g_if_ne (pc := 8) 58 dX11_sum_8 (by decide) (fun c_8 => ?_) (fun c_8 => absurd c_8 hne)
      refine g_return (pc := 58) dX11_sum_58 rfl ?_
      exact ⟨rfl, _, hI, hF, (rd.a4).tr rd2, f5, f6, fk, fp⟩
    | inr q =>
      obtain ⟨p, c⟩ := q
      rw [ex] at q9
      obtain ⟨f5, fp, f8, fl⟩ := q9
      obtain ⟨g1, g2, -⟩ := lw_ok m 1 o (bl t n a + 1) [] p c (by omega) (by omega) ex
      have g3 := g2 (by omega)
      have hs3 : lwS V2 t n p o (cs ++ acc ++ c) := ⟨fp, f5, f8, fl, by simp at *; omega, hs.2.2.2.2.2.1, hs.2.2.2.2.2.2⟩
      have hs4 := noV_lwS (w := nI 2) (v := 0) hs3 (by simp at *; omega)
      refine g_aload_n (pc := 49) dX11_sum_49 rfl ?_
      refine g_iload_n (pc := 50) dX11_sum_50 rfl ?_
      refine g_iconst (pc := 51) (v := 0) dX11_sum_51 (by decide) ?_
      refine m_cVv (pc := 52) (M' := mX11_notes) (as := [_, _]) i_X11_224_11 eX11_notes hI dX11_sum_52 (c_notes hI hs3 _ _) (by omega) rfl rfl (Nat.le_of_ble_eq_true rfl) (fun h hI fr => ?_)
      replace hF := mFr.tr hF fr
      refine g_goto (pc := 55) 4 dX11_sum_55 (by decide) ?_
      rw [show cs ++ acc ++ c ++ [(nI 2, 0)] = cs ++ (acc ++ c ++ [(nI 2, 0)]) by simp] at hs4
      exact ((ihb d bc bs _ V0 h h0 o p cs _ _ hI hF (noV_rd ((rd.a4).tr rd2) (by have := hs3.2.2.2.2.1; have := hs3.2.2.2.2.2.1; omega)) hs4 (by omega)).1 (by omega))
set_option maxHeartbeats 4000000 in
theorem lw_l4 {m bc bs : Nat} {V0 : mV} {h0 : jH} {acc : List cd} {u : Option jV} (ih : LWa E am t n m) (ihb : LWb E am t n m) (hI : InvM am V h) (hF : mFr h0 h) (rd : rdE V0 V) (hs : lwS V t n a o (cs ++ acc)) (hm : 5 * (n - a) + 1 ≤ m + 1) (hd : 3 * (6 - o) + 13 ≤ d) : G E d bc bs mX11_product 4 [some (vR (nMo am)), u] [] h (lwQ am V0 h0 t n o cs (lw t n (m + 1) 4 o a acc)) := by
  have hb := bl_le (t := t) hs.1.2.2.2.2
  refine g_aload_n (pc := 4) dX11_product_4 rfl ?_
  refine g_getfield (pc := 5) f_X11_119_11 dX11_product_5 hI.1 mf_5 ?_
  refine g_if_ne (pc := 8) 72 dX11_product_8 (by decide) (fun c_8 => absurd hs.2.1 c_8) (fun c_8 => ?_)
  refine g_aload_n (pc := 11) dX11_product_11 rfl ?_
  refine g_bipush (pc := 12) (v := 42) dX11_product_12 (by decide) ?_
  refine m_cV (pc := 14) (M' := mX11_takesSign) (as := [_]) i_X11_221_11 eX11_takesSign hI dX11_product_14 (c_takesSign (by omega) hI hs.1 hs.2.1 42) (by omega) rfl rfl (Nat.le_of_ble_eq_true rfl) (fun h hI fr => ?_)
  replace hF := mFr.tr hF fr
  refine g_ifB_eq (pc := 17) 24 dX11_product_17 (by decide) (fun c_17 => ?_) (fun c_17 => ?_)
  · have n0 : ¬ sgI t n a = 42 := of_decide_eq_false c_17
    rw [if_neg n0] at hI
    have hs1 := hs.at hb.1 hb.2
    refine g_aload_n (pc := 24) dX11_product_24 rfl ?_
    refine g_bipush (pc := 25) (v := 47) dX11_product_25 (by decide) ?_
    refine m_cV (pc := 27) (M' := mX11_takesSign) (as := [_]) i_X11_221_11 eX11_takesSign hI dX11_product_27 (c_takesSign (by omega) hI hs1.1 hs1.2.1 47) (by omega) rfl rfl (Nat.le_of_ble_eq_true rfl) (fun h hI fr => ?_)
    replace hF := mFr.tr hF fr
    rw [sgI_bl, bl_bl, sv_sv, sv_sv] at hI
    rw [sgI_bl]
    refine g_ifB_eq (pc := 30) 37 dX11_product_30 (by decide) (fun c_30 => ?_) (fun c_30 => ?_)
    · have n1 : ¬ sgI t n a = 47 := of_decide_eq_false c_30
      rw [if_neg n1] at hI
      refine g_aload_n (pc := 37) dX11_product_37 rfl ?_
      refine g_bipush (pc := 38) (v := 37) dX11_product_38 (by decide) ?_
      refine m_cV (pc := 40) (M' := mX11_takesSign) (as := [_]) i_X11_221_11 eX11_takesSign hI dX11_product_40 (c_takesSign (by omega) hI hs1.1 hs1.2.1 37) (by omega) rfl rfl (Nat.le_of_ble_eq_true rfl) (fun h hI fr => ?_)
      replace hF := mFr.tr hF fr
      rw [sgI_bl, bl_bl, sv_sv, sv_sv] at hI
      rw [sgI_bl]
      refine g_ifB_eq (pc := 43) 51 dX11_product_43 (by decide) (fun c_43 => ?_) (fun c_43 => ?_)
      · have n2 : ¬ sgI t n a = 37 := of_decide_eq_false c_43
        rw [if_neg n2] at hI
        refine g_iconst (pc := 51) (v := -1) dX11_product_51 (by decide) ?_
        refine g_istore_n (pc := 52) (ls' := [_, _]) dX11_product_52 (by decide) rfl rfl ?_
        refine g_iload_n (pc := 53) dX11_product_53 rfl ?_
        refine g_iconst (pc := 54) (v := -1) dX11_product_54 (by decide) ?_
        refine g_icmp_ne (pc := 55) 59 dX11_product_55 (by decide) (fun c_55 => absurd rfl c_55) (fun c_55 => ?_)
        refine g_return (pc := 58) dX11_product_58 rfl ?_
        have hj : jnN 4 (sgI t n a) = 0 := by
          unfold jnN
          rw [if_neg (by decide), if_neg n0, if_neg n1, if_neg n2]
        have elw : lw t n (m + 1) 4 o a acc = .inr (bl t n a, acc) := by
          show (if _ then _ else _) = _
          rw [if_neg (by decide), if_neg (by decide), if_pos hj]
        refine ⟨rfl, _, hI, hF, rd.a4, ?_⟩
        rw [elw]
        exact ⟨hs1.2.1, hs1.1, hs1.2.2.1, hs1.2.2.2.1⟩
      · have y0 : sgI t n a = 37 := of_decide_eq_true c_43
        rw [if_pos y0] at hI
        have hlt := sg_lt (by decide) y0
        have hj : jnN 4 (sgI t n a) = 6 := by
          unfold jnN
          rw [if_neg (by decide), if_neg n0, if_neg n1, if_pos y0]
        have elw : lw t n (m + 1) 4 o a acc = pB (lw t n m 2 o (bl t n a + 1) []) fun p c => lw t n m 4 o p (acc ++ c ++ [(nI 6, 0)]) := by
          show (if _ then _ else _) = _
          rw [if_neg (by decide), if_neg (by decide), if_neg (by rw [hj]; decide), hj]
        rw [elw]
        have hs2 := hs.at (b := bl t n a + 1) (by omega) (by omega)
        have hcl := hs.2.2.2.2.1
        refine g_bipush (pc := 46) (v := 6) dX11_product_46 (by decide) ?_
        refine g_goto (pc := 48) 52 dX11_product_48 (by decide) ?_
        refine g_istore_n (pc := 52) (ls' := [_, _]) dX11_product_52 (by decide) rfl rfl ?_
        refine g_iload_n (pc := 53) dX11_product_53 rfl ?_
        refine g_iconst (pc := 54) (v := -1) dX11_product_54 (by decide) ?_
        refine g_icmp_ne (pc := 55) 59 dX11_product_55 (by decide) (fun c_55 => ?_) (fun c_55 => absurd c_55 (by decide))
        refine g_aload_n (pc := 59) dX11_product_59 rfl ?_
        refine m_cX (pc := 60) (M' := mX11_one) (as := []) i_X11_227_11 eX11_one hI dX11_product_60 (((ih (d - 1) _ h o (bl t n a + 1) (cs ++ acc) hI hs2).2.2 (by omega) (by omega))) (by omega) rfl rfl (Nat.le_of_ble_eq_true rfl) (fun r9 h9 q9 => ?_)
        obtain ⟨rfl, V2, hI, fr, rd2, q9⟩ := q9
        refine ⟨none, rfl, ?_⟩
        replace hF := mFr.tr hF fr
        cases ex : lw t n m 2 o (bl t n a + 1) [] with
        | inl e =>
          rw [ex] at q9
          obtain ⟨f5, f6, fk, fp⟩ := q9
          have hne : ¬ V2 0 5 = 0 := by rw [f5]; exact nI_ne0 (by omega) (by omega)
          refine g_aload_n (pc := 63) dX11_product_63 rfl ?_
          refine g_iload_n (pc := 64) dX11_product_64 rfl ?_
          refine g_iconst (pc := 65) (v := 0) dX11_product_65 (by decide) ?_
          refine m_cVv (pc := 66) (M' := mX11_notes) (as := [_, _]) i_X11_224_11 eX11_notes hI dX11_product_66 (c_notes1 hI hne _ _) (by omega) rfl rfl (Nat.le_of_ble_eq_true rfl) (fun h hI fr => ?_)
          replace hF := mFr.tr hF fr
          refine g_goto (pc := 69) 4 dX11_product_69 (by decide) ?_
          refine g_aload_n (pc := 4) dX11_product_4 rfl ?_
          refine g_getfield (pc := 5) f_X11_119_11 dX11_product_5 hI.1 mf_5 ?_
          refine g_if_ne (pc := 8) 72 dX11_product_8 (by decide) (fun c_8 => ?_) (fun c_8 => absurd c_8 hne)
          refine g_return (pc := 72) dX11_product_72 rfl ?_
          exact ⟨rfl, _, hI, hF, (rd.a4).tr rd2, f5, f6, fk, fp⟩
        | inr q =>
          obtain ⟨p, c⟩ := q
          rw [ex] at q9
          obtain ⟨f5, fp, f8, fl⟩ := q9
          obtain ⟨g1, g2, -⟩ := lw_ok m 2 o (bl t n a + 1) [] p c (by omega) (by omega) ex
          have g3 := g2 (by omega)
          have hs3 : lwS V2 t n p o (cs ++ acc ++ c) := ⟨fp, f5, f8, fl, by simp at *; omega, hs.2.2.2.2.2.1, hs.2.2.2.2.2.2⟩
          have hs4 := noV_lwS (w := nI 6) (v := 0) hs3 (by simp at *; omega)
          refine g_aload_n (pc := 63) dX11_product_63 rfl ?_
          refine g_iload_n (pc := 64) dX11_product_64 rfl ?_
          refine g_iconst (pc := 65) (v := 0) dX11_product_65 (by decide) ?_
          refine m_cVv (pc := 66) (M' := mX11_notes) (as := [_, _]) i_X11_224_11 eX11_notes hI dX11_product_66 (c_notes hI hs3 _ _) (by omega) rfl rfl (Nat.le_of_ble_eq_true rfl) (fun h hI fr => ?_)
          replace hF := mFr.tr hF fr
          refine g_goto (pc := 69) 4 dX11_product_69 (by decide) ?_
          rw [show cs ++ acc ++ c ++ [(nI 6, 0)] = cs ++ (acc ++ c ++ [(nI 6, 0)]) by simp] at hs4
          exact ((ihb d bc bs _ V0 h h0 o p cs _ _ hI hF (noV_rd ((rd.a4).tr rd2) (by have := hs3.2.2.2.2.1; have := hs3.2.2.2.2.2.1; omega)) hs4 (by omega)).2 (by omega))
    · have y0 : sgI t n a = 47 := of_decide_eq_true c_30
      rw [if_pos y0] at hI
      have hlt := sg_lt (by decide) y0
      have hj : jnN 4 (sgI t n a) = 5 := by
        unfold jnN
        rw [if_neg (by decide), if_neg n0, if_pos y0]
      have elw : lw t n (m + 1) 4 o a acc = pB (lw t n m 2 o (bl t n a + 1) []) fun p c => lw t n m 4 o p (acc ++ c ++ [(nI 5, 0)]) := by
        show (if _ then _ else _) = _
        rw [if_neg (by decide), if_neg (by decide), if_neg (by rw [hj]; decide), hj]
      rw [elw]
      have hs2 := hs.at (b := bl t n a + 1) (by omega) (by omega)
      have hcl := hs.2.2.2.2.1
      refine g_iconst (pc := 33) (v := 5) dX11_product_33 (by decide) ?_
      refine g_goto (pc := 34) 52 dX11_product_34 (by decide) ?_
      refine g_istore_n (pc := 52) (ls' := [_, _]) dX11_product_52 (by decide) rfl rfl ?_
      refine g_iload_n (pc := 53) dX11_product_53 rfl ?_
      refine g_iconst (pc := 54) (v := -1) dX11_product_54 (by decide) ?_
      refine g_icmp_ne (pc := 55) 59 dX11_product_55 (by decide) (fun c_55 => ?_) (fun c_55 => absurd c_55 (by decide))
      refine g_aload_n (pc := 59) dX11_product_59 rfl ?_
      refine m_cX (pc := 60) (M' := mX11_one) (as := []) i_X11_227_11 eX11_one hI dX11_product_60 (((ih (d - 1) _ h o (bl t n a + 1) (cs ++ acc) hI hs2).2.2 (by omega) (by omega))) (by omega) rfl rfl (Nat.le_of_ble_eq_true rfl) (fun r9 h9 q9 => ?_)
      obtain ⟨rfl, V2, hI, fr, rd2, q9⟩ := q9
      refine ⟨none, rfl, ?_⟩
      replace hF := mFr.tr hF fr
      cases ex : lw t n m 2 o (bl t n a + 1) [] with
      | inl e =>
        rw [ex] at q9
        obtain ⟨f5, f6, fk, fp⟩ := q9
        have hne : ¬ V2 0 5 = 0 := by rw [f5]; exact nI_ne0 (by omega) (by omega)
        refine g_aload_n (pc := 63) dX11_product_63 rfl ?_
        refine g_iload_n (pc := 64) dX11_product_64 rfl ?_
        refine g_iconst (pc := 65) (v := 0) dX11_product_65 (by decide) ?_
        refine m_cVv (pc := 66) (M' := mX11_notes) (as := [_, _]) i_X11_224_11 eX11_notes hI dX11_product_66 (c_notes1 hI hne _ _) (by omega) rfl rfl (Nat.le_of_ble_eq_true rfl) (fun h hI fr => ?_)
        replace hF := mFr.tr hF fr
        refine g_goto (pc := 69) 4 dX11_product_69 (by decide) ?_
        refine g_aload_n (pc := 4) dX11_product_4 rfl ?_
        refine g_getfield (pc := 5) f_X11_119_11 dX11_product_5 hI.1 mf_5 ?_
        refine g_if_ne (pc := 8) 72 dX11_product_8 (by decide) (fun c_8 => ?_) (fun c_8 => absurd c_8 hne)
        refine g_return (pc := 72) dX11_product_72 rfl ?_
        exact ⟨rfl, _, hI, hF, (rd.a4).tr rd2, f5, f6, fk, fp⟩
      | inr q =>
        obtain ⟨p, c⟩ := q
        rw [ex] at q9
        obtain ⟨f5, fp, f8, fl⟩ := q9
        obtain ⟨g1, g2, -⟩ := lw_ok m 2 o (bl t n a + 1) [] p c (by omega) (by omega) ex
        have g3 := g2 (by omega)
        have hs3 : lwS V2 t n p o (cs ++ acc ++ c) := ⟨fp, f5, f8, fl, by simp at *; omega, hs.2.2.2.2.2.1, hs.2.2.2.2.2.2⟩
        have hs4 := noV_lwS (w := nI 5) (v := 0) hs3 (by simp at *; omega)
        refine g_aload_n (pc := 63) dX11_product_63 rfl ?_
        refine g_iload_n (pc := 64) dX11_product_64 rfl ?_
        refine g_iconst (pc := 65) (v := 0) dX11_product_65 (by decide) ?_
        refine m_cVv (pc := 66) (M' := mX11_notes) (as := [_, _]) i_X11_224_11 eX11_notes hI dX11_product_66 (c_notes hI hs3 _ _) (by omega) rfl rfl (Nat.le_of_ble_eq_true rfl) (fun h hI fr => ?_)
        replace hF := mFr.tr hF fr
        refine g_goto (pc := 69) 4 dX11_product_69 (by decide) ?_
        rw [show cs ++ acc ++ c ++ [(nI 5, 0)] = cs ++ (acc ++ c ++ [(nI 5, 0)]) by simp] at hs4
        exact ((ihb d bc bs _ V0 h h0 o p cs _ _ hI hF (noV_rd ((rd.a4).tr rd2) (by have := hs3.2.2.2.2.1; have := hs3.2.2.2.2.2.1; omega)) hs4 (by omega)).2 (by omega))
  · have y0 : sgI t n a = 42 := of_decide_eq_true c_17
    rw [if_pos y0] at hI
    have hlt := sg_lt (by decide) y0
    have hj : jnN 4 (sgI t n a) = 4 := by
      unfold jnN
      rw [if_neg (by decide), if_pos y0]
    have elw : lw t n (m + 1) 4 o a acc = pB (lw t n m 2 o (bl t n a + 1) []) fun p c => lw t n m 4 o p (acc ++ c ++ [(nI 4, 0)]) := by
      show (if _ then _ else _) = _
      rw [if_neg (by decide), if_neg (by decide), if_neg (by rw [hj]; decide), hj]
    rw [elw]
    have hs2 := hs.at (b := bl t n a + 1) (by omega) (by omega)
    have hcl := hs.2.2.2.2.1
    refine g_iconst (pc := 20) (v := 4) dX11_product_20 (by decide) ?_
    refine g_goto (pc := 21) 52 dX11_product_21 (by decide) ?_
    refine g_istore_n (pc := 52) (ls' := [_, _]) dX11_product_52 (by decide) rfl rfl ?_
    refine g_iload_n (pc := 53) dX11_product_53 rfl ?_
    refine g_iconst (pc := 54) (v := -1) dX11_product_54 (by decide) ?_
    refine g_icmp_ne (pc := 55) 59 dX11_product_55 (by decide) (fun c_55 => ?_) (fun c_55 => absurd c_55 (by decide))
    refine g_aload_n (pc := 59) dX11_product_59 rfl ?_
    refine m_cX (pc := 60) (M' := mX11_one) (as := []) i_X11_227_11 eX11_one hI dX11_product_60 (((ih (d - 1) _ h o (bl t n a + 1) (cs ++ acc) hI hs2).2.2 (by omega) (by omega))) (by omega) rfl rfl (Nat.le_of_ble_eq_true rfl) (fun r9 h9 q9 => ?_)
    obtain ⟨rfl, V2, hI, fr, rd2, q9⟩ := q9
    refine ⟨none, rfl, ?_⟩
    replace hF := mFr.tr hF fr
    cases ex : lw t n m 2 o (bl t n a + 1) [] with
    | inl e =>
      rw [ex] at q9
      obtain ⟨f5, f6, fk, fp⟩ := q9
      have hne : ¬ V2 0 5 = 0 := by rw [f5]; exact nI_ne0 (by omega) (by omega)
      refine g_aload_n (pc := 63) dX11_product_63 rfl ?_
      refine g_iload_n (pc := 64) dX11_product_64 rfl ?_
      refine g_iconst (pc := 65) (v := 0) dX11_product_65 (by decide) ?_
      refine m_cVv (pc := 66) (M' := mX11_notes) (as := [_, _]) i_X11_224_11 eX11_notes hI dX11_product_66 (c_notes1 hI hne _ _) (by omega) rfl rfl (Nat.le_of_ble_eq_true rfl) (fun h hI fr => ?_)
      replace hF := mFr.tr hF fr
      refine g_goto (pc := 69) 4 dX11_product_69 (by decide) ?_
      refine g_aload_n (pc := 4) dX11_product_4 rfl ?_
      refine g_getfield (pc := 5) f_X11_119_11 dX11_product_5 hI.1 mf_5 ?_
      refine g_if_ne (pc := 8) 72 dX11_product_8 (by decide) (fun c_8 => ?_) (fun c_8 => absurd c_8 hne)
      refine g_return (pc := 72) dX11_product_72 rfl ?_
      exact ⟨rfl, _, hI, hF, (rd.a4).tr rd2, f5, f6, fk, fp⟩
    | inr q =>
      obtain ⟨p, c⟩ := q
      rw [ex] at q9
      obtain ⟨f5, fp, f8, fl⟩ := q9
      obtain ⟨g1, g2, -⟩ := lw_ok m 2 o (bl t n a + 1) [] p c (by omega) (by omega) ex
      have g3 := g2 (by omega)
      have hs3 : lwS V2 t n p o (cs ++ acc ++ c) := ⟨fp, f5, f8, fl, by simp at *; omega, hs.2.2.2.2.2.1, hs.2.2.2.2.2.2⟩
      have hs4 := noV_lwS (w := nI 4) (v := 0) hs3 (by simp at *; omega)
      refine g_aload_n (pc := 63) dX11_product_63 rfl ?_
      refine g_iload_n (pc := 64) dX11_product_64 rfl ?_
      refine g_iconst (pc := 65) (v := 0) dX11_product_65 (by decide) ?_
      refine m_cVv (pc := 66) (M' := mX11_notes) (as := [_, _]) i_X11_224_11 eX11_notes hI dX11_product_66 (c_notes hI hs3 _ _) (by omega) rfl rfl (Nat.le_of_ble_eq_true rfl) (fun h hI fr => ?_)
      replace hF := mFr.tr hF fr
      refine g_goto (pc := 69) 4 dX11_product_69 (by decide) ?_
      rw [show cs ++ acc ++ c ++ [(nI 4, 0)] = cs ++ (acc ++ c ++ [(nI 4, 0)]) by simp] at hs4
      exact ((ihb d bc bs _ V0 h h0 o p cs _ _ hI hF (noV_rd ((rd.a4).tr rd2) (by have := hs3.2.2.2.2.1; have := hs3.2.2.2.2.2.1; omega)) hs4 (by omega)).2 (by omega))
end
