/-! THE REFERENCE: a house is read. Printed by m_r2.py -/
set_option maxRecDepth 100000
/-- what reading may change -/
def rdX (r j : Nat) : Prop := (r = 0 ∧ (j = 2 ∨ j = 4 ∨ j = 5 ∨ j = 6 ∨ j = 7 ∨ j = 8 ∨ j = 22 ∨ j = 30)) ∨ r = 11 ∨ r = 13 ∨ r = 15 ∨ (17000 ≤ r ∧ r < 18000) ∨ (19000 ≤ r ∧ r < 20000) ∨ (24000 ≤ r ∧ r < 25000) ∨ (26000 ≤ r ∧ r < 27000) ∨ (29000 ≤ r ∧ r < 30000)
def rdE (V V' : mV) : Prop := ∀ r j, ¬ rdX r j → V' r j = V r j
theorem rdE.rf {V : mV} : rdE V V := fun _ _ _ => rfl
theorem rdE.tr {A B C : mV} (h : rdE A B) (k : rdE B C) : rdE A C := fun r j q => (k r j q).trans (h r j q)
theorem rdE.svv {V V' : mV} {r j : Nat} {y : Int32} (h : rdE V V') (hx : rdX r j) : rdE V (sv V' r j y) := fun r' j' q => by
  rw [sv_at, if_neg (fun e => q (by rw [e.1, e.2]; exact hx))]
  exact h r' j' q
theorem rdE.a4 {V V' : mV} {y : Int32} (h : rdE V V') : rdE V (sv V' 0 4 y) := h.svv (r := 0) (j := 4) (Or.inl ⟨rfl, by omega⟩)
theorem rdE.a5 {V V' : mV} {y : Int32} (h : rdE V V') : rdE V (sv V' 0 5 y) := h.svv (r := 0) (j := 5) (Or.inl ⟨rfl, by omega⟩)
theorem rdE.a6 {V V' : mV} {y : Int32} (h : rdE V V') : rdE V (sv V' 0 6 y) := h.svv (r := 0) (j := 6) (Or.inl ⟨rfl, by omega⟩)
theorem rdE.a7 {V V' : mV} {y : Int32} (h : rdE V V') : rdE V (sv V' 0 7 y) := h.svv (r := 0) (j := 7) (Or.inl ⟨rfl, by omega⟩)
theorem rdE.a8 {V V' : mV} {y : Int32} (h : rdE V V') : rdE V (sv V' 0 8 y) := h.svv (r := 0) (j := 8) (Or.inl ⟨rfl, by omega⟩)
/-- the read house -/
def HR (V : mV) (g : HD) : Prop := V 11 0 = nI (gS g) ∧ V 11 1 = nI (gR g) ∧ V 11 2 = nI (gP g) ∧ (∀ r, r < gR g → V (1000 * 17 + r) 0 = nI (gD g 0 r) ∧ V (1000 * 17 + r) 1 = nI (gD g 1 r) ∧ V (1000 * 17 + r) 2 = nI (gD g 2 r)) ∧ (∀ p, p < gP g → V (1000 * 19 + p) 0 = nI (gD g 3 p) ∧ V (1000 * 19 + p) 1 = nI (gD g 4 p)) ∧ (∀ s, s < gS g → V 13 s = nI (gD g 5 s)) ∧ (∀ s, s < 8 → V 15 s = gW g s) ∧ okH g
theorem HR.of {V V' : mV} {g : HD} (h : HR V g) (e : ∀ r, (r = 11 ∨ r = 13 ∨ r = 15 ∨ (17000 ≤ r ∧ r < 17010) ∨ (19000 ≤ r ∧ r < 19008)) → V' r = V r) : HR V' g := by
  obtain ⟨h1, h2, h3, h4, h5, h6, h7, h8⟩ := h
  have b1 := h8.2.1
  have b2 := h8.2.2.1
  refine ⟨by rw [e 11 (by omega)]; exact h1, by rw [e 11 (by omega)]; exact h2, by rw [e 11 (by omega)]; exact h3, fun r hr => ?_, fun p hp => ?_, by rw [e 13 (by omega)]; exact h6, by rw [e 15 (by omega)]; exact h7, h8⟩
  · rw [e (1000 * 17 + r) (by omega)]; exact h4 r hr
  · rw [e (1000 * 19 + p) (by omega)]; exact h5 p hp
/-- a reader's end: the fault is noted, or the place is reached -/
def rdQ {α : Type} (am : Nat → Nat) (V : mV) (h : jH) (t : Nat → Nat) (n : Nat) (x : pR α) (F : mV → α → Prop) : jR → jH → Prop := fun r h' => r = .inl none ∧ ∃ V', InvM am V' h' ∧ mFr h h' ∧ rdE V V' ∧ match x with
  | .inl e => V' 0 5 = nI e.1 ∧ V' 0 6 = nI e.2 ∧ (1 ≤ e.1 ∧ e.1 ≤ 3) ∧ ∃ b, PS V' t n b
  | .inr q => V' 0 5 = 0 ∧ PS V' t n q.1 ∧ F V' q.2
theorem nuV_0 {V : mV} {t : Nat → Nat} {n a : Nat} {lo hi : Int32} (h : nuK t n lo hi a = 0) : nuV V t n lo hi a = sv V 0 4 (nI (nuE t n a).1) := if_pos h
theorem nuX_0 {t : Nat → Nat} {n a : Nat} {lo hi : Int32} (h : nuK t n lo hi a = 0) : nuX t n lo hi a = nI (nuE t n a).2 := if_pos h
theorem nuV_1 {V : mV} {t : Nat → Nat} {n a : Nat} {lo hi : Int32} (h : ¬ nuK t n lo hi a = 0) : nuV V t n lo hi a = sv (sv (sv V 0 4 (nI (nuE t n a).1)) 0 5 (nI (nuK t n lo hi a))) 0 6 (nI (bl t n a)) := if_neg h
theorem nuX_1 {t : Nat → Nat} {n a : Nat} {lo hi : Int32} (h : ¬ nuK t n lo hi a = 0) : nuX t n lo hi a = 0 := if_neg h
/-- a fault is noted -/
def FS (t : Nat → Nat) (n : Nat) (V0 V : mV) (k p : Nat) : Prop := V 0 5 = nI k ∧ V 0 6 = nI p ∧ (1 ≤ k ∧ k ≤ 3) ∧ rdE V0 V ∧ ∃ b, PS V t n b
theorem FS.ne {t : Nat → Nat} {n : Nat} {V0 V : mV} {k p : Nat} (h : FS t n V0 V k p) : ¬ V 0 5 = 0 := by rw [h.1]; exact nI_ne0 (by have := h.2.2.1; omega) (by have := h.2.2.1; omega)
theorem rdX9 {r j : Nat} (h : rdX r j) : r ≠ 9 := by
  unfold rdX at h
  omega
theorem FS.row {t : Nat → Nat} {n : Nat} {V0 V : mV} {k p r j : Nat} {y : Int32} (h : FS t n V0 V k p) (hr : r ≠ 0) (hx : rdX r j) : FS t n V0 (sv V r j y) k p := ⟨by rw [sv_ne (fun e => hr e.symm)]; exact h.1, by rw [sv_ne (fun e => hr e.symm)]; exact h.2.1, h.2.2.1, h.2.2.2.1.svv hx, h.2.2.2.2.imp (fun b hb => hb.out (rdX9 hx) (fun e => absurd e hr))⟩
theorem FS.rowI {am : Nat → Nat} {h : jH} {t : Nat → Nat} {n : Nat} {V0 V : mV} {k p r j : Nat} {y : Int32} (_hI : InvM am (sv V r j y) h) (h : FS t n V0 V k p) (hr : r ≠ 0) (hx : rdX r j) : FS t n V0 (sv V r j y) k p := h.row hr hx
/-- a number, read: good or not -/
theorem num_cases {V0 V : mV} {t : Nat → Nat} {n a : Nat} {lo hi : Int32} (ha : a ≤ n) (hp : PS V t n a) (hf : V 0 5 = 0) (rd : rdE V0 V) {P : Prop} (h1 : ∀ k p, nuP t n lo hi a = .inl (k, p) → FS t n V0 (nuV V t n lo hi a) k p → nuX t n lo hi a = 0 → P)
    (h2 : ∀ p v, nuP t n lo hi a = .inr (p, v) → nuV V t n lo hi a = sv V 0 4 (nI p) → nuX t n lo hi a = nI v → v ≤ 100000 → inR (nI v) lo hi = true → p ≤ n → PS (sv V 0 4 (nI p)) t n p → rdE V0 (sv V 0 4 (nI p)) → sv V 0 4 (nI p) 0 5 = 0 → P) : P := by
  cases e : nuP t n lo hi a with
  | inl q =>
    obtain ⟨k, p⟩ := q
    obtain ⟨e1, e2, e3⟩ := nuP_no e
    have hk : ¬ nuK t n lo hi a = 0 := by rw [e1]; omega
    refine h1 k p e ?_ (nuX_1 hk)
    rw [nuV_1 hk, e1, e2]
    have hl := nuF_le t (n - bl t n a) (bl t n a) 0 (by decide)
    have hb := bl_le (t := t) ha
    have he : (nuE t n a).1 ≤ n := by
      have : (nuF t (n - bl t n a) (bl t n a) 0).1 ≤ n := by omega
      exact this
    exact ⟨by rw [sv_nj (by decide), sv_same], sv_same, by omega, rd.a4.a5.a6, _, ((hp.at he).out (by decide) (fun _ => by decide)).out (by decide) (fun _ => by decide)⟩
  | inr q =>
    obtain ⟨p, v⟩ := q
    obtain ⟨e1, e2, e3, e4, e5, e6, e7⟩ := nuP_ok ha e
    refine h2 p v e (by rw [nuV_0 e1, e2]) (by rw [nuX_0 e1, e3]) e4 e5 e7 (hp.at e7) (rd.svv (Or.inl ⟨rfl, by omega⟩)) (by rw [sv_nj (by decide)]; exact hf)
section
variable {E : jE} {d : Nat} {h : jH} {am : Nat → Nat} {V : mV} {t : Nat → Nat} {n a : Nat}
theorem c_number1 (hI : InvM am V h) (hf : ¬ V 0 5 = 0) (lo hi : Int32) : Ct E d 0 0 mX11_number [vR (nMo am), vI lo, vI hi] h (qR (some (vI 0)) h) := by
  refine ct_of (by decide) (Nat.le_of_ble_eq_true rfl) rfl ?_
  refine g_aload_n (pc := 0) dX11_number_0 rfl ?_
  refine g_getfield (pc := 1) f_X11_119_11 dX11_number_1 hI.1 mf_5 ?_
  refine g_if_eq (pc := 4) 9 dX11_number_4 (by decide) (fun c_4 => absurd c_4 hf) (fun c_4 => ?_)
  refine g_iconst (pc := 7) (v := 0) dX11_number_7 (by decide) ?_
  refine g_ireturn (pc := 8) dX11_number_8 rfl (by first | exact rfl | exact j_nb _) ?_
  exact ⟨rfl, rfl⟩
set_option maxHeartbeats 4000000 in
set_option maxHeartbeats 4000000 in
theorem l_clause0 {bc bs : Nat} {h0 : jH} {V0 : mV} {g : HD} {c : Nat} (hd : 4 ≤ d) (hI : InvM am V h) (hF : mFr h0 h) (hp : PS V t n a) (hf : V 0 5 = 0) (rd : rdE V0 V) (hR : HR V g) (h7 : V 0 7 = nI c) (hlim : gS g < 8) : G E d bc bs mX11_clause 96 [some (vR (nMo am)), some (vI (nI 0)), some (vI (nI (gS g))), none, none] [] h (rdQ am V0 h0 t n (clK t n g 0 a) (fun V' g' => V' 0 7 = nI c ∧ HR V' g')) := by
  have okh := hR.2.2.2.2.2.2.2
  have b8 := okh.1
  have b10 := okh.2.1
  have bP := okh.2.2.1
  have han := hp.2.2.2.2
  obtain ⟨nn, hnn⟩ : ∃ nn, nn = gS g := ⟨_, rfl⟩
  rw [← hnn]
  rw [← hnn] at hlim
  refine g_iload_n (pc := 96) dX11_clause_96 rfl ?_
  refine g_tableIn (pc := 97) (off := 27) 124 dX11_clause_97 (by decide) (by decide) (by decide) (by decide) ?_
  have h110 := hR.1
  have h11k : V 11 0 = nI nn := by rw [hnn]; exact hR.1
  refine g_aload_n (pc := 124) dX11_clause_124 rfl ?_
  refine g_getfield (pc := 125) f_X11_26_11 dX11_clause_125 hI.1 mf_13 ?_
  refine g_iload_n (pc := 128) dX11_clause_128 rfl ?_
  refine g_aload_n (pc := 129) dX11_clause_129 rfl ?_
  refine g_iconst (pc := 130) (v := 0) dX11_clause_130 (by decide) ?_
  refine g_bipush (pc := 131) (v := 15) dX11_clause_131 (by decide) ?_
  refine m_cV (pc := 133) (M' := mX11_number) (as := [_, _]) i_X11_175_11 eX11_number hI dX11_clause_133 (c_number (by omega) hI hp hf _ _) (by omega) rfl rfl (Nat.le_of_ble_eq_true rfl) (fun h hI fr => ?_)
  replace hF := mFr.tr hF fr
  refine num_cases (lo := 0) (hi := 15) hp.2.2.2.2 hp hf rd (fun kk pp ex0 fs ez => ?_) (fun p0 aa ex0 ev ez hv0 hin0 hpn hp2 rd2 hf2 => ?_)
  · rw [ez]
    refine m_iast (pc := 136) (k := 13) (n := 8) hI rfl (by decide) dX11_clause_136 (j := nn) rfl (by omega) (by decide) (fun h hI fr => ?_)
    replace hF := mFr.tr hF fr
    replace fs := FS.rowI hI fs (by omega) (Or.inr (Or.inr (Or.inl rfl)))
    refine g_goto (pc := 137) 272 dX11_clause_137 (by decide) ?_
    refine g_iload_n (pc := 272) dX11_clause_272 rfl ?_
    refine g_iconst (pc := 273) (v := 3) dX11_clause_273 (by decide) ?_
    refine g_icmp_ge (pc := 274) 298 dX11_clause_274 (by decide) (fun c_274 => absurd c_274 (by decide)) (fun c_274 => ?_)
    refine g_aload_n (pc := 277) dX11_clause_277 rfl ?_
    refine g_getfield (pc := 278) f_X11_20_11 dX11_clause_278 hI.1 mf_11 ?_
    refine g_iload_n (pc := 281) dX11_clause_281 rfl ?_
    refine g_dup2 (pc := 282) dX11_clause_282 rfl rfl ?_
    refine g_iaload (pc := 283) dX11_clause_283 (mA hI 11 3 rfl (by decide)) (j := 0) rfl (by omega) (by decide) rfl ?_
    refine g_aload_n (pc := 284) dX11_clause_284 rfl ?_
    refine g_getfield (pc := 285) f_X11_119_11 dX11_clause_285 hI.1 mf_5 ?_
    refine g_if_ne (pc := 288) 295 dX11_clause_288 (by decide) (fun c_288 => ?_) (fun c_288 => absurd c_288 fs.ne)
    refine g_iconst (pc := 295) (v := 0) dX11_clause_295 (by decide) ?_
    refine g_iadd (pc := 296) dX11_clause_296 ?_
    refine m_iast (pc := 297) (k := 11) (n := 3) hI rfl (by decide) dX11_clause_297 (j := 0) rfl (by omega) (by decide) (fun h hI fr => ?_)
    replace hF := mFr.tr hF fr
    replace fs := FS.rowI hI fs (by decide) (Or.inr (Or.inl rfl))
    refine g_aload_n (pc := 298) dX11_clause_298 rfl ?_
    refine g_bipush (pc := 299) (v := 59) dX11_clause_299 (by decide) ?_
    refine m_cVv (pc := 301) (M' := mX11_sign) (as := [_]) i_X11_179_11 eX11_sign hI dX11_clause_301 (c_sign1 hI fs.ne _) (by omega) rfl rfl (Nat.le_of_ble_eq_true rfl) (fun h hI fr => ?_)
    replace hF := mFr.tr hF fr
    refine g_return (pc := 304) dX11_clause_304 rfl ?_
    refine ⟨rfl, _, hI, hF, fs.2.2.2.1, ?_⟩
    have ex : clK t n g 0 a = .inl (kk, pp) := by
      unfold clK
      rw [if_pos rfl]
      rw [ex0]
      try simp only [pB]
    rw [ex]
    exact ⟨fs.1, fs.2.1, fs.2.2.1, fs.2.2.2.2⟩
  · rw [ez]
    rw [ev] at hI
    replace hp := hp2
    replace rd := rd2
    replace hf := hf2
    replace h110 : sv _ 0 4 (nI p0) 11 0 = nI (gS g) := (congrFun (sv_ne (by decide)) 0).trans h110
    replace h11k : sv _ 0 4 (nI p0) 11 0 = nI nn := (congrFun (sv_ne (by decide)) 0).trans h11k
    replace h7 : sv _ 0 4 (nI p0) 0 7 = nI c := (sv_nj (by decide)).trans h7
    refine m_iast (pc := 136) (k := 13) (n := 8) hI rfl (by decide) dX11_clause_136 (j := nn) rfl (by omega) (by decide) (fun h hI fr => ?_)
    replace hF := mFr.tr hF fr
    replace hp := hp.out (r := 13) (j := nn) (y := nI aa) (by omega) (fun e => by omega)
    replace rd := rd.svv (r := 13) (j := nn) (y := nI aa) (Or.inr (Or.inr (Or.inl rfl)))
    replace hf : sv _ (13) (nn) (nI aa) 0 5 = 0 := (congrFun (sv_ne (show 0 ≠ 13 by omega)) 5).trans hf
    replace h110 : sv _ (13) (nn) (nI aa) 11 0 = nI (gS g) := (congrFun (sv_ne (show 11 ≠ 13 by omega)) 0).trans h110
    replace h11k : sv _ (13) (nn) (nI aa) 11 0 = nI nn := (congrFun (sv_ne (show 11 ≠ 13 by omega)) 0).trans h11k
    replace h7 : sv _ (13) (nn) (nI aa) 0 7 = nI c := (congrFun (sv_ne (show 0 ≠ 13 by omega)) 7).trans h7
    refine g_goto (pc := 137) 272 dX11_clause_137 (by decide) ?_
    refine g_iload_n (pc := 272) dX11_clause_272 rfl ?_
    refine g_iconst (pc := 273) (v := 3) dX11_clause_273 (by decide) ?_
    refine g_icmp_ge (pc := 274) 298 dX11_clause_274 (by decide) (fun c_274 => absurd c_274 (by decide)) (fun c_274 => ?_)
    refine g_aload_n (pc := 277) dX11_clause_277 rfl ?_
    refine g_getfield (pc := 278) f_X11_20_11 dX11_clause_278 hI.1 mf_11 ?_
    refine g_iload_n (pc := 281) dX11_clause_281 rfl ?_
    refine g_dup2 (pc := 282) dX11_clause_282 rfl rfl ?_
    refine g_iaload (pc := 283) dX11_clause_283 (mA hI 11 3 rfl (by decide)) (j := 0) rfl (by omega) (by decide) rfl ?_
    rw [h11k]
    refine g_aload_n (pc := 284) dX11_clause_284 rfl ?_
    refine g_getfield (pc := 285) f_X11_119_11 dX11_clause_285 hI.1 mf_5 ?_
    refine g_if_ne (pc := 288) 295 dX11_clause_288 (by decide) (fun c_288 => absurd hf c_288) (fun c_288 => ?_)
    refine g_iconst (pc := 291) (v := 1) dX11_clause_291 (by decide) ?_
    refine g_goto (pc := 292) 296 dX11_clause_292 (by decide) ?_
    
    refine g_iadd (pc := 296) dX11_clause_296 ?_
    refine m_iast (pc := 297) (k := 11) (n := 3) hI rfl (by decide) dX11_clause_297 (j := 0) rfl (by omega) (by decide) (fun h hI fr => ?_)
    replace hF := mFr.tr hF fr
    replace hp := hp.out (r := 11) (j := 0) (y := nI nn + 1) (by decide) (fun e => by cases e)
    replace rd := rd.svv (r := 11) (j := 0) (y := nI nn + 1) (Or.inr (Or.inl rfl))
    replace hf : sv _ 11 0 (nI nn + 1) 0 5 = 0 := (congrFun (sv_ne (by decide)) 5).trans hf
    replace h7 : sv _ 11 0 (nI nn + 1) 0 7 = nI c := (congrFun (sv_ne (by decide)) 7).trans h7
    refine g_aload_n (pc := 298) dX11_clause_298 rfl ?_
    refine g_bipush (pc := 299) (v := 59) dX11_clause_299 (by decide) ?_
    refine m_cVv (pc := 301) (M' := mX11_sign) (as := [_]) i_X11_179_11 eX11_sign hI dX11_clause_301 (c_sign (by omega) hI hp hf 59) (by omega) rfl rfl (Nat.le_of_ble_eq_true rfl) (fun h hI fr => ?_)
    replace hF := mFr.tr hF fr
    refine g_return (pc := 304) dX11_clause_304 rfl ?_
    refine ⟨rfl, _, hI, hF, ?_, ?_⟩
    · split
      · exact rd.a4
      · exact rd.a4.a5.a6
    have ex : clK t n g 0 a = clE t n (dU (gD g) 5 (gS g) aa, gW g, gS g + 1, gR g, gP g) p0 := by
      unfold clK
      rw [if_pos rfl]
      rw [ex0]
      try simp only [pB]
    rw [ex]
    by_cases q : sgI t n p0 = 59
    · rw [if_pos q, show clE t n (dU (gD g) 5 (gS g) aa, gW g, gS g + 1, gR g, gP g) p0 = .inr (bl t n p0 + 1, (dU (gD g) 5 (gS g) aa, gW g, gS g + 1, gR g, gP g)) by unfold clE sgP; rw [if_pos q]; rfl]
      have hb := bl_le (t := t) hp.2.2.2.2
      have hlt : bl t n p0 < n := by
        unfold sgI bN at q
        by_cases w : bl t n p0 < n
        · exact w
        · rw [if_neg w] at q; exact absurd q (by decide)
      refine ⟨(sv_nj (by decide)).trans hf, hp.at (by omega), (sv_nj (by decide)).trans h7, ?_⟩
      show HR _ (dU (gD g) 5 (gS g) aa, gW g, gS g + 1, gR g, gP g)
      have v15 := inR_n hv0 (by decide) (show (15 : Int32) = nI 15 from rfl) hin0
      obtain ⟨r1, r2, r3, r4, r5, r6, r7, o1, o2, o3, o4, o5, o6, o7⟩ := hR
      subst hnn
      refine ⟨?_, ?_, ?_, fun r hr => ?_, fun p hp => ?_, fun s hs => ?_, fun s hs => ?_, by show gS g + 1 ≤ 8; omega, o2, o3, fun r hr => ?_, fun p hp => ?_, fun s hs => ?_, fun s => ?_⟩
      · rw [sv_ne (by decide), sv_same, nI_1]
      · rw [sv_ne (by decide), sv_nj (by decide), sv_ne (by decide), sv_ne (by decide)]; exact r2
      · rw [sv_ne (by decide), sv_nj (by decide), sv_ne (by decide), sv_ne (by decide)]; exact r3
      · rw [sv_ne (by omega), sv_ne (by omega), sv_ne (by omega), sv_ne (by omega)]
        exact r4 r hr
      · rw [sv_ne (by omega), sv_ne (by omega), sv_ne (by omega), sv_ne (by omega)]
        exact r5 p hp
      · rw [sv_ne (by decide), sv_ne (by decide)]
        show _ = nI (dU (gD g) 5 (gS g) aa 5 s)
        by_cases w : s = gS g
        · rw [w, sv_same, dU_same]
        · rw [sv_nj w, sv_ne (by decide), dU_i w]
          exact r6 s (by have : s < gS g + 1 := hs; omega)
      · rw [sv_ne (by decide), sv_ne (by decide), sv_ne (by decide), sv_ne (by decide)]
        exact r7 s hs
      · have := o4 r hr
        show dU (gD g) 5 (gS g) aa 0 r < gS g + 1 ∧ dU (gD g) 5 (gS g) aa 1 r < 6 ∧ 1 ≤ dU (gD g) 5 (gS g) aa 2 r ∧ dU (gD g) 5 (gS g) aa 2 r ≤ 30
        rw [dU_k (by decide), dU_k (by decide), dU_k (by decide)]
        exact ⟨by have := this.1; omega, this.2⟩
      · exact o5 p hp
      · show dU (gD g) 5 (gS g) aa 5 s ≤ 15
        by_cases w : s = gS g
        · rw [w, dU_same]; exact v15
        · rw [dU_i w]; exact o6 s (by have : s < gS g + 1 := hs; omega)
      · exact (o7 s).imp id (fun ⟨j, h1, h2, h3⟩ => ⟨j, by show j < gS g + 1; omega, by show s < gS g + 1; omega, h3⟩)
    · rw [if_neg q, show clE t n (dU (gD g) 5 (gS g) aa, gW g, gS g + 1, gR g, gP g) p0 = .inl (1, bl t n p0) by unfold clE sgP; rw [if_neg q]; rfl]
      exact ⟨by rw [sv_nj (by decide), sv_same]; rfl, sv_same, ⟨Nat.le_of_ble_eq_true rfl, Nat.le_of_ble_eq_true rfl⟩, _, ((hp.at (bl_le (t := t) hp.2.2.2.2).2).out (by decide) (fun _ => by decide)).out (by decide) (fun _ => by decide)⟩
set_option maxHeartbeats 4000000 in
theorem l_clause1 {bc bs : Nat} {h0 : jH} {V0 : mV} {g : HD} {c : Nat} (hd : 4 ≤ d) (hI : InvM am V h) (hF : mFr h0 h) (hp : PS V t n a) (hf : V 0 5 = 0) (rd : rdE V0 V) (hR : HR V g) (h7 : V 0 7 = nI c) (hlim : gR g < 10) : G E d bc bs mX11_clause 96 [some (vR (nMo am)), some (vI (nI 1)), some (vI (nI (gR g))), none, none] [] h (rdQ am V0 h0 t n (clK t n g 1 a) (fun V' g' => V' 0 7 = nI c ∧ HR V' g')) := by
  have okh := hR.2.2.2.2.2.2.2
  have b8 := okh.1
  have b10 := okh.2.1
  have bP := okh.2.2.1
  have han := hp.2.2.2.2
  obtain ⟨nn, hnn⟩ : ∃ nn, nn = gR g := ⟨_, rfl⟩
  rw [← hnn]
  rw [← hnn] at hlim
  refine g_iload_n (pc := 96) dX11_clause_96 rfl ?_
  refine g_tableIn (pc := 97) (off := 43) 140 dX11_clause_97 (by decide) (by decide) (by decide) (by decide) ?_
  have h110 := hR.1
  have h11k : V 11 1 = nI nn := by rw [hnn]; exact hR.2.1
  refine g_aload_n (pc := 140) dX11_clause_140 rfl ?_
  refine g_getfield (pc := 141) f_X11_40_11 dX11_clause_141 hI.1 mf_17 ?_
  refine g_iload_n (pc := 144) dX11_clause_144 rfl ?_
  refine g_aaload (pc := 145) (t := 5) rfl rfl dX11_clause_145 (mG hI 17 10 rfl (by decide)) (j := nn) rfl (by omega) (by decide) rfl ?_
  refine g_iconst (pc := 146) (v := 0) dX11_clause_146 (by decide) ?_
  refine g_aload_n (pc := 147) dX11_clause_147 rfl ?_
  refine g_iconst (pc := 148) (v := 0) dX11_clause_148 (by decide) ?_
  refine g_aload_n (pc := 149) dX11_clause_149 rfl ?_
  refine g_getfield (pc := 150) f_X11_20_11 dX11_clause_150 hI.1 mf_11 ?_
  refine g_iconst (pc := 153) (v := 0) dX11_clause_153 (by decide) ?_
  refine g_iaload (pc := 154) dX11_clause_154 (mA hI 11 3 rfl (by decide)) (j := 0) (by decide) (by omega) (by decide) rfl ?_
  rw [h110]
  refine g_iconst (pc := 155) (v := 1) dX11_clause_155 (by decide) ?_
  refine g_isub (pc := 156) dX11_clause_156 ?_
  refine m_cV (pc := 157) (M' := mX11_number) (as := [_, _]) i_X11_175_11 eX11_number hI dX11_clause_157 (c_number (by omega) hI hp hf _ _) (by omega) rfl rfl (Nat.le_of_ble_eq_true rfl) (fun h hI fr => ?_)
  replace hF := mFr.tr hF fr
  refine num_cases (lo := 0) (hi := (nI (gS g) - 1)) hp.2.2.2.2 hp hf rd (fun kk pp ex0 fs ez => ?_) (fun p0 aa ex0 ev ez hv0 hin0 hpn hp2 rd2 hf2 => ?_)
  · rw [ez]
    refine m_rast (pc := 160) (k := 17) (n := 3) hI rfl (by show _ < 10; omega) dX11_clause_160 (j := 0) rfl (by omega) (by decide) (fun h hI fr => ?_)
    replace hF := mFr.tr hF fr
    replace fs := FS.rowI hI fs (by omega) (Or.inr (Or.inr (Or.inr (Or.inr (Or.inl (by omega))))))
    refine g_aload_n (pc := 161) dX11_clause_161 rfl ?_
    refine g_getfield (pc := 162) f_X11_40_11 dX11_clause_162 hI.1 mf_17 ?_
    refine g_iload_n (pc := 165) dX11_clause_165 rfl ?_
    refine g_aaload (pc := 166) (t := 5) rfl rfl dX11_clause_166 (mG hI 17 10 rfl (by decide)) (j := nn) rfl (by omega) (by decide) rfl ?_
    refine g_iconst (pc := 167) (v := 1) dX11_clause_167 (by decide) ?_
    refine g_aload_n (pc := 168) dX11_clause_168 rfl ?_
    refine g_iconst (pc := 169) (v := 0) dX11_clause_169 (by decide) ?_
    refine g_iconst (pc := 170) (v := 5) dX11_clause_170 (by decide) ?_
    refine m_cP (pc := 171) (M' := mX11_number) (as := [_, _]) i_X11_175_11 eX11_number hI dX11_clause_171 (c_number1 hI fs.ne _ _) (by omega) rfl rfl (Nat.le_of_ble_eq_true rfl) ?_
    refine m_rast (pc := 174) (k := 17) (n := 3) hI rfl (by show _ < 10; omega) dX11_clause_174 (j := 1) rfl (by omega) (by decide) (fun h hI fr => ?_)
    replace hF := mFr.tr hF fr
    replace fs := FS.rowI hI fs (by omega) (Or.inr (Or.inr (Or.inr (Or.inr (Or.inl (by omega))))))
    refine g_aload_n (pc := 175) dX11_clause_175 rfl ?_
    refine g_getfield (pc := 176) f_X11_40_11 dX11_clause_176 hI.1 mf_17 ?_
    refine g_iload_n (pc := 179) dX11_clause_179 rfl ?_
    refine g_aaload (pc := 180) (t := 5) rfl rfl dX11_clause_180 (mG hI 17 10 rfl (by decide)) (j := nn) rfl (by omega) (by decide) rfl ?_
    refine g_iconst (pc := 181) (v := 2) dX11_clause_181 (by decide) ?_
    refine g_aload_n (pc := 182) dX11_clause_182 rfl ?_
    refine g_iconst (pc := 183) (v := 1) dX11_clause_183 (by decide) ?_
    refine g_bipush (pc := 184) (v := 30) dX11_clause_184 (by decide) ?_
    refine m_cP (pc := 186) (M' := mX11_number) (as := [_, _]) i_X11_175_11 eX11_number hI dX11_clause_186 (c_number1 hI fs.ne _ _) (by omega) rfl rfl (Nat.le_of_ble_eq_true rfl) ?_
    refine m_rast (pc := 189) (k := 17) (n := 3) hI rfl (by show _ < 10; omega) dX11_clause_189 (j := 2) rfl (by omega) (by decide) (fun h hI fr => ?_)
    replace hF := mFr.tr hF fr
    replace fs := FS.rowI hI fs (by omega) (Or.inr (Or.inr (Or.inr (Or.inr (Or.inl (by omega))))))
    refine g_goto (pc := 190) 272 dX11_clause_190 (by decide) ?_
    refine g_iload_n (pc := 272) dX11_clause_272 rfl ?_
    refine g_iconst (pc := 273) (v := 3) dX11_clause_273 (by decide) ?_
    refine g_icmp_ge (pc := 274) 298 dX11_clause_274 (by decide) (fun c_274 => absurd c_274 (by decide)) (fun c_274 => ?_)
    refine g_aload_n (pc := 277) dX11_clause_277 rfl ?_
    refine g_getfield (pc := 278) f_X11_20_11 dX11_clause_278 hI.1 mf_11 ?_
    refine g_iload_n (pc := 281) dX11_clause_281 rfl ?_
    refine g_dup2 (pc := 282) dX11_clause_282 rfl rfl ?_
    refine g_iaload (pc := 283) dX11_clause_283 (mA hI 11 3 rfl (by decide)) (j := 1) rfl (by omega) (by decide) rfl ?_
    refine g_aload_n (pc := 284) dX11_clause_284 rfl ?_
    refine g_getfield (pc := 285) f_X11_119_11 dX11_clause_285 hI.1 mf_5 ?_
    refine g_if_ne (pc := 288) 295 dX11_clause_288 (by decide) (fun c_288 => ?_) (fun c_288 => absurd c_288 fs.ne)
    refine g_iconst (pc := 295) (v := 0) dX11_clause_295 (by decide) ?_
    refine g_iadd (pc := 296) dX11_clause_296 ?_
    refine m_iast (pc := 297) (k := 11) (n := 3) hI rfl (by decide) dX11_clause_297 (j := 1) rfl (by omega) (by decide) (fun h hI fr => ?_)
    replace hF := mFr.tr hF fr
    replace fs := FS.rowI hI fs (by decide) (Or.inr (Or.inl rfl))
    refine g_aload_n (pc := 298) dX11_clause_298 rfl ?_
    refine g_bipush (pc := 299) (v := 59) dX11_clause_299 (by decide) ?_
    refine m_cVv (pc := 301) (M' := mX11_sign) (as := [_]) i_X11_179_11 eX11_sign hI dX11_clause_301 (c_sign1 hI fs.ne _) (by omega) rfl rfl (Nat.le_of_ble_eq_true rfl) (fun h hI fr => ?_)
    replace hF := mFr.tr hF fr
    refine g_return (pc := 304) dX11_clause_304 rfl ?_
    refine ⟨rfl, _, hI, hF, fs.2.2.2.1, ?_⟩
    have ex : clK t n g 1 a = .inl (kk, pp) := by
      unfold clK
      rw [if_neg (by decide), if_pos rfl]
      rw [ex0]
      try simp only [pB]
    rw [ex]
    exact ⟨fs.1, fs.2.1, fs.2.2.1, fs.2.2.2.2⟩
  · rw [ez]
    rw [ev] at hI
    replace hp := hp2
    replace rd := rd2
    replace hf := hf2
    replace h110 : sv _ 0 4 (nI p0) 11 0 = nI (gS g) := (congrFun (sv_ne (by decide)) 0).trans h110
    replace h11k : sv _ 0 4 (nI p0) 11 1 = nI nn := (congrFun (sv_ne (by decide)) 1).trans h11k
    replace h7 : sv _ 0 4 (nI p0) 0 7 = nI c := (sv_nj (by decide)).trans h7
    refine m_rast (pc := 160) (k := 17) (n := 3) hI rfl (by show _ < 10; omega) dX11_clause_160 (j := 0) rfl (by omega) (by decide) (fun h hI fr => ?_)
    replace hF := mFr.tr hF fr
    replace hp := hp.out (r := 1000 * 17 + nn) (j := 0) (y := nI aa) (by omega) (fun e => by omega)
    replace rd := rd.svv (r := 1000 * 17 + nn) (j := 0) (y := nI aa) (Or.inr (Or.inr (Or.inr (Or.inr (Or.inl (by omega))))))
    replace hf : sv _ (1000 * 17 + nn) (0) (nI aa) 0 5 = 0 := (congrFun (sv_ne (show 0 ≠ 1000 * 17 + nn by omega)) 5).trans hf
    replace h110 : sv _ (1000 * 17 + nn) (0) (nI aa) 11 0 = nI (gS g) := (congrFun (sv_ne (show 11 ≠ 1000 * 17 + nn by omega)) 0).trans h110
    replace h11k : sv _ (1000 * 17 + nn) (0) (nI aa) 11 1 = nI nn := (congrFun (sv_ne (show 11 ≠ 1000 * 17 + nn by omega)) 1).trans h11k
    replace h7 : sv _ (1000 * 17 + nn) (0) (nI aa) 0 7 = nI c := (congrFun (sv_ne (show 0 ≠ 1000 * 17 + nn by omega)) 7).trans h7
    refine g_aload_n (pc := 161) dX11_clause_161 rfl ?_
    refine g_getfield (pc := 162) f_X11_40_11 dX11_clause_162 hI.1 mf_17 ?_
    refine g_iload_n (pc := 165) dX11_clause_165 rfl ?_
    refine g_aaload (pc := 166) (t := 5) rfl rfl dX11_clause_166 (mG hI 17 10 rfl (by decide)) (j := nn) rfl (by omega) (by decide) rfl ?_
    refine g_iconst (pc := 167) (v := 1) dX11_clause_167 (by decide) ?_
    refine g_aload_n (pc := 168) dX11_clause_168 rfl ?_
    refine g_iconst (pc := 169) (v := 0) dX11_clause_169 (by decide) ?_
    refine g_iconst (pc := 170) (v := 5) dX11_clause_170 (by decide) ?_
    refine m_cV (pc := 171) (M' := mX11_number) (as := [_, _]) i_X11_175_11 eX11_number hI dX11_clause_171 (c_number (by omega) hI hp hf _ _) (by omega) rfl rfl (Nat.le_of_ble_eq_true rfl) (fun h hI fr => ?_)
    replace hF := mFr.tr hF fr
    refine num_cases (lo := 0) (hi := 5) hp.2.2.2.2 hp hf rd (fun kk pp ex1 fs ez => ?_) (fun p1 b ex1 ev ez hv1 hin1 hpn hp2 rd2 hf2 => ?_)
    · rw [ez]
      refine m_rast (pc := 174) (k := 17) (n := 3) hI rfl (by show _ < 10; omega) dX11_clause_174 (j := 1) rfl (by omega) (by decide) (fun h hI fr => ?_)
      replace hF := mFr.tr hF fr
      replace fs := FS.rowI hI fs (by omega) (Or.inr (Or.inr (Or.inr (Or.inr (Or.inl (by omega))))))
      refine g_aload_n (pc := 175) dX11_clause_175 rfl ?_
      refine g_getfield (pc := 176) f_X11_40_11 dX11_clause_176 hI.1 mf_17 ?_
      refine g_iload_n (pc := 179) dX11_clause_179 rfl ?_
      refine g_aaload (pc := 180) (t := 5) rfl rfl dX11_clause_180 (mG hI 17 10 rfl (by decide)) (j := nn) rfl (by omega) (by decide) rfl ?_
      refine g_iconst (pc := 181) (v := 2) dX11_clause_181 (by decide) ?_
      refine g_aload_n (pc := 182) dX11_clause_182 rfl ?_
      refine g_iconst (pc := 183) (v := 1) dX11_clause_183 (by decide) ?_
      refine g_bipush (pc := 184) (v := 30) dX11_clause_184 (by decide) ?_
      refine m_cP (pc := 186) (M' := mX11_number) (as := [_, _]) i_X11_175_11 eX11_number hI dX11_clause_186 (c_number1 hI fs.ne _ _) (by omega) rfl rfl (Nat.le_of_ble_eq_true rfl) ?_
      refine m_rast (pc := 189) (k := 17) (n := 3) hI rfl (by show _ < 10; omega) dX11_clause_189 (j := 2) rfl (by omega) (by decide) (fun h hI fr => ?_)
      replace hF := mFr.tr hF fr
      replace fs := FS.rowI hI fs (by omega) (Or.inr (Or.inr (Or.inr (Or.inr (Or.inl (by omega))))))
      refine g_goto (pc := 190) 272 dX11_clause_190 (by decide) ?_
      refine g_iload_n (pc := 272) dX11_clause_272 rfl ?_
      refine g_iconst (pc := 273) (v := 3) dX11_clause_273 (by decide) ?_
      refine g_icmp_ge (pc := 274) 298 dX11_clause_274 (by decide) (fun c_274 => absurd c_274 (by decide)) (fun c_274 => ?_)
      refine g_aload_n (pc := 277) dX11_clause_277 rfl ?_
      refine g_getfield (pc := 278) f_X11_20_11 dX11_clause_278 hI.1 mf_11 ?_
      refine g_iload_n (pc := 281) dX11_clause_281 rfl ?_
      refine g_dup2 (pc := 282) dX11_clause_282 rfl rfl ?_
      refine g_iaload (pc := 283) dX11_clause_283 (mA hI 11 3 rfl (by decide)) (j := 1) rfl (by omega) (by decide) rfl ?_
      refine g_aload_n (pc := 284) dX11_clause_284 rfl ?_
      refine g_getfield (pc := 285) f_X11_119_11 dX11_clause_285 hI.1 mf_5 ?_
      refine g_if_ne (pc := 288) 295 dX11_clause_288 (by decide) (fun c_288 => ?_) (fun c_288 => absurd c_288 fs.ne)
      refine g_iconst (pc := 295) (v := 0) dX11_clause_295 (by decide) ?_
      refine g_iadd (pc := 296) dX11_clause_296 ?_
      refine m_iast (pc := 297) (k := 11) (n := 3) hI rfl (by decide) dX11_clause_297 (j := 1) rfl (by omega) (by decide) (fun h hI fr => ?_)
      replace hF := mFr.tr hF fr
      replace fs := FS.rowI hI fs (by decide) (Or.inr (Or.inl rfl))
      refine g_aload_n (pc := 298) dX11_clause_298 rfl ?_
      refine g_bipush (pc := 299) (v := 59) dX11_clause_299 (by decide) ?_
      refine m_cVv (pc := 301) (M' := mX11_sign) (as := [_]) i_X11_179_11 eX11_sign hI dX11_clause_301 (c_sign1 hI fs.ne _) (by omega) rfl rfl (Nat.le_of_ble_eq_true rfl) (fun h hI fr => ?_)
      replace hF := mFr.tr hF fr
      refine g_return (pc := 304) dX11_clause_304 rfl ?_
      refine ⟨rfl, _, hI, hF, fs.2.2.2.1, ?_⟩
      have ex : clK t n g 1 a = .inl (kk, pp) := by
        unfold clK
        rw [if_neg (by decide), if_pos rfl]
        rw [ex0]
        try simp only [pB]
        rw [ex1]
        try simp only [pB]
      rw [ex]
      exact ⟨fs.1, fs.2.1, fs.2.2.1, fs.2.2.2.2⟩
    · rw [ez]
      rw [ev] at hI
      replace hp := hp2
      replace rd := rd2
      replace hf := hf2
      replace h110 : sv _ 0 4 (nI p1) 11 0 = nI (gS g) := (congrFun (sv_ne (by decide)) 0).trans h110
      replace h11k : sv _ 0 4 (nI p1) 11 1 = nI nn := (congrFun (sv_ne (by decide)) 1).trans h11k
      replace h7 : sv _ 0 4 (nI p1) 0 7 = nI c := (sv_nj (by decide)).trans h7
      refine m_rast (pc := 174) (k := 17) (n := 3) hI rfl (by show _ < 10; omega) dX11_clause_174 (j := 1) rfl (by omega) (by decide) (fun h hI fr => ?_)
      replace hF := mFr.tr hF fr
      replace hp := hp.out (r := 1000 * 17 + nn) (j := 1) (y := nI b) (by omega) (fun e => by omega)
      replace rd := rd.svv (r := 1000 * 17 + nn) (j := 1) (y := nI b) (Or.inr (Or.inr (Or.inr (Or.inr (Or.inl (by omega))))))
      replace hf : sv _ (1000 * 17 + nn) (1) (nI b) 0 5 = 0 := (congrFun (sv_ne (show 0 ≠ 1000 * 17 + nn by omega)) 5).trans hf
      replace h110 : sv _ (1000 * 17 + nn) (1) (nI b) 11 0 = nI (gS g) := (congrFun (sv_ne (show 11 ≠ 1000 * 17 + nn by omega)) 0).trans h110
      replace h11k : sv _ (1000 * 17 + nn) (1) (nI b) 11 1 = nI nn := (congrFun (sv_ne (show 11 ≠ 1000 * 17 + nn by omega)) 1).trans h11k
      replace h7 : sv _ (1000 * 17 + nn) (1) (nI b) 0 7 = nI c := (congrFun (sv_ne (show 0 ≠ 1000 * 17 + nn by omega)) 7).trans h7
      refine g_aload_n (pc := 175) dX11_clause_175 rfl ?_
      refine g_getfield (pc := 176) f_X11_40_11 dX11_clause_176 hI.1 mf_17 ?_
      refine g_iload_n (pc := 179) dX11_clause_179 rfl ?_
      refine g_aaload (pc := 180) (t := 5) rfl rfl dX11_clause_180 (mG hI 17 10 rfl (by decide)) (j := nn) rfl (by omega) (by decide) rfl ?_
      refine g_iconst (pc := 181) (v := 2) dX11_clause_181 (by decide) ?_
      refine g_aload_n (pc := 182) dX11_clause_182 rfl ?_
      refine g_iconst (pc := 183) (v := 1) dX11_clause_183 (by decide) ?_
      refine g_bipush (pc := 184) (v := 30) dX11_clause_184 (by decide) ?_
      refine m_cV (pc := 186) (M' := mX11_number) (as := [_, _]) i_X11_175_11 eX11_number hI dX11_clause_186 (c_number (by omega) hI hp hf _ _) (by omega) rfl rfl (Nat.le_of_ble_eq_true rfl) (fun h hI fr => ?_)
      replace hF := mFr.tr hF fr
      refine num_cases (lo := 1) (hi := 30) hp.2.2.2.2 hp hf rd (fun kk pp ex2 fs ez => ?_) (fun p2 cc ex2 ev ez hv2 hin2 hpn hp2 rd2 hf2 => ?_)
      · rw [ez]
        refine m_rast (pc := 189) (k := 17) (n := 3) hI rfl (by show _ < 10; omega) dX11_clause_189 (j := 2) rfl (by omega) (by decide) (fun h hI fr => ?_)
        replace hF := mFr.tr hF fr
        replace fs := FS.rowI hI fs (by omega) (Or.inr (Or.inr (Or.inr (Or.inr (Or.inl (by omega))))))
        refine g_goto (pc := 190) 272 dX11_clause_190 (by decide) ?_
        refine g_iload_n (pc := 272) dX11_clause_272 rfl ?_
        refine g_iconst (pc := 273) (v := 3) dX11_clause_273 (by decide) ?_
        refine g_icmp_ge (pc := 274) 298 dX11_clause_274 (by decide) (fun c_274 => absurd c_274 (by decide)) (fun c_274 => ?_)
        refine g_aload_n (pc := 277) dX11_clause_277 rfl ?_
        refine g_getfield (pc := 278) f_X11_20_11 dX11_clause_278 hI.1 mf_11 ?_
        refine g_iload_n (pc := 281) dX11_clause_281 rfl ?_
        refine g_dup2 (pc := 282) dX11_clause_282 rfl rfl ?_
        refine g_iaload (pc := 283) dX11_clause_283 (mA hI 11 3 rfl (by decide)) (j := 1) rfl (by omega) (by decide) rfl ?_
        refine g_aload_n (pc := 284) dX11_clause_284 rfl ?_
        refine g_getfield (pc := 285) f_X11_119_11 dX11_clause_285 hI.1 mf_5 ?_
        refine g_if_ne (pc := 288) 295 dX11_clause_288 (by decide) (fun c_288 => ?_) (fun c_288 => absurd c_288 fs.ne)
        refine g_iconst (pc := 295) (v := 0) dX11_clause_295 (by decide) ?_
        refine g_iadd (pc := 296) dX11_clause_296 ?_
        refine m_iast (pc := 297) (k := 11) (n := 3) hI rfl (by decide) dX11_clause_297 (j := 1) rfl (by omega) (by decide) (fun h hI fr => ?_)
        replace hF := mFr.tr hF fr
        replace fs := FS.rowI hI fs (by decide) (Or.inr (Or.inl rfl))
        refine g_aload_n (pc := 298) dX11_clause_298 rfl ?_
        refine g_bipush (pc := 299) (v := 59) dX11_clause_299 (by decide) ?_
        refine m_cVv (pc := 301) (M' := mX11_sign) (as := [_]) i_X11_179_11 eX11_sign hI dX11_clause_301 (c_sign1 hI fs.ne _) (by omega) rfl rfl (Nat.le_of_ble_eq_true rfl) (fun h hI fr => ?_)
        replace hF := mFr.tr hF fr
        refine g_return (pc := 304) dX11_clause_304 rfl ?_
        refine ⟨rfl, _, hI, hF, fs.2.2.2.1, ?_⟩
        have ex : clK t n g 1 a = .inl (kk, pp) := by
          unfold clK
          rw [if_neg (by decide), if_pos rfl]
          rw [ex0]
          try simp only [pB]
          rw [ex1]
          try simp only [pB]
          rw [ex2]
          try simp only [pB]
        rw [ex]
        exact ⟨fs.1, fs.2.1, fs.2.2.1, fs.2.2.2.2⟩
      · rw [ez]
        rw [ev] at hI
        replace hp := hp2
        replace rd := rd2
        replace hf := hf2
        replace h110 : sv _ 0 4 (nI p2) 11 0 = nI (gS g) := (congrFun (sv_ne (by decide)) 0).trans h110
        replace h11k : sv _ 0 4 (nI p2) 11 1 = nI nn := (congrFun (sv_ne (by decide)) 1).trans h11k
        replace h7 : sv _ 0 4 (nI p2) 0 7 = nI c := (sv_nj (by decide)).trans h7
        refine m_rast (pc := 189) (k := 17) (n := 3) hI rfl (by show _ < 10; omega) dX11_clause_189 (j := 2) rfl (by omega) (by decide) (fun h hI fr => ?_)
        replace hF := mFr.tr hF fr
        replace hp := hp.out (r := 1000 * 17 + nn) (j := 2) (y := nI cc) (by omega) (fun e => by omega)
        replace rd := rd.svv (r := 1000 * 17 + nn) (j := 2) (y := nI cc) (Or.inr (Or.inr (Or.inr (Or.inr (Or.inl (by omega))))))
        replace hf : sv _ (1000 * 17 + nn) (2) (nI cc) 0 5 = 0 := (congrFun (sv_ne (show 0 ≠ 1000 * 17 + nn by omega)) 5).trans hf
        replace h110 : sv _ (1000 * 17 + nn) (2) (nI cc) 11 0 = nI (gS g) := (congrFun (sv_ne (show 11 ≠ 1000 * 17 + nn by omega)) 0).trans h110
        replace h11k : sv _ (1000 * 17 + nn) (2) (nI cc) 11 1 = nI nn := (congrFun (sv_ne (show 11 ≠ 1000 * 17 + nn by omega)) 1).trans h11k
        replace h7 : sv _ (1000 * 17 + nn) (2) (nI cc) 0 7 = nI c := (congrFun (sv_ne (show 0 ≠ 1000 * 17 + nn by omega)) 7).trans h7
        refine g_goto (pc := 190) 272 dX11_clause_190 (by decide) ?_
        refine g_iload_n (pc := 272) dX11_clause_272 rfl ?_
        refine g_iconst (pc := 273) (v := 3) dX11_clause_273 (by decide) ?_
        refine g_icmp_ge (pc := 274) 298 dX11_clause_274 (by decide) (fun c_274 => absurd c_274 (by decide)) (fun c_274 => ?_)
        refine g_aload_n (pc := 277) dX11_clause_277 rfl ?_
        refine g_getfield (pc := 278) f_X11_20_11 dX11_clause_278 hI.1 mf_11 ?_
        refine g_iload_n (pc := 281) dX11_clause_281 rfl ?_
        refine g_dup2 (pc := 282) dX11_clause_282 rfl rfl ?_
        refine g_iaload (pc := 283) dX11_clause_283 (mA hI 11 3 rfl (by decide)) (j := 1) rfl (by omega) (by decide) rfl ?_
        rw [h11k]
        refine g_aload_n (pc := 284) dX11_clause_284 rfl ?_
        refine g_getfield (pc := 285) f_X11_119_11 dX11_clause_285 hI.1 mf_5 ?_
        refine g_if_ne (pc := 288) 295 dX11_clause_288 (by decide) (fun c_288 => absurd hf c_288) (fun c_288 => ?_)
        refine g_iconst (pc := 291) (v := 1) dX11_clause_291 (by decide) ?_
        refine g_goto (pc := 292) 296 dX11_clause_292 (by decide) ?_
        
        refine g_iadd (pc := 296) dX11_clause_296 ?_
        refine m_iast (pc := 297) (k := 11) (n := 3) hI rfl (by decide) dX11_clause_297 (j := 1) rfl (by omega) (by decide) (fun h hI fr => ?_)
        replace hF := mFr.tr hF fr
        replace hp := hp.out (r := 11) (j := 1) (y := nI nn + 1) (by decide) (fun e => by cases e)
        replace rd := rd.svv (r := 11) (j := 1) (y := nI nn + 1) (Or.inr (Or.inl rfl))
        replace hf : sv _ 11 1 (nI nn + 1) 0 5 = 0 := (congrFun (sv_ne (by decide)) 5).trans hf
        replace h7 : sv _ 11 1 (nI nn + 1) 0 7 = nI c := (congrFun (sv_ne (by decide)) 7).trans h7
        refine g_aload_n (pc := 298) dX11_clause_298 rfl ?_
        refine g_bipush (pc := 299) (v := 59) dX11_clause_299 (by decide) ?_
        refine m_cVv (pc := 301) (M' := mX11_sign) (as := [_]) i_X11_179_11 eX11_sign hI dX11_clause_301 (c_sign (by omega) hI hp hf 59) (by omega) rfl rfl (Nat.le_of_ble_eq_true rfl) (fun h hI fr => ?_)
        replace hF := mFr.tr hF fr
        refine g_return (pc := 304) dX11_clause_304 rfl ?_
        refine ⟨rfl, _, hI, hF, ?_, ?_⟩
        · split
          · exact rd.a4
          · exact rd.a4.a5.a6
        have ex : clK t n g 1 a = clE t n (dU (dU (dU (gD g) 0 (gR g) aa) 1 (gR g) b) 2 (gR g) cc, gW g, gS g, gR g + 1, gP g) p2 := by
          unfold clK
          rw [if_neg (by decide), if_pos rfl]
          rw [ex0]
          try simp only [pB]
          rw [ex1]
          try simp only [pB]
          rw [ex2]
          try simp only [pB]
        rw [ex]
        by_cases q : sgI t n p2 = 59
        · rw [if_pos q, show clE t n (dU (dU (dU (gD g) 0 (gR g) aa) 1 (gR g) b) 2 (gR g) cc, gW g, gS g, gR g + 1, gP g) p2 = .inr (bl t n p2 + 1, (dU (dU (dU (gD g) 0 (gR g) aa) 1 (gR g) b) 2 (gR g) cc, gW g, gS g, gR g + 1, gP g)) by unfold clE sgP; rw [if_pos q]; rfl]
          have hb := bl_le (t := t) hp.2.2.2.2
          have hlt : bl t n p2 < n := by
            unfold sgI bN at q
            by_cases w : bl t n p2 < n
            · exact w
            · rw [if_neg w] at q; exact absurd q (by decide)
          refine ⟨(sv_nj (by decide)).trans hf, hp.at (by omega), (sv_nj (by decide)).trans h7, ?_⟩
          show HR _ (dU (dU (dU (gD g) 0 (gR g) aa) 1 (gR g) b) 2 (gR g) cc, gW g, gS g, gR g + 1, gP g)
          have vs := inR_m hv0 (by omega) hin0
          have vi := inR_n hv1 (by decide) (show (5 : Int32) = nI 5 from rfl) hin1
          have vw := inR_1 hv2 (by decide) (show (30 : Int32) = nI 30 from rfl) hin2
          obtain ⟨r1, r2, r3, r4, r5, r6, r7, o1, o2, o3, o4, o5, o6, o7⟩ := hR
          subst hnn
          refine ⟨?_, ?_, ?_, fun r hr => ?_, fun p hp => ?_, fun s hs => ?_, fun s hs => ?_, o1, by show gR g + 1 ≤ 10; omega, o3, fun r hr => ?_, fun p hp => ?_, o6, o7⟩
          · rw [sv_ne (by decide), sv_nj (by decide)]
            iterate 6 rw [sv_ne (by omega)]
            exact r1
          · rw [sv_ne (by decide), sv_same, nI_1]
          · rw [sv_ne (by decide), sv_nj (by decide)]
            iterate 6 rw [sv_ne (by omega)]
            exact r3
          · show _ = nI (dU (dU (dU (gD g) 0 (gR g) aa) 1 (gR g) b) 2 (gR g) cc 0 r) ∧ _ = nI (dU (dU (dU (gD g) 0 (gR g) aa) 1 (gR g) b) 2 (gR g) cc 1 r) ∧ _ = nI (dU (dU (dU (gD g) 0 (gR g) aa) 1 (gR g) b) 2 (gR g) cc 2 r)
            by_cases w : r = gR g
            · subst w
              rw [dU_k (by decide), dU_k (by decide), dU_same, dU_k (by decide), dU_same, dU_same]
              rw [sv_ne (show 1000 * 17 + gR g ≠ 0 by omega), sv_ne (show 1000 * 17 + gR g ≠ 11 by omega)]
              refine ⟨?_, ?_, sv_same⟩
              · rw [sv_nj (by decide), sv_ne (by omega), sv_nj (by decide), sv_ne (by omega), sv_same]
              · rw [sv_nj (by decide), sv_ne (by omega), sv_same]
            · rw [dU_i w, dU_i w, dU_i w, dU_i w, dU_i w, dU_i w, dU_i w, dU_i w, dU_i w]
              iterate 8 rw [sv_ne (by omega)]
              exact r4 r (by have : r < gR g + 1 := hr; omega)
          · show _ = nI (dU (dU (dU (gD g) 0 (gR g) aa) 1 (gR g) b) 2 (gR g) cc 3 p) ∧ _ = nI (dU (dU (dU (gD g) 0 (gR g) aa) 1 (gR g) b) 2 (gR g) cc 4 p)
            rw [dU_k (by decide), dU_k (by decide), dU_k (by decide), dU_k (by decide), dU_k (by decide), dU_k (by decide)]
            iterate 8 rw [sv_ne (by omega)]
            exact r5 p hp
          · show _ = nI (dU (dU (dU (gD g) 0 (gR g) aa) 1 (gR g) b) 2 (gR g) cc 5 s)
            rw [dU_k (by decide), dU_k (by decide), dU_k (by decide)]
            iterate 8 rw [sv_ne (by omega)]
            exact r6 s hs
          · iterate 8 rw [sv_ne (by omega)]
            exact r7 s hs
          · show dU (dU (dU (gD g) 0 (gR g) aa) 1 (gR g) b) 2 (gR g) cc 0 r < _ ∧ dU (dU (dU (gD g) 0 (gR g) aa) 1 (gR g) b) 2 (gR g) cc 1 r < 6 ∧ 1 ≤ dU (dU (dU (gD g) 0 (gR g) aa) 1 (gR g) b) 2 (gR g) cc 2 r ∧ dU (dU (dU (gD g) 0 (gR g) aa) 1 (gR g) b) 2 (gR g) cc 2 r ≤ 30
            by_cases w : r = gR g
            · subst w
              rw [dU_k (by decide), dU_k (by decide), dU_same, dU_k (by decide), dU_same, dU_same]
              exact ⟨vs, by omega, vw.1, vw.2⟩
            · rw [dU_i w, dU_i w, dU_i w, dU_i w, dU_i w, dU_i w, dU_i w, dU_i w, dU_i w]
              exact o4 r (by have : r < gR g + 1 := hr; omega)
          · show dU (dU (dU (gD g) 0 (gR g) aa) 1 (gR g) b) 2 (gR g) cc 3 p < 6 ∧ 1 ≤ dU (dU (dU (gD g) 0 (gR g) aa) 1 (gR g) b) 2 (gR g) cc 4 p ∧ dU (dU (dU (gD g) 0 (gR g) aa) 1 (gR g) b) 2 (gR g) cc 4 p ≤ 99
            rw [dU_k (by decide), dU_k (by decide), dU_k (by decide), dU_k (by decide), dU_k (by decide), dU_k (by decide)]
            exact o5 p hp
        · rw [if_neg q, show clE t n (dU (dU (dU (gD g) 0 (gR g) aa) 1 (gR g) b) 2 (gR g) cc, gW g, gS g, gR g + 1, gP g) p2 = .inl (1, bl t n p2) by unfold clE sgP; rw [if_neg q]; rfl]
          exact ⟨by rw [sv_nj (by decide), sv_same]; rfl, sv_same, ⟨Nat.le_of_ble_eq_true rfl, Nat.le_of_ble_eq_true rfl⟩, _, ((hp.at (bl_le (t := t) hp.2.2.2.2).2).out (by decide) (fun _ => by decide)).out (by decide) (fun _ => by decide)⟩
set_option maxHeartbeats 4000000 in
theorem l_clause2 {bc bs : Nat} {h0 : jH} {V0 : mV} {g : HD} {c : Nat} (hd : 4 ≤ d) (hI : InvM am V h) (hF : mFr h0 h) (hp : PS V t n a) (hf : V 0 5 = 0) (rd : rdE V0 V) (hR : HR V g) (h7 : V 0 7 = nI c) (hlim : gP g < 8) : G E d bc bs mX11_clause 96 [some (vR (nMo am)), some (vI (nI 2)), some (vI (nI (gP g))), none, none] [] h (rdQ am V0 h0 t n (clK t n g 2 a) (fun V' g' => V' 0 7 = nI c ∧ HR V' g')) := by
  have okh := hR.2.2.2.2.2.2.2
  have b8 := okh.1
  have b10 := okh.2.1
  have bP := okh.2.2.1
  have han := hp.2.2.2.2
  obtain ⟨nn, hnn⟩ : ∃ nn, nn = gP g := ⟨_, rfl⟩
  rw [← hnn]
  rw [← hnn] at hlim
  refine g_iload_n (pc := 96) dX11_clause_96 rfl ?_
  refine g_tableIn (pc := 97) (off := 96) 193 dX11_clause_97 (by decide) (by decide) (by decide) (by decide) ?_
  have h110 := hR.1
  have h11k : V 11 2 = nI nn := by rw [hnn]; exact hR.2.2.1
  refine g_aload_n (pc := 193) dX11_clause_193 rfl ?_
  refine g_getfield (pc := 194) f_X11_46_11 dX11_clause_194 hI.1 mf_19 ?_
  refine g_iload_n (pc := 197) dX11_clause_197 rfl ?_
  refine g_aaload (pc := 198) (t := 5) rfl rfl dX11_clause_198 (mG hI 19 8 rfl (by decide)) (j := nn) rfl (by omega) (by decide) rfl ?_
  refine g_iconst (pc := 199) (v := 0) dX11_clause_199 (by decide) ?_
  refine g_aload_n (pc := 200) dX11_clause_200 rfl ?_
  refine g_iconst (pc := 201) (v := 0) dX11_clause_201 (by decide) ?_
  refine g_iconst (pc := 202) (v := 5) dX11_clause_202 (by decide) ?_
  refine m_cV (pc := 203) (M' := mX11_number) (as := [_, _]) i_X11_175_11 eX11_number hI dX11_clause_203 (c_number (by omega) hI hp hf _ _) (by omega) rfl rfl (Nat.le_of_ble_eq_true rfl) (fun h hI fr => ?_)
  replace hF := mFr.tr hF fr
  refine num_cases (lo := 0) (hi := 5) hp.2.2.2.2 hp hf rd (fun kk pp ex0 fs ez => ?_) (fun p0 aa ex0 ev ez hv0 hin0 hpn hp2 rd2 hf2 => ?_)
  · rw [ez]
    refine m_rast (pc := 206) (k := 19) (n := 2) hI rfl (by show _ < 8; omega) dX11_clause_206 (j := 0) rfl (by omega) (by decide) (fun h hI fr => ?_)
    replace hF := mFr.tr hF fr
    replace fs := FS.rowI hI fs (by omega) (Or.inr (Or.inr (Or.inr (Or.inr (Or.inr (Or.inl (by omega)))))))
    refine g_aload_n (pc := 207) dX11_clause_207 rfl ?_
    refine g_getfield (pc := 208) f_X11_46_11 dX11_clause_208 hI.1 mf_19 ?_
    refine g_iload_n (pc := 211) dX11_clause_211 rfl ?_
    refine g_aaload (pc := 212) (t := 5) rfl rfl dX11_clause_212 (mG hI 19 8 rfl (by decide)) (j := nn) rfl (by omega) (by decide) rfl ?_
    refine g_iconst (pc := 213) (v := 1) dX11_clause_213 (by decide) ?_
    refine g_aload_n (pc := 214) dX11_clause_214 rfl ?_
    refine g_iconst (pc := 215) (v := 1) dX11_clause_215 (by decide) ?_
    refine g_bipush (pc := 216) (v := 99) dX11_clause_216 (by decide) ?_
    refine m_cP (pc := 218) (M' := mX11_number) (as := [_, _]) i_X11_175_11 eX11_number hI dX11_clause_218 (c_number1 hI fs.ne _ _) (by omega) rfl rfl (Nat.le_of_ble_eq_true rfl) ?_
    refine m_rast (pc := 221) (k := 19) (n := 2) hI rfl (by show _ < 8; omega) dX11_clause_221 (j := 1) rfl (by omega) (by decide) (fun h hI fr => ?_)
    replace hF := mFr.tr hF fr
    replace fs := FS.rowI hI fs (by omega) (Or.inr (Or.inr (Or.inr (Or.inr (Or.inr (Or.inl (by omega)))))))
    refine g_goto (pc := 222) 272 dX11_clause_222 (by decide) ?_
    refine g_iload_n (pc := 272) dX11_clause_272 rfl ?_
    refine g_iconst (pc := 273) (v := 3) dX11_clause_273 (by decide) ?_
    refine g_icmp_ge (pc := 274) 298 dX11_clause_274 (by decide) (fun c_274 => absurd c_274 (by decide)) (fun c_274 => ?_)
    refine g_aload_n (pc := 277) dX11_clause_277 rfl ?_
    refine g_getfield (pc := 278) f_X11_20_11 dX11_clause_278 hI.1 mf_11 ?_
    refine g_iload_n (pc := 281) dX11_clause_281 rfl ?_
    refine g_dup2 (pc := 282) dX11_clause_282 rfl rfl ?_
    refine g_iaload (pc := 283) dX11_clause_283 (mA hI 11 3 rfl (by decide)) (j := 2) rfl (by omega) (by decide) rfl ?_
    refine g_aload_n (pc := 284) dX11_clause_284 rfl ?_
    refine g_getfield (pc := 285) f_X11_119_11 dX11_clause_285 hI.1 mf_5 ?_
    refine g_if_ne (pc := 288) 295 dX11_clause_288 (by decide) (fun c_288 => ?_) (fun c_288 => absurd c_288 fs.ne)
    refine g_iconst (pc := 295) (v := 0) dX11_clause_295 (by decide) ?_
    refine g_iadd (pc := 296) dX11_clause_296 ?_
    refine m_iast (pc := 297) (k := 11) (n := 3) hI rfl (by decide) dX11_clause_297 (j := 2) rfl (by omega) (by decide) (fun h hI fr => ?_)
    replace hF := mFr.tr hF fr
    replace fs := FS.rowI hI fs (by decide) (Or.inr (Or.inl rfl))
    refine g_aload_n (pc := 298) dX11_clause_298 rfl ?_
    refine g_bipush (pc := 299) (v := 59) dX11_clause_299 (by decide) ?_
    refine m_cVv (pc := 301) (M' := mX11_sign) (as := [_]) i_X11_179_11 eX11_sign hI dX11_clause_301 (c_sign1 hI fs.ne _) (by omega) rfl rfl (Nat.le_of_ble_eq_true rfl) (fun h hI fr => ?_)
    replace hF := mFr.tr hF fr
    refine g_return (pc := 304) dX11_clause_304 rfl ?_
    refine ⟨rfl, _, hI, hF, fs.2.2.2.1, ?_⟩
    have ex : clK t n g 2 a = .inl (kk, pp) := by
      unfold clK
      rw [if_neg (by decide), if_neg (by decide), if_pos rfl]
      rw [ex0]
      try simp only [pB]
    rw [ex]
    exact ⟨fs.1, fs.2.1, fs.2.2.1, fs.2.2.2.2⟩
  · rw [ez]
    rw [ev] at hI
    replace hp := hp2
    replace rd := rd2
    replace hf := hf2
    replace h110 : sv _ 0 4 (nI p0) 11 0 = nI (gS g) := (congrFun (sv_ne (by decide)) 0).trans h110
    replace h11k : sv _ 0 4 (nI p0) 11 2 = nI nn := (congrFun (sv_ne (by decide)) 2).trans h11k
    replace h7 : sv _ 0 4 (nI p0) 0 7 = nI c := (sv_nj (by decide)).trans h7
    refine m_rast (pc := 206) (k := 19) (n := 2) hI rfl (by show _ < 8; omega) dX11_clause_206 (j := 0) rfl (by omega) (by decide) (fun h hI fr => ?_)
    replace hF := mFr.tr hF fr
    replace hp := hp.out (r := 1000 * 19 + nn) (j := 0) (y := nI aa) (by omega) (fun e => by omega)
    replace rd := rd.svv (r := 1000 * 19 + nn) (j := 0) (y := nI aa) (Or.inr (Or.inr (Or.inr (Or.inr (Or.inr (Or.inl (by omega)))))))
    replace hf : sv _ (1000 * 19 + nn) (0) (nI aa) 0 5 = 0 := (congrFun (sv_ne (show 0 ≠ 1000 * 19 + nn by omega)) 5).trans hf
    replace h110 : sv _ (1000 * 19 + nn) (0) (nI aa) 11 0 = nI (gS g) := (congrFun (sv_ne (show 11 ≠ 1000 * 19 + nn by omega)) 0).trans h110
    replace h11k : sv _ (1000 * 19 + nn) (0) (nI aa) 11 2 = nI nn := (congrFun (sv_ne (show 11 ≠ 1000 * 19 + nn by omega)) 2).trans h11k
    replace h7 : sv _ (1000 * 19 + nn) (0) (nI aa) 0 7 = nI c := (congrFun (sv_ne (show 0 ≠ 1000 * 19 + nn by omega)) 7).trans h7
    refine g_aload_n (pc := 207) dX11_clause_207 rfl ?_
    refine g_getfield (pc := 208) f_X11_46_11 dX11_clause_208 hI.1 mf_19 ?_
    refine g_iload_n (pc := 211) dX11_clause_211 rfl ?_
    refine g_aaload (pc := 212) (t := 5) rfl rfl dX11_clause_212 (mG hI 19 8 rfl (by decide)) (j := nn) rfl (by omega) (by decide) rfl ?_
    refine g_iconst (pc := 213) (v := 1) dX11_clause_213 (by decide) ?_
    refine g_aload_n (pc := 214) dX11_clause_214 rfl ?_
    refine g_iconst (pc := 215) (v := 1) dX11_clause_215 (by decide) ?_
    refine g_bipush (pc := 216) (v := 99) dX11_clause_216 (by decide) ?_
    refine m_cV (pc := 218) (M' := mX11_number) (as := [_, _]) i_X11_175_11 eX11_number hI dX11_clause_218 (c_number (by omega) hI hp hf _ _) (by omega) rfl rfl (Nat.le_of_ble_eq_true rfl) (fun h hI fr => ?_)
    replace hF := mFr.tr hF fr
    refine num_cases (lo := 1) (hi := 99) hp.2.2.2.2 hp hf rd (fun kk pp ex1 fs ez => ?_) (fun p1 b ex1 ev ez hv1 hin1 hpn hp2 rd2 hf2 => ?_)
    · rw [ez]
      refine m_rast (pc := 221) (k := 19) (n := 2) hI rfl (by show _ < 8; omega) dX11_clause_221 (j := 1) rfl (by omega) (by decide) (fun h hI fr => ?_)
      replace hF := mFr.tr hF fr
      replace fs := FS.rowI hI fs (by omega) (Or.inr (Or.inr (Or.inr (Or.inr (Or.inr (Or.inl (by omega)))))))
      refine g_goto (pc := 222) 272 dX11_clause_222 (by decide) ?_
      refine g_iload_n (pc := 272) dX11_clause_272 rfl ?_
      refine g_iconst (pc := 273) (v := 3) dX11_clause_273 (by decide) ?_
      refine g_icmp_ge (pc := 274) 298 dX11_clause_274 (by decide) (fun c_274 => absurd c_274 (by decide)) (fun c_274 => ?_)
      refine g_aload_n (pc := 277) dX11_clause_277 rfl ?_
      refine g_getfield (pc := 278) f_X11_20_11 dX11_clause_278 hI.1 mf_11 ?_
      refine g_iload_n (pc := 281) dX11_clause_281 rfl ?_
      refine g_dup2 (pc := 282) dX11_clause_282 rfl rfl ?_
      refine g_iaload (pc := 283) dX11_clause_283 (mA hI 11 3 rfl (by decide)) (j := 2) rfl (by omega) (by decide) rfl ?_
      refine g_aload_n (pc := 284) dX11_clause_284 rfl ?_
      refine g_getfield (pc := 285) f_X11_119_11 dX11_clause_285 hI.1 mf_5 ?_
      refine g_if_ne (pc := 288) 295 dX11_clause_288 (by decide) (fun c_288 => ?_) (fun c_288 => absurd c_288 fs.ne)
      refine g_iconst (pc := 295) (v := 0) dX11_clause_295 (by decide) ?_
      refine g_iadd (pc := 296) dX11_clause_296 ?_
      refine m_iast (pc := 297) (k := 11) (n := 3) hI rfl (by decide) dX11_clause_297 (j := 2) rfl (by omega) (by decide) (fun h hI fr => ?_)
      replace hF := mFr.tr hF fr
      replace fs := FS.rowI hI fs (by decide) (Or.inr (Or.inl rfl))
      refine g_aload_n (pc := 298) dX11_clause_298 rfl ?_
      refine g_bipush (pc := 299) (v := 59) dX11_clause_299 (by decide) ?_
      refine m_cVv (pc := 301) (M' := mX11_sign) (as := [_]) i_X11_179_11 eX11_sign hI dX11_clause_301 (c_sign1 hI fs.ne _) (by omega) rfl rfl (Nat.le_of_ble_eq_true rfl) (fun h hI fr => ?_)
      replace hF := mFr.tr hF fr
      refine g_return (pc := 304) dX11_clause_304 rfl ?_
      refine ⟨rfl, _, hI, hF, fs.2.2.2.1, ?_⟩
      have ex : clK t n g 2 a = .inl (kk, pp) := by
        unfold clK
        rw [if_neg (by decide), if_neg (by decide), if_pos rfl]
        rw [ex0]
        try simp only [pB]
        rw [ex1]
        try simp only [pB]
      rw [ex]
      exact ⟨fs.1, fs.2.1, fs.2.2.1, fs.2.2.2.2⟩
    · rw [ez]
      rw [ev] at hI
      replace hp := hp2
      replace rd := rd2
      replace hf := hf2
      replace h110 : sv _ 0 4 (nI p1) 11 0 = nI (gS g) := (congrFun (sv_ne (by decide)) 0).trans h110
      replace h11k : sv _ 0 4 (nI p1) 11 2 = nI nn := (congrFun (sv_ne (by decide)) 2).trans h11k
      replace h7 : sv _ 0 4 (nI p1) 0 7 = nI c := (sv_nj (by decide)).trans h7
      refine m_rast (pc := 221) (k := 19) (n := 2) hI rfl (by show _ < 8; omega) dX11_clause_221 (j := 1) rfl (by omega) (by decide) (fun h hI fr => ?_)
      replace hF := mFr.tr hF fr
      replace hp := hp.out (r := 1000 * 19 + nn) (j := 1) (y := nI b) (by omega) (fun e => by omega)
      replace rd := rd.svv (r := 1000 * 19 + nn) (j := 1) (y := nI b) (Or.inr (Or.inr (Or.inr (Or.inr (Or.inr (Or.inl (by omega)))))))
      replace hf : sv _ (1000 * 19 + nn) (1) (nI b) 0 5 = 0 := (congrFun (sv_ne (show 0 ≠ 1000 * 19 + nn by omega)) 5).trans hf
      replace h110 : sv _ (1000 * 19 + nn) (1) (nI b) 11 0 = nI (gS g) := (congrFun (sv_ne (show 11 ≠ 1000 * 19 + nn by omega)) 0).trans h110
      replace h11k : sv _ (1000 * 19 + nn) (1) (nI b) 11 2 = nI nn := (congrFun (sv_ne (show 11 ≠ 1000 * 19 + nn by omega)) 2).trans h11k
      replace h7 : sv _ (1000 * 19 + nn) (1) (nI b) 0 7 = nI c := (congrFun (sv_ne (show 0 ≠ 1000 * 19 + nn by omega)) 7).trans h7
      refine g_goto (pc := 222) 272 dX11_clause_222 (by decide) ?_
      refine g_iload_n (pc := 272) dX11_clause_272 rfl ?_
      refine g_iconst (pc := 273) (v := 3) dX11_clause_273 (by decide) ?_
      refine g_icmp_ge (pc := 274) 298 dX11_clause_274 (by decide) (fun c_274 => absurd c_274 (by decide)) (fun c_274 => ?_)
      refine g_aload_n (pc := 277) dX11_clause_277 rfl ?_
      refine g_getfield (pc := 278) f_X11_20_11 dX11_clause_278 hI.1 mf_11 ?_
      refine g_iload_n (pc := 281) dX11_clause_281 rfl ?_
      refine g_dup2 (pc := 282) dX11_clause_282 rfl rfl ?_
      refine g_iaload (pc := 283) dX11_clause_283 (mA hI 11 3 rfl (by decide)) (j := 2) rfl (by omega) (by decide) rfl ?_
      rw [h11k]
      refine g_aload_n (pc := 284) dX11_clause_284 rfl ?_
      refine g_getfield (pc := 285) f_X11_119_11 dX11_clause_285 hI.1 mf_5 ?_
      refine g_if_ne (pc := 288) 295 dX11_clause_288 (by decide) (fun c_288 => absurd hf c_288) (fun c_288 => ?_)
      refine g_iconst (pc := 291) (v := 1) dX11_clause_291 (by decide) ?_
      refine g_goto (pc := 292) 296 dX11_clause_292 (by decide) ?_
      
      refine g_iadd (pc := 296) dX11_clause_296 ?_
      refine m_iast (pc := 297) (k := 11) (n := 3) hI rfl (by decide) dX11_clause_297 (j := 2) rfl (by omega) (by decide) (fun h hI fr => ?_)
      replace hF := mFr.tr hF fr
      replace hp := hp.out (r := 11) (j := 2) (y := nI nn + 1) (by decide) (fun e => by cases e)
      replace rd := rd.svv (r := 11) (j := 2) (y := nI nn + 1) (Or.inr (Or.inl rfl))
      replace hf : sv _ 11 2 (nI nn + 1) 0 5 = 0 := (congrFun (sv_ne (by decide)) 5).trans hf
      replace h7 : sv _ 11 2 (nI nn + 1) 0 7 = nI c := (congrFun (sv_ne (by decide)) 7).trans h7
      refine g_aload_n (pc := 298) dX11_clause_298 rfl ?_
      refine g_bipush (pc := 299) (v := 59) dX11_clause_299 (by decide) ?_
      refine m_cVv (pc := 301) (M' := mX11_sign) (as := [_]) i_X11_179_11 eX11_sign hI dX11_clause_301 (c_sign (by omega) hI hp hf 59) (by omega) rfl rfl (Nat.le_of_ble_eq_true rfl) (fun h hI fr => ?_)
      replace hF := mFr.tr hF fr
      refine g_return (pc := 304) dX11_clause_304 rfl ?_
      refine ⟨rfl, _, hI, hF, ?_, ?_⟩
      · split
        · exact rd.a4
        · exact rd.a4.a5.a6
      have ex : clK t n g 2 a = clE t n (dU (dU (gD g) 3 (gP g) aa) 4 (gP g) b, gW g, gS g, gR g, gP g + 1) p1 := by
        unfold clK
        rw [if_neg (by decide), if_neg (by decide), if_pos rfl]
        rw [ex0]
        try simp only [pB]
        rw [ex1]
        try simp only [pB]
      rw [ex]
      by_cases q : sgI t n p1 = 59
      · rw [if_pos q, show clE t n (dU (dU (gD g) 3 (gP g) aa) 4 (gP g) b, gW g, gS g, gR g, gP g + 1) p1 = .inr (bl t n p1 + 1, (dU (dU (gD g) 3 (gP g) aa) 4 (gP g) b, gW g, gS g, gR g, gP g + 1)) by unfold clE sgP; rw [if_pos q]; rfl]
        have hb := bl_le (t := t) hp.2.2.2.2
        have hlt : bl t n p1 < n := by
          unfold sgI bN at q
          by_cases w : bl t n p1 < n
          · exact w
          · rw [if_neg w] at q; exact absurd q (by decide)
        refine ⟨(sv_nj (by decide)).trans hf, hp.at (by omega), (sv_nj (by decide)).trans h7, ?_⟩
        show HR _ (dU (dU (gD g) 3 (gP g) aa) 4 (gP g) b, gW g, gS g, gR g, gP g + 1)
        have vi := inR_n hv0 (by decide) (show (5 : Int32) = nI 5 from rfl) hin0
        have vw := inR_1 hv1 (by decide) (show (99 : Int32) = nI 99 from rfl) hin1
        obtain ⟨r1, r2, r3, r4, r5, r6, r7, o1, o2, o3, o4, o5, o6, o7⟩ := hR
        subst hnn
        refine ⟨?_, ?_, ?_, fun r hr => ?_, fun p hp => ?_, fun s hs => ?_, fun s hs => ?_, o1, o2, by show gP g + 1 ≤ 8; omega, fun r hr => ?_, fun p hp => ?_, fun s hs => ?_, o7⟩
        · rw [sv_ne (by decide), sv_nj (by decide)]
          iterate 4 rw [sv_ne (by omega)]
          exact r1
        · rw [sv_ne (by decide), sv_nj (by decide)]
          iterate 4 rw [sv_ne (by omega)]
          exact r2
        · rw [sv_ne (by decide), sv_same, nI_1]
        · show _ = nI (dU (dU (gD g) 3 (gP g) aa) 4 (gP g) b 0 r) ∧ _ = nI (dU (dU (gD g) 3 (gP g) aa) 4 (gP g) b 1 r) ∧ _ = nI (dU (dU (gD g) 3 (gP g) aa) 4 (gP g) b 2 r)
          rw [dU_k (by decide), dU_k (by decide), dU_k (by decide), dU_k (by decide), dU_k (by decide), dU_k (by decide)]
          have hr2 : r < gR g := hr
          iterate 6 rw [sv_ne (by omega)]
          exact r4 r hr
        · show _ = nI (dU (dU (gD g) 3 (gP g) aa) 4 (gP g) b 3 p) ∧ _ = nI (dU (dU (gD g) 3 (gP g) aa) 4 (gP g) b 4 p)
          by_cases w : p = gP g
          · subst w
            rw [dU_k (by decide), dU_same, dU_same]
            rw [sv_ne (show 1000 * 19 + gP g ≠ 0 by omega), sv_ne (show 1000 * 19 + gP g ≠ 11 by omega)]
            refine ⟨?_, sv_same⟩
            rw [sv_nj (by decide), sv_ne (by omega), sv_same]
          · rw [dU_i w, dU_i w, dU_i w, dU_i w]
            iterate 6 rw [sv_ne (by omega)]
            exact r5 p (by have : p < gP g + 1 := hp; omega)
        · show _ = nI (dU (dU (gD g) 3 (gP g) aa) 4 (gP g) b 5 s)
          rw [dU_k (by decide), dU_k (by decide)]
          iterate 6 rw [sv_ne (by omega)]
          exact r6 s hs
        · iterate 6 rw [sv_ne (by omega)]
          exact r7 s hs
        · show dU (dU (gD g) 3 (gP g) aa) 4 (gP g) b 0 r < _ ∧ dU (dU (gD g) 3 (gP g) aa) 4 (gP g) b 1 r < 6 ∧ 1 ≤ dU (dU (gD g) 3 (gP g) aa) 4 (gP g) b 2 r ∧ dU (dU (gD g) 3 (gP g) aa) 4 (gP g) b 2 r ≤ 30
          rw [dU_k (by decide), dU_k (by decide), dU_k (by decide), dU_k (by decide), dU_k (by decide), dU_k (by decide)]
          exact o4 r hr
        · show dU (dU (gD g) 3 (gP g) aa) 4 (gP g) b 3 p < 6 ∧ 1 ≤ dU (dU (gD g) 3 (gP g) aa) 4 (gP g) b 4 p ∧ dU (dU (gD g) 3 (gP g) aa) 4 (gP g) b 4 p ≤ 99
          by_cases w : p = gP g
          · subst w
            rw [dU_k (by decide), dU_same, dU_same]
            exact ⟨by omega, vw.1, vw.2⟩
          · rw [dU_i w, dU_i w, dU_i w, dU_i w]
            exact o5 p (by have : p < gP g + 1 := hp; omega)
        · show dU (dU (gD g) 3 (gP g) aa) 4 (gP g) b 5 s ≤ 15
          rw [dU_k (by decide), dU_k (by decide)]
          exact o6 s hs
      · rw [if_neg q, show clE t n (dU (dU (gD g) 3 (gP g) aa) 4 (gP g) b, gW g, gS g, gR g, gP g + 1) p1 = .inl (1, bl t n p1) by unfold clE sgP; rw [if_neg q]; rfl]
        exact ⟨by rw [sv_nj (by decide), sv_same]; rfl, sv_same, ⟨Nat.le_of_ble_eq_true rfl, Nat.le_of_ble_eq_true rfl⟩, _, ((hp.at (bl_le (t := t) hp.2.2.2.2).2).out (by decide) (fun _ => by decide)).out (by decide) (fun _ => by decide)⟩
set_option maxHeartbeats 4000000 in
theorem l_clause3 {bc bs : Nat} {h0 : jH} {V0 : mV} {g : HD} {c : Nat} (hd : 4 ≤ d) (hI : InvM am V h) (hF : mFr h0 h) (hp : PS V t n a) (hf : V 0 5 = 0) (rd : rdE V0 V) (hR : HR V g) (h7 : V 0 7 = nI c) : G E d bc bs mX11_clause 96 [some (vR (nMo am)), some (vI (nI 3)), some (vI (nI (0))), none, none] [] h (rdQ am V0 h0 t n (clK t n g 3 a) (fun V' g' => V' 0 7 = nI c ∧ HR V' g')) := by
  have okh := hR.2.2.2.2.2.2.2
  have b8 := okh.1
  have b10 := okh.2.1
  have bP := okh.2.2.1
  have han := hp.2.2.2.2
  refine g_iload_n (pc := 96) dX11_clause_96 rfl ?_
  refine g_tableOut (pc := 97) 225 dX11_clause_97 (by decide) (by decide) ?_
  have h110 := hR.1
  refine g_aload_n (pc := 225) dX11_clause_225 rfl ?_
  refine g_iconst (pc := 226) (v := 0) dX11_clause_226 (by decide) ?_
  refine g_aload_n (pc := 227) dX11_clause_227 rfl ?_
  refine g_getfield (pc := 228) f_X11_20_11 dX11_clause_228 hI.1 mf_11 ?_
  refine g_iconst (pc := 231) (v := 0) dX11_clause_231 (by decide) ?_
  refine g_iaload (pc := 232) dX11_clause_232 (mA hI 11 3 rfl (by decide)) (j := 0) (by decide) (by omega) (by decide) rfl ?_
  rw [h110]
  refine g_iconst (pc := 233) (v := 1) dX11_clause_233 (by decide) ?_
  refine g_isub (pc := 234) dX11_clause_234 ?_
  refine m_cV (pc := 235) (M' := mX11_number) (as := [_, _]) i_X11_175_11 eX11_number hI dX11_clause_235 (c_number (by omega) hI hp hf _ _) (by omega) rfl rfl (Nat.le_of_ble_eq_true rfl) (fun h hI fr => ?_)
  replace hF := mFr.tr hF fr
  refine num_cases (lo := 0) (hi := (nI (gS g) - 1)) hp.2.2.2.2 hp hf rd (fun kk pp ex0 fs ez => ?_) (fun p0 aa ex0 ev ez hv0 hin0 hpn hp2 rd2 hf2 => ?_)
  · rw [ez]
    refine g_istore_n (pc := 238) (ls' := [_, _, _, _, _]) dX11_clause_238 (by decide) rfl rfl ?_
    refine g_aload_n (pc := 239) dX11_clause_239 rfl ?_
    refine g_iconst (pc := 240) (v := 0) dX11_clause_240 (by decide) ?_
    refine g_aload_n (pc := 241) dX11_clause_241 rfl ?_
    refine g_getfield (pc := 242) f_X11_20_11 dX11_clause_242 hI.1 mf_11 ?_
    refine g_iconst (pc := 245) (v := 0) dX11_clause_245 (by decide) ?_
    refine g_iaload (pc := 246) dX11_clause_246 (mA hI 11 3 rfl (by decide)) (j := 0) (by decide) (by omega) (by decide) rfl ?_
    refine g_iconst (pc := 247) (v := 1) dX11_clause_247 (by decide) ?_
    refine g_isub (pc := 248) dX11_clause_248 ?_
    refine m_cP (pc := 249) (M' := mX11_number) (as := [_, _]) i_X11_175_11 eX11_number hI dX11_clause_249 (c_number1 hI fs.ne _ _) (by omega) rfl rfl (Nat.le_of_ble_eq_true rfl) ?_
    refine g_istore (pc := 252) (ls' := [_, _, _, _, _]) dX11_clause_252 (by decide) rfl rfl ?_
    refine g_aload_n (pc := 254) dX11_clause_254 rfl ?_
    refine g_getfield (pc := 255) f_X11_119_11 dX11_clause_255 hI.1 mf_5 ?_
    refine g_if_ne (pc := 258) 272 dX11_clause_258 (by decide) (fun c_258 => ?_) (fun c_258 => absurd c_258 fs.ne)
    refine g_iload_n (pc := 272) dX11_clause_272 rfl ?_
    refine g_iconst (pc := 273) (v := 3) dX11_clause_273 (by decide) ?_
    refine g_icmp_ge (pc := 274) 298 dX11_clause_274 (by decide) (fun c_274 => ?_) (fun c_274 => absurd (by decide) c_274)
    refine g_aload_n (pc := 298) dX11_clause_298 rfl ?_
    refine g_bipush (pc := 299) (v := 59) dX11_clause_299 (by decide) ?_
    refine m_cVv (pc := 301) (M' := mX11_sign) (as := [_]) i_X11_179_11 eX11_sign hI dX11_clause_301 (c_sign1 hI fs.ne _) (by omega) rfl rfl (Nat.le_of_ble_eq_true rfl) (fun h hI fr => ?_)
    replace hF := mFr.tr hF fr
    refine g_return (pc := 304) dX11_clause_304 rfl ?_
    refine ⟨rfl, _, hI, hF, fs.2.2.2.1, ?_⟩
    have ex : clK t n g 3 a = .inl (kk, pp) := by
      unfold clK
      rw [if_neg (by decide), if_neg (by decide), if_neg (by decide)]
      rw [ex0]
      try simp only [pB]
    rw [ex]
    exact ⟨fs.1, fs.2.1, fs.2.2.1, fs.2.2.2.2⟩
  · rw [ez]
    rw [ev] at hI
    have va := inR_m hv0 (by omega) hin0
    replace hp := hp2
    replace rd := rd2
    replace hf := hf2
    replace h110 : sv _ 0 4 (nI p0) 11 0 = nI (gS g) := (congrFun (sv_ne (by decide)) 0).trans h110
    replace h7 : sv _ 0 4 (nI p0) 0 7 = nI c := (sv_nj (by decide)).trans h7
    refine g_istore_n (pc := 238) (ls' := [_, _, _, _, _]) dX11_clause_238 (by decide) rfl rfl ?_
    refine g_aload_n (pc := 239) dX11_clause_239 rfl ?_
    refine g_iconst (pc := 240) (v := 0) dX11_clause_240 (by decide) ?_
    refine g_aload_n (pc := 241) dX11_clause_241 rfl ?_
    refine g_getfield (pc := 242) f_X11_20_11 dX11_clause_242 hI.1 mf_11 ?_
    refine g_iconst (pc := 245) (v := 0) dX11_clause_245 (by decide) ?_
    refine g_iaload (pc := 246) dX11_clause_246 (mA hI 11 3 rfl (by decide)) (j := 0) (by decide) (by omega) (by decide) rfl ?_
    rw [h110]
    refine g_iconst (pc := 247) (v := 1) dX11_clause_247 (by decide) ?_
    refine g_isub (pc := 248) dX11_clause_248 ?_
    refine m_cV (pc := 249) (M' := mX11_number) (as := [_, _]) i_X11_175_11 eX11_number hI dX11_clause_249 (c_number (by omega) hI hp hf _ _) (by omega) rfl rfl (Nat.le_of_ble_eq_true rfl) (fun h hI fr => ?_)
    replace hF := mFr.tr hF fr
    refine num_cases (lo := 0) (hi := (nI (gS g) - 1)) hp.2.2.2.2 hp hf rd (fun kk pp ex1 fs ez => ?_) (fun p1 b ex1 ev ez hv1 hin1 hpn hp2 rd2 hf2 => ?_)
    · rw [ez]
      refine g_istore (pc := 252) (ls' := [_, _, _, _, _]) dX11_clause_252 (by decide) rfl rfl ?_
      refine g_aload_n (pc := 254) dX11_clause_254 rfl ?_
      refine g_getfield (pc := 255) f_X11_119_11 dX11_clause_255 hI.1 mf_5 ?_
      refine g_if_ne (pc := 258) 272 dX11_clause_258 (by decide) (fun c_258 => ?_) (fun c_258 => absurd c_258 fs.ne)
      refine g_iload_n (pc := 272) dX11_clause_272 rfl ?_
      refine g_iconst (pc := 273) (v := 3) dX11_clause_273 (by decide) ?_
      refine g_icmp_ge (pc := 274) 298 dX11_clause_274 (by decide) (fun c_274 => ?_) (fun c_274 => absurd (by decide) c_274)
      refine g_aload_n (pc := 298) dX11_clause_298 rfl ?_
      refine g_bipush (pc := 299) (v := 59) dX11_clause_299 (by decide) ?_
      refine m_cVv (pc := 301) (M' := mX11_sign) (as := [_]) i_X11_179_11 eX11_sign hI dX11_clause_301 (c_sign1 hI fs.ne _) (by omega) rfl rfl (Nat.le_of_ble_eq_true rfl) (fun h hI fr => ?_)
      replace hF := mFr.tr hF fr
      refine g_return (pc := 304) dX11_clause_304 rfl ?_
      refine ⟨rfl, _, hI, hF, fs.2.2.2.1, ?_⟩
      have ex : clK t n g 3 a = .inl (kk, pp) := by
        unfold clK
        rw [if_neg (by decide), if_neg (by decide), if_neg (by decide)]
        rw [ex0]
        try simp only [pB]
        rw [ex1]
        try simp only [pB]
      rw [ex]
      exact ⟨fs.1, fs.2.1, fs.2.2.1, fs.2.2.2.2⟩
    · rw [ez]
      rw [ev] at hI
      replace hp := hp2
      replace rd := rd2
      replace hf := hf2
      replace h110 : sv _ 0 4 (nI p1) 11 0 = nI (gS g) := (congrFun (sv_ne (by decide)) 0).trans h110
      replace h7 : sv _ 0 4 (nI p1) 0 7 = nI c := (sv_nj (by decide)).trans h7
      refine g_istore (pc := 252) (ls' := [_, _, _, _, _]) dX11_clause_252 (by decide) rfl rfl ?_
      refine g_aload_n (pc := 254) dX11_clause_254 rfl ?_
      refine g_getfield (pc := 255) f_X11_119_11 dX11_clause_255 hI.1 mf_5 ?_
      refine g_if_ne (pc := 258) 272 dX11_clause_258 (by decide) (fun c_258 => absurd hf c_258) (fun c_258 => ?_)
      refine g_aload_n (pc := 261) dX11_clause_261 rfl ?_
      refine g_getfield (pc := 262) f_X11_32_11 dX11_clause_262 hI.1 mf_15 ?_
      refine g_iload_n (pc := 265) dX11_clause_265 rfl ?_
      refine g_iload (pc := 266) dX11_clause_266 rfl ?_
      refine m_iast (pc := 268) (k := 15) (n := 8) hI rfl (by decide) dX11_clause_268 (j := aa) rfl (by omega) (by decide) (fun h hI fr => ?_)
      replace hF := mFr.tr hF fr
      replace hp := hp.out (r := 15) (j := aa) (y := nI b) (by decide) (fun e => by cases e)
      replace rd := rd.svv (r := 15) (j := aa) (y := nI b) (Or.inr (Or.inr (Or.inr (Or.inl rfl))))
      replace hf : sv _ 15 aa (nI b) 0 5 = 0 := (congrFun (sv_ne (by decide)) 5).trans hf
      replace h7 : sv _ 15 aa (nI b) 0 7 = nI c := (congrFun (sv_ne (by decide)) 7).trans h7
      refine g_goto (pc := 269) 272 dX11_clause_269 (by decide) ?_
      refine g_iload_n (pc := 272) dX11_clause_272 rfl ?_
      refine g_iconst (pc := 273) (v := 3) dX11_clause_273 (by decide) ?_
      refine g_icmp_ge (pc := 274) 298 dX11_clause_274 (by decide) (fun c_274 => ?_) (fun c_274 => absurd (by decide) c_274)
      refine g_aload_n (pc := 298) dX11_clause_298 rfl ?_
      refine g_bipush (pc := 299) (v := 59) dX11_clause_299 (by decide) ?_
      refine m_cVv (pc := 301) (M' := mX11_sign) (as := [_]) i_X11_179_11 eX11_sign hI dX11_clause_301 (c_sign (by omega) hI hp hf 59) (by omega) rfl rfl (Nat.le_of_ble_eq_true rfl) (fun h hI fr => ?_)
      replace hF := mFr.tr hF fr
      refine g_return (pc := 304) dX11_clause_304 rfl ?_
      refine ⟨rfl, _, hI, hF, ?_, ?_⟩
      · split
        · exact rd.a4
        · exact rd.a4.a5.a6
      have ex : clK t n g 3 a = clE t n (gD g, j_up (gW g) aa (nI b), gS g, gR g, gP g) p1 := by
        unfold clK
        rw [if_neg (by decide), if_neg (by decide), if_neg (by decide)]
        rw [ex0]
        try simp only [pB]
        rw [ex1]
        try simp only [pB]
      rw [ex]
      by_cases q : sgI t n p1 = 59
      · rw [if_pos q, show clE t n (gD g, j_up (gW g) aa (nI b), gS g, gR g, gP g) p1 = .inr (bl t n p1 + 1, (gD g, j_up (gW g) aa (nI b), gS g, gR g, gP g)) by unfold clE sgP; rw [if_pos q]; rfl]
        have hb := bl_le (t := t) hp.2.2.2.2
        have hlt : bl t n p1 < n := by
          unfold sgI bN at q
          by_cases w : bl t n p1 < n
          · exact w
          · rw [if_neg w] at q; exact absurd q (by decide)
        refine ⟨(sv_nj (by decide)).trans hf, hp.at (by omega), (sv_nj (by decide)).trans h7, ?_⟩
        show HR _ (gD g, j_up (gW g) aa (nI b), gS g, gR g, gP g)
        have vb := inR_m hv1 (by omega) hin1
        obtain ⟨r1, r2, r3, r4, r5, r6, r7, o1, o2, o3, o4, o5, o6, o7⟩ := hR
        refine ⟨?_, ?_, ?_, fun r hr => ?_, fun p hp => ?_, fun s hs => ?_, fun s hs => ?_, o1, o2, o3, o4, o5, o6, fun s => ?_⟩
        · iterate 4 rw [sv_ne (by omega)]
          exact r1
        · iterate 4 rw [sv_ne (by omega)]
          exact r2
        · iterate 4 rw [sv_ne (by omega)]
          exact r3
        · iterate 4 rw [sv_ne (by omega)]
          exact r4 r hr
        · iterate 4 rw [sv_ne (by omega)]
          exact r5 p hp
        · iterate 4 rw [sv_ne (by omega)]
          exact r6 s hs
        · rw [sv_ne (by decide)]
          show _ = j_up (gW g) aa (nI b) s
          by_cases w : s = aa
          · rw [w, sv_same, j_up_same]
          · rw [sv_nj w, j_up_ne w]
            iterate 2 rw [sv_ne (by omega)]
            exact r7 s hs
        · show j_up (gW g) aa (nI b) s = -1 ∨ ∃ j, j < gS g ∧ s < gS g ∧ j_up (gW g) aa (nI b) s = nI j
          by_cases w : s = aa
          · rw [w, j_up_same]
            exact Or.inr ⟨b, vb, va, rfl⟩
          · rw [j_up_ne w]
            exact o7 s
      · rw [if_neg q, show clE t n (gD g, j_up (gW g) aa (nI b), gS g, gR g, gP g) p1 = .inl (1, bl t n p1) by unfold clE sgP; rw [if_neg q]; rfl]
        exact ⟨by rw [sv_nj (by decide), sv_same]; rfl, sv_same, ⟨Nat.le_of_ble_eq_true rfl, Nat.le_of_ble_eq_true rfl⟩, _, ((hp.at (bl_le (t := t) hp.2.2.2.2).2).out (by decide) (fun _ => by decide)).out (by decide) (fun _ => by decide)⟩
theorem clP_4 {t : Nat → Nat} {n c a : Nat} {g : HD} (h : kdN t n a = 4) : clP t n c g a = .inl (1, a) := if_pos h
theorem clP_f {t : Nat → Nat} {n c a k : Nat} {g : HD} (h : kdN t n a = k) (hk : k ≠ 4) (hf : clFull g c k = true) : clP t n c g a = .inl (3, a) := by
  unfold clP
  rw [h, if_neg hk, if_pos hf]
theorem clP_k {t : Nat → Nat} {n c a k : Nat} {g : HD} (h : kdN t n a = k) (hk : k ≠ 4) (hf : clFull g c k = false) : clP t n c g a = clK t n g k (a + wl t n a) := by
  unfold clP
  rw [h, if_neg hk, if_neg (by rw [hf]; decide)]
theorem kdN_c (t : Nat → Nat) (n a : Nat) : kdN t n a = 0 ∨ kdN t n a = 1 ∨ kdN t n a = 2 ∨ kdN t n a = 3 ∨ kdN t n a = 4 := by
  unfold kdN
  repeat' split
  all_goals omega
set_option maxHeartbeats 4000000 in
theorem c_clause {c : Nat} {g : HD} (hd : 5 ≤ d) (hI : InvM am V h) (hp : PS V t n a) (hb : bl t n a = a) (hf : V 0 5 = 0) (h7 : V 0 7 = nI c) (hc : c ≤ 60) (hR : HR V g) : Ct E d 0 0 mX11_clause [vR (nMo am)] h (rdQ am V h t n (clP t n c g a) (fun V' g' => V' 0 7 = nI (c + 1) ∧ HR V' g')) := by
  refine ct_of (by decide) (Nat.le_of_ble_eq_true rfl) rfl ?_
  have hF : mFr h h := mFr.rf
  have okh := hR.2.2.2.2.2.2.2
  have b8 := okh.1
  have b10 := okh.2.1
  have bP := okh.2.2.1
  have hwl : a + wl t n a ≤ n := by have := wl_le (t := t) (n := n) (a := a); have := hp.2.2.2.2; omega
  refine g_aload_n (pc := 0) dX11_clause_0 rfl ?_
  refine m_cV (pc := 1) (M' := mX11_kindHere) (as := []) i_X11_169_11 eX11_kindHere hI dX11_clause_1 (c_kindHere (by omega) hI hp hf) (by omega) rfl rfl (Nat.le_of_ble_eq_true rfl) (fun h hI fr => ?_)
  replace hF := mFr.tr hF fr
  rw [hb, ← hp.2.2.2.1, sv_self] at hI
  rw [hb]
  refine g_istore_n (pc := 4) (ls' := [_, _, _, _, _]) dX11_clause_4 (by decide) rfl rfl ?_
  rcases kdN_c t n a with hk | hk | hk | hk | hk <;> rw [hk]
  · refine g_iload_n (pc := 5) dX11_clause_5 rfl ?_
    refine g_iconst (pc := 6) (v := -1) dX11_clause_6 (by decide) ?_
    refine g_icmp_ne (pc := 7) 22 dX11_clause_7 (by decide) (fun c_7 => ?_) (fun c_7 => absurd c_7 (by decide))
    refine g_aload_n (pc := 22) dX11_clause_22 rfl ?_
    refine g_getfield (pc := 23) f_X11_159_11 dX11_clause_23 hI.1 mf_7 ?_
    refine g_bipush (pc := 26) (v := 60) dX11_clause_26 (by decide) ?_
    rw [h7]
    refine g_icmp_eq (pc := 28) 49 dX11_clause_28 (by decide) (fun c_28 => ?_) (fun c_28 => ?_)
    · refine g_aload_n (pc := 49) dX11_clause_49 rfl ?_
      refine g_iconst (pc := 50) (v := 3) dX11_clause_50 (by decide) ?_
      refine g_aload_n (pc := 51) dX11_clause_51 rfl ?_
      refine g_getfield (pc := 52) f_X11_112_11 dX11_clause_52 hI.1 mf_4 ?_
      refine m_cVv (pc := 55) (M' := mX11_wrong) (as := [_, _]) i_X11_132_11 eX11_wrong hI dX11_clause_55 (c_wrong hI _ _) (by omega) rfl rfl (Nat.le_of_ble_eq_true rfl) (fun h hI fr => ?_)
      replace hF := mFr.tr hF fr
      rw [mWrong_0 hf, hp.2.2.2.1] at hI
      have hne : ¬ sv (sv V 0 5 3) 0 6 (nI a) 0 5 = 0 := by rw [sv_nj (by decide), sv_same]; decide
      refine g_aload_n (pc := 58) dX11_clause_58 rfl ?_
      refine g_getfield (pc := 59) f_X11_119_11 dX11_clause_59 hI.1 mf_5 ?_
      refine g_if_eq (pc := 62) 66 dX11_clause_62 (by decide) (fun c_62 => absurd c_62 hne) (fun c_62 => ?_)
      refine g_return (pc := 65) dX11_clause_65 rfl ?_
      refine ⟨rfl, _, hI, hF, rdE.rf.a5.a6, ?_⟩
      rw [clP_f hk (by decide) (by unfold clFull; simp [(nI_eq (b := 60) (by omega) (by decide)).mp c_28])]
      exact ⟨by rw [sv_nj (by decide), sv_same]; rfl, sv_same, ⟨Nat.le_of_ble_eq_true rfl, Nat.le_of_ble_eq_true rfl⟩, a, (hp.out (by decide) (fun _ => by decide)).out (by decide) (fun _ => by decide)⟩
    · refine g_iload_n (pc := 31) dX11_clause_31 rfl ?_
      refine g_iconst (pc := 32) (v := 3) dX11_clause_32 (by decide) ?_
      refine g_icmp_ge (pc := 33) 58 dX11_clause_33 (by decide) (fun c_33 => absurd c_33 (by decide)) (fun c_33 => ?_)
      refine g_aload_n (pc := 36) dX11_clause_36 rfl ?_
      refine g_getfield (pc := 37) f_X11_20_11 dX11_clause_37 hI.1 mf_11 ?_
      refine g_iload_n (pc := 40) dX11_clause_40 rfl ?_
      refine g_iaload (pc := 41) dX11_clause_41 (mA hI 11 3 rfl (by decide)) (j := 0) rfl (by omega) (by decide) rfl ?_
      rw [hR.1]
      refine g_iload_n (pc := 42) dX11_clause_42 rfl ?_
      refine g_cS (pc := 43) (M' := mX11_mostOf) (as := [_]) i_X11_172 eX11_mostOf dX11_clause_43 (c_mostOf _) (by omega) rfl rfl (Nat.le_of_ble_eq_true rfl) ?_
      refine g_icmp_ne (pc := 46) 58 dX11_clause_46 (by decide) (fun c_46 => ?_) (fun c_46 => ?_)
      · have hff : clFull g c 0 = false := by
          unfold clFull
          have q1 : ¬ c = 60 := fun e => c_28 (by rw [e]; rfl)
          have q2 : ¬ gS g = 8 := fun e => c_46 (by rw [e]; rfl)
          simp [q1, q2]
        have hlim : gS g < 8 := by
          have q2 : ¬ gS g = 8 := fun e => c_46 (by rw [e]; rfl)
          omega
        rw [clP_k hk (by decide) hff]
        refine g_aload_n (pc := 58) dX11_clause_58 rfl ?_
        refine g_getfield (pc := 59) f_X11_119_11 dX11_clause_59 hI.1 mf_5 ?_
        refine g_if_eq (pc := 62) 66 dX11_clause_62 (by decide) (fun c_62 => ?_) (fun c_62 => absurd hf c_62)
        refine g_aload_n (pc := 66) dX11_clause_66 rfl ?_
        refine m_cVv (pc := 67) (M' := mX11_skipWord) (as := []) i_X11_156_11 eX11_skipWord hI dX11_clause_67 (c_skipWord (by omega) hI hp) (by omega) rfl rfl (Nat.le_of_ble_eq_true rfl) (fun h hI fr => ?_)
        replace hF := mFr.tr hF fr
        have hp1 := hp.at hwl
        refine g_aload_n (pc := 70) dX11_clause_70 rfl ?_
        refine g_dup (pc := 71) dX11_clause_71 rfl ?_
        refine g_getfield (pc := 72) f_X11_159_11 dX11_clause_72 hI.1 mf_7 ?_
        rw [sv_nj (by decide), h7]
        refine g_iconst (pc := 75) (v := 1) dX11_clause_75 (by decide) ?_
        refine g_iadd (pc := 76) dX11_clause_76 ?_
        rw [nI_1]
        refine m_put (pc := 77) hI w_X11_159_11 rfl (by decide) dX11_clause_77 (fun h hI fr => ?_)
        replace hF := mFr.tr hF fr
        refine g_iload_n (pc := 80) dX11_clause_80 rfl ?_
        refine g_iconst (pc := 81) (v := 3) dX11_clause_81 (by decide) ?_
        refine g_icmp_ge (pc := 82) 94 dX11_clause_82 (by decide) (fun c_82 => absurd c_82 (by decide)) (fun c_82 => ?_)
        refine g_aload_n (pc := 85) dX11_clause_85 rfl ?_
        refine g_getfield (pc := 86) f_X11_20_11 dX11_clause_86 hI.1 mf_11 ?_
        refine g_iload_n (pc := 89) dX11_clause_89 rfl ?_
        refine g_iaload (pc := 90) dX11_clause_90 (mA hI 11 3 rfl (by decide)) (j := 0) rfl (by omega) (by decide) rfl ?_
        refine g_goto (pc := 91) 95 dX11_clause_91 (by decide) ?_
        rw [sv_ne (by decide), sv_ne (by decide), hR.1]
        refine g_istore_n (pc := 95) (ls' := [_, _, _, _, _]) dX11_clause_95 (by decide) rfl rfl ?_
        exact l_clause0 (by omega) hI hF (hp1.out (by decide) (fun _ => by decide)) ((sv_nj (by decide)).trans ((sv_nj (by decide)).trans hf)) rdE.rf.a4.a7 (hR.of (fun r hr => by rw [sv_ne (by omega), sv_ne (by omega)])) sv_same hlim
      · refine g_aload_n (pc := 49) dX11_clause_49 rfl ?_
        refine g_iconst (pc := 50) (v := 3) dX11_clause_50 (by decide) ?_
        refine g_aload_n (pc := 51) dX11_clause_51 rfl ?_
        refine g_getfield (pc := 52) f_X11_112_11 dX11_clause_52 hI.1 mf_4 ?_
        refine m_cVv (pc := 55) (M' := mX11_wrong) (as := [_, _]) i_X11_132_11 eX11_wrong hI dX11_clause_55 (c_wrong hI _ _) (by omega) rfl rfl (Nat.le_of_ble_eq_true rfl) (fun h hI fr => ?_)
        replace hF := mFr.tr hF fr
        rw [mWrong_0 hf, hp.2.2.2.1] at hI
        have hne : ¬ sv (sv V 0 5 3) 0 6 (nI a) 0 5 = 0 := by rw [sv_nj (by decide), sv_same]; decide
        refine g_aload_n (pc := 58) dX11_clause_58 rfl ?_
        refine g_getfield (pc := 59) f_X11_119_11 dX11_clause_59 hI.1 mf_5 ?_
        refine g_if_eq (pc := 62) 66 dX11_clause_62 (by decide) (fun c_62 => absurd c_62 hne) (fun c_62 => ?_)
        refine g_return (pc := 65) dX11_clause_65 rfl ?_
        refine ⟨rfl, _, hI, hF, rdE.rf.a5.a6, ?_⟩
        rw [clP_f hk (by decide) (by unfold clFull; simp [(nI_eq (b := 8) (by omega) (by decide)).mp c_46])]
        exact ⟨by rw [sv_nj (by decide), sv_same]; rfl, sv_same, ⟨Nat.le_of_ble_eq_true rfl, Nat.le_of_ble_eq_true rfl⟩, a, (hp.out (by decide) (fun _ => by decide)).out (by decide) (fun _ => by decide)⟩
  · refine g_iload_n (pc := 5) dX11_clause_5 rfl ?_
    refine g_iconst (pc := 6) (v := -1) dX11_clause_6 (by decide) ?_
    refine g_icmp_ne (pc := 7) 22 dX11_clause_7 (by decide) (fun c_7 => ?_) (fun c_7 => absurd c_7 (by decide))
    refine g_aload_n (pc := 22) dX11_clause_22 rfl ?_
    refine g_getfield (pc := 23) f_X11_159_11 dX11_clause_23 hI.1 mf_7 ?_
    refine g_bipush (pc := 26) (v := 60) dX11_clause_26 (by decide) ?_
    rw [h7]
    refine g_icmp_eq (pc := 28) 49 dX11_clause_28 (by decide) (fun c_28 => ?_) (fun c_28 => ?_)
    · refine g_aload_n (pc := 49) dX11_clause_49 rfl ?_
      refine g_iconst (pc := 50) (v := 3) dX11_clause_50 (by decide) ?_
      refine g_aload_n (pc := 51) dX11_clause_51 rfl ?_
      refine g_getfield (pc := 52) f_X11_112_11 dX11_clause_52 hI.1 mf_4 ?_
      refine m_cVv (pc := 55) (M' := mX11_wrong) (as := [_, _]) i_X11_132_11 eX11_wrong hI dX11_clause_55 (c_wrong hI _ _) (by omega) rfl rfl (Nat.le_of_ble_eq_true rfl) (fun h hI fr => ?_)
      replace hF := mFr.tr hF fr
      rw [mWrong_0 hf, hp.2.2.2.1] at hI
      have hne : ¬ sv (sv V 0 5 3) 0 6 (nI a) 0 5 = 0 := by rw [sv_nj (by decide), sv_same]; decide
      refine g_aload_n (pc := 58) dX11_clause_58 rfl ?_
      refine g_getfield (pc := 59) f_X11_119_11 dX11_clause_59 hI.1 mf_5 ?_
      refine g_if_eq (pc := 62) 66 dX11_clause_62 (by decide) (fun c_62 => absurd c_62 hne) (fun c_62 => ?_)
      refine g_return (pc := 65) dX11_clause_65 rfl ?_
      refine ⟨rfl, _, hI, hF, rdE.rf.a5.a6, ?_⟩
      rw [clP_f hk (by decide) (by unfold clFull; simp [(nI_eq (b := 60) (by omega) (by decide)).mp c_28])]
      exact ⟨by rw [sv_nj (by decide), sv_same]; rfl, sv_same, ⟨Nat.le_of_ble_eq_true rfl, Nat.le_of_ble_eq_true rfl⟩, a, (hp.out (by decide) (fun _ => by decide)).out (by decide) (fun _ => by decide)⟩
    · refine g_iload_n (pc := 31) dX11_clause_31 rfl ?_
      refine g_iconst (pc := 32) (v := 3) dX11_clause_32 (by decide) ?_
      refine g_icmp_ge (pc := 33) 58 dX11_clause_33 (by decide) (fun c_33 => absurd c_33 (by decide)) (fun c_33 => ?_)
      refine g_aload_n (pc := 36) dX11_clause_36 rfl ?_
      refine g_getfield (pc := 37) f_X11_20_11 dX11_clause_37 hI.1 mf_11 ?_
      refine g_iload_n (pc := 40) dX11_clause_40 rfl ?_
      refine g_iaload (pc := 41) dX11_clause_41 (mA hI 11 3 rfl (by decide)) (j := 1) rfl (by omega) (by decide) rfl ?_
      rw [hR.2.1]
      refine g_iload_n (pc := 42) dX11_clause_42 rfl ?_
      refine g_cS (pc := 43) (M' := mX11_mostOf) (as := [_]) i_X11_172 eX11_mostOf dX11_clause_43 (c_mostOf _) (by omega) rfl rfl (Nat.le_of_ble_eq_true rfl) ?_
      refine g_icmp_ne (pc := 46) 58 dX11_clause_46 (by decide) (fun c_46 => ?_) (fun c_46 => ?_)
      · have hff : clFull g c 1 = false := by
          unfold clFull
          have q1 : ¬ c = 60 := fun e => c_28 (by rw [e]; rfl)
          have q2 : ¬ gR g = 10 := fun e => c_46 (by rw [e]; rfl)
          simp [q1, q2]
        have hlim : gR g < 10 := by
          have q2 : ¬ gR g = 10 := fun e => c_46 (by rw [e]; rfl)
          omega
        rw [clP_k hk (by decide) hff]
        refine g_aload_n (pc := 58) dX11_clause_58 rfl ?_
        refine g_getfield (pc := 59) f_X11_119_11 dX11_clause_59 hI.1 mf_5 ?_
        refine g_if_eq (pc := 62) 66 dX11_clause_62 (by decide) (fun c_62 => ?_) (fun c_62 => absurd hf c_62)
        refine g_aload_n (pc := 66) dX11_clause_66 rfl ?_
        refine m_cVv (pc := 67) (M' := mX11_skipWord) (as := []) i_X11_156_11 eX11_skipWord hI dX11_clause_67 (c_skipWord (by omega) hI hp) (by omega) rfl rfl (Nat.le_of_ble_eq_true rfl) (fun h hI fr => ?_)
        replace hF := mFr.tr hF fr
        have hp1 := hp.at hwl
        refine g_aload_n (pc := 70) dX11_clause_70 rfl ?_
        refine g_dup (pc := 71) dX11_clause_71 rfl ?_
        refine g_getfield (pc := 72) f_X11_159_11 dX11_clause_72 hI.1 mf_7 ?_
        rw [sv_nj (by decide), h7]
        refine g_iconst (pc := 75) (v := 1) dX11_clause_75 (by decide) ?_
        refine g_iadd (pc := 76) dX11_clause_76 ?_
        rw [nI_1]
        refine m_put (pc := 77) hI w_X11_159_11 rfl (by decide) dX11_clause_77 (fun h hI fr => ?_)
        replace hF := mFr.tr hF fr
        refine g_iload_n (pc := 80) dX11_clause_80 rfl ?_
        refine g_iconst (pc := 81) (v := 3) dX11_clause_81 (by decide) ?_
        refine g_icmp_ge (pc := 82) 94 dX11_clause_82 (by decide) (fun c_82 => absurd c_82 (by decide)) (fun c_82 => ?_)
        refine g_aload_n (pc := 85) dX11_clause_85 rfl ?_
        refine g_getfield (pc := 86) f_X11_20_11 dX11_clause_86 hI.1 mf_11 ?_
        refine g_iload_n (pc := 89) dX11_clause_89 rfl ?_
        refine g_iaload (pc := 90) dX11_clause_90 (mA hI 11 3 rfl (by decide)) (j := 1) rfl (by omega) (by decide) rfl ?_
        refine g_goto (pc := 91) 95 dX11_clause_91 (by decide) ?_
        rw [sv_ne (by decide), sv_ne (by decide), hR.2.1]
        refine g_istore_n (pc := 95) (ls' := [_, _, _, _, _]) dX11_clause_95 (by decide) rfl rfl ?_
        exact l_clause1 (by omega) hI hF (hp1.out (by decide) (fun _ => by decide)) ((sv_nj (by decide)).trans ((sv_nj (by decide)).trans hf)) rdE.rf.a4.a7 (hR.of (fun r hr => by rw [sv_ne (by omega), sv_ne (by omega)])) sv_same hlim
      · refine g_aload_n (pc := 49) dX11_clause_49 rfl ?_
        refine g_iconst (pc := 50) (v := 3) dX11_clause_50 (by decide) ?_
        refine g_aload_n (pc := 51) dX11_clause_51 rfl ?_
        refine g_getfield (pc := 52) f_X11_112_11 dX11_clause_52 hI.1 mf_4 ?_
        refine m_cVv (pc := 55) (M' := mX11_wrong) (as := [_, _]) i_X11_132_11 eX11_wrong hI dX11_clause_55 (c_wrong hI _ _) (by omega) rfl rfl (Nat.le_of_ble_eq_true rfl) (fun h hI fr => ?_)
        replace hF := mFr.tr hF fr
        rw [mWrong_0 hf, hp.2.2.2.1] at hI
        have hne : ¬ sv (sv V 0 5 3) 0 6 (nI a) 0 5 = 0 := by rw [sv_nj (by decide), sv_same]; decide
        refine g_aload_n (pc := 58) dX11_clause_58 rfl ?_
        refine g_getfield (pc := 59) f_X11_119_11 dX11_clause_59 hI.1 mf_5 ?_
        refine g_if_eq (pc := 62) 66 dX11_clause_62 (by decide) (fun c_62 => absurd c_62 hne) (fun c_62 => ?_)
        refine g_return (pc := 65) dX11_clause_65 rfl ?_
        refine ⟨rfl, _, hI, hF, rdE.rf.a5.a6, ?_⟩
        rw [clP_f hk (by decide) (by unfold clFull; simp [(nI_eq (b := 10) (by omega) (by decide)).mp c_46])]
        exact ⟨by rw [sv_nj (by decide), sv_same]; rfl, sv_same, ⟨Nat.le_of_ble_eq_true rfl, Nat.le_of_ble_eq_true rfl⟩, a, (hp.out (by decide) (fun _ => by decide)).out (by decide) (fun _ => by decide)⟩
  · refine g_iload_n (pc := 5) dX11_clause_5 rfl ?_
    refine g_iconst (pc := 6) (v := -1) dX11_clause_6 (by decide) ?_
    refine g_icmp_ne (pc := 7) 22 dX11_clause_7 (by decide) (fun c_7 => ?_) (fun c_7 => absurd c_7 (by decide))
    refine g_aload_n (pc := 22) dX11_clause_22 rfl ?_
    refine g_getfield (pc := 23) f_X11_159_11 dX11_clause_23 hI.1 mf_7 ?_
    refine g_bipush (pc := 26) (v := 60) dX11_clause_26 (by decide) ?_
    rw [h7]
    refine g_icmp_eq (pc := 28) 49 dX11_clause_28 (by decide) (fun c_28 => ?_) (fun c_28 => ?_)
    · refine g_aload_n (pc := 49) dX11_clause_49 rfl ?_
      refine g_iconst (pc := 50) (v := 3) dX11_clause_50 (by decide) ?_
      refine g_aload_n (pc := 51) dX11_clause_51 rfl ?_
      refine g_getfield (pc := 52) f_X11_112_11 dX11_clause_52 hI.1 mf_4 ?_
      refine m_cVv (pc := 55) (M' := mX11_wrong) (as := [_, _]) i_X11_132_11 eX11_wrong hI dX11_clause_55 (c_wrong hI _ _) (by omega) rfl rfl (Nat.le_of_ble_eq_true rfl) (fun h hI fr => ?_)
      replace hF := mFr.tr hF fr
      rw [mWrong_0 hf, hp.2.2.2.1] at hI
      have hne : ¬ sv (sv V 0 5 3) 0 6 (nI a) 0 5 = 0 := by rw [sv_nj (by decide), sv_same]; decide
      refine g_aload_n (pc := 58) dX11_clause_58 rfl ?_
      refine g_getfield (pc := 59) f_X11_119_11 dX11_clause_59 hI.1 mf_5 ?_
      refine g_if_eq (pc := 62) 66 dX11_clause_62 (by decide) (fun c_62 => absurd c_62 hne) (fun c_62 => ?_)
      refine g_return (pc := 65) dX11_clause_65 rfl ?_
      refine ⟨rfl, _, hI, hF, rdE.rf.a5.a6, ?_⟩
      rw [clP_f hk (by decide) (by unfold clFull; simp [(nI_eq (b := 60) (by omega) (by decide)).mp c_28])]
      exact ⟨by rw [sv_nj (by decide), sv_same]; rfl, sv_same, ⟨Nat.le_of_ble_eq_true rfl, Nat.le_of_ble_eq_true rfl⟩, a, (hp.out (by decide) (fun _ => by decide)).out (by decide) (fun _ => by decide)⟩
    · refine g_iload_n (pc := 31) dX11_clause_31 rfl ?_
      refine g_iconst (pc := 32) (v := 3) dX11_clause_32 (by decide) ?_
      refine g_icmp_ge (pc := 33) 58 dX11_clause_33 (by decide) (fun c_33 => absurd c_33 (by decide)) (fun c_33 => ?_)
      refine g_aload_n (pc := 36) dX11_clause_36 rfl ?_
      refine g_getfield (pc := 37) f_X11_20_11 dX11_clause_37 hI.1 mf_11 ?_
      refine g_iload_n (pc := 40) dX11_clause_40 rfl ?_
      refine g_iaload (pc := 41) dX11_clause_41 (mA hI 11 3 rfl (by decide)) (j := 2) rfl (by omega) (by decide) rfl ?_
      rw [hR.2.2.1]
      refine g_iload_n (pc := 42) dX11_clause_42 rfl ?_
      refine g_cS (pc := 43) (M' := mX11_mostOf) (as := [_]) i_X11_172 eX11_mostOf dX11_clause_43 (c_mostOf _) (by omega) rfl rfl (Nat.le_of_ble_eq_true rfl) ?_
      refine g_icmp_ne (pc := 46) 58 dX11_clause_46 (by decide) (fun c_46 => ?_) (fun c_46 => ?_)
      · have hff : clFull g c 2 = false := by
          unfold clFull
          have q1 : ¬ c = 60 := fun e => c_28 (by rw [e]; rfl)
          have q2 : ¬ gP g = 8 := fun e => c_46 (by rw [e]; rfl)
          simp [q1, q2]
        have hlim : gP g < 8 := by
          have q2 : ¬ gP g = 8 := fun e => c_46 (by rw [e]; rfl)
          omega
        rw [clP_k hk (by decide) hff]
        refine g_aload_n (pc := 58) dX11_clause_58 rfl ?_
        refine g_getfield (pc := 59) f_X11_119_11 dX11_clause_59 hI.1 mf_5 ?_
        refine g_if_eq (pc := 62) 66 dX11_clause_62 (by decide) (fun c_62 => ?_) (fun c_62 => absurd hf c_62)
        refine g_aload_n (pc := 66) dX11_clause_66 rfl ?_
        refine m_cVv (pc := 67) (M' := mX11_skipWord) (as := []) i_X11_156_11 eX11_skipWord hI dX11_clause_67 (c_skipWord (by omega) hI hp) (by omega) rfl rfl (Nat.le_of_ble_eq_true rfl) (fun h hI fr => ?_)
        replace hF := mFr.tr hF fr
        have hp1 := hp.at hwl
        refine g_aload_n (pc := 70) dX11_clause_70 rfl ?_
        refine g_dup (pc := 71) dX11_clause_71 rfl ?_
        refine g_getfield (pc := 72) f_X11_159_11 dX11_clause_72 hI.1 mf_7 ?_
        rw [sv_nj (by decide), h7]
        refine g_iconst (pc := 75) (v := 1) dX11_clause_75 (by decide) ?_
        refine g_iadd (pc := 76) dX11_clause_76 ?_
        rw [nI_1]
        refine m_put (pc := 77) hI w_X11_159_11 rfl (by decide) dX11_clause_77 (fun h hI fr => ?_)
        replace hF := mFr.tr hF fr
        refine g_iload_n (pc := 80) dX11_clause_80 rfl ?_
        refine g_iconst (pc := 81) (v := 3) dX11_clause_81 (by decide) ?_
        refine g_icmp_ge (pc := 82) 94 dX11_clause_82 (by decide) (fun c_82 => absurd c_82 (by decide)) (fun c_82 => ?_)
        refine g_aload_n (pc := 85) dX11_clause_85 rfl ?_
        refine g_getfield (pc := 86) f_X11_20_11 dX11_clause_86 hI.1 mf_11 ?_
        refine g_iload_n (pc := 89) dX11_clause_89 rfl ?_
        refine g_iaload (pc := 90) dX11_clause_90 (mA hI 11 3 rfl (by decide)) (j := 2) rfl (by omega) (by decide) rfl ?_
        refine g_goto (pc := 91) 95 dX11_clause_91 (by decide) ?_
        rw [sv_ne (by decide), sv_ne (by decide), hR.2.2.1]
        refine g_istore_n (pc := 95) (ls' := [_, _, _, _, _]) dX11_clause_95 (by decide) rfl rfl ?_
        exact l_clause2 (by omega) hI hF (hp1.out (by decide) (fun _ => by decide)) ((sv_nj (by decide)).trans ((sv_nj (by decide)).trans hf)) rdE.rf.a4.a7 (hR.of (fun r hr => by rw [sv_ne (by omega), sv_ne (by omega)])) sv_same hlim
      · refine g_aload_n (pc := 49) dX11_clause_49 rfl ?_
        refine g_iconst (pc := 50) (v := 3) dX11_clause_50 (by decide) ?_
        refine g_aload_n (pc := 51) dX11_clause_51 rfl ?_
        refine g_getfield (pc := 52) f_X11_112_11 dX11_clause_52 hI.1 mf_4 ?_
        refine m_cVv (pc := 55) (M' := mX11_wrong) (as := [_, _]) i_X11_132_11 eX11_wrong hI dX11_clause_55 (c_wrong hI _ _) (by omega) rfl rfl (Nat.le_of_ble_eq_true rfl) (fun h hI fr => ?_)
        replace hF := mFr.tr hF fr
        rw [mWrong_0 hf, hp.2.2.2.1] at hI
        have hne : ¬ sv (sv V 0 5 3) 0 6 (nI a) 0 5 = 0 := by rw [sv_nj (by decide), sv_same]; decide
        refine g_aload_n (pc := 58) dX11_clause_58 rfl ?_
        refine g_getfield (pc := 59) f_X11_119_11 dX11_clause_59 hI.1 mf_5 ?_
        refine g_if_eq (pc := 62) 66 dX11_clause_62 (by decide) (fun c_62 => absurd c_62 hne) (fun c_62 => ?_)
        refine g_return (pc := 65) dX11_clause_65 rfl ?_
        refine ⟨rfl, _, hI, hF, rdE.rf.a5.a6, ?_⟩
        rw [clP_f hk (by decide) (by unfold clFull; simp [(nI_eq (b := 8) (by omega) (by decide)).mp c_46])]
        exact ⟨by rw [sv_nj (by decide), sv_same]; rfl, sv_same, ⟨Nat.le_of_ble_eq_true rfl, Nat.le_of_ble_eq_true rfl⟩, a, (hp.out (by decide) (fun _ => by decide)).out (by decide) (fun _ => by decide)⟩
  · refine g_iload_n (pc := 5) dX11_clause_5 rfl ?_
    refine g_iconst (pc := 6) (v := -1) dX11_clause_6 (by decide) ?_
    refine g_icmp_ne (pc := 7) 22 dX11_clause_7 (by decide) (fun c_7 => ?_) (fun c_7 => absurd c_7 (by decide))
    refine g_aload_n (pc := 22) dX11_clause_22 rfl ?_
    refine g_getfield (pc := 23) f_X11_159_11 dX11_clause_23 hI.1 mf_7 ?_
    refine g_bipush (pc := 26) (v := 60) dX11_clause_26 (by decide) ?_
    rw [h7]
    refine g_icmp_eq (pc := 28) 49 dX11_clause_28 (by decide) (fun c_28 => ?_) (fun c_28 => ?_)
    · refine g_aload_n (pc := 49) dX11_clause_49 rfl ?_
      refine g_iconst (pc := 50) (v := 3) dX11_clause_50 (by decide) ?_
      refine g_aload_n (pc := 51) dX11_clause_51 rfl ?_
      refine g_getfield (pc := 52) f_X11_112_11 dX11_clause_52 hI.1 mf_4 ?_
      refine m_cVv (pc := 55) (M' := mX11_wrong) (as := [_, _]) i_X11_132_11 eX11_wrong hI dX11_clause_55 (c_wrong hI _ _) (by omega) rfl rfl (Nat.le_of_ble_eq_true rfl) (fun h hI fr => ?_)
      replace hF := mFr.tr hF fr
      rw [mWrong_0 hf, hp.2.2.2.1] at hI
      have hne : ¬ sv (sv V 0 5 3) 0 6 (nI a) 0 5 = 0 := by rw [sv_nj (by decide), sv_same]; decide
      refine g_aload_n (pc := 58) dX11_clause_58 rfl ?_
      refine g_getfield (pc := 59) f_X11_119_11 dX11_clause_59 hI.1 mf_5 ?_
      refine g_if_eq (pc := 62) 66 dX11_clause_62 (by decide) (fun c_62 => absurd c_62 hne) (fun c_62 => ?_)
      refine g_return (pc := 65) dX11_clause_65 rfl ?_
      refine ⟨rfl, _, hI, hF, rdE.rf.a5.a6, ?_⟩
      rw [clP_f hk (by decide) (by unfold clFull; simp [(nI_eq (b := 60) (by omega) (by decide)).mp c_28])]
      exact ⟨by rw [sv_nj (by decide), sv_same]; rfl, sv_same, ⟨Nat.le_of_ble_eq_true rfl, Nat.le_of_ble_eq_true rfl⟩, a, (hp.out (by decide) (fun _ => by decide)).out (by decide) (fun _ => by decide)⟩
    · refine g_iload_n (pc := 31) dX11_clause_31 rfl ?_
      refine g_iconst (pc := 32) (v := 3) dX11_clause_32 (by decide) ?_
      refine g_icmp_ge (pc := 33) 58 dX11_clause_33 (by decide) (fun c_33 => ?_) (fun c_33 => absurd (by decide) c_33)
      have hff : clFull g c 3 = false := by
        unfold clFull
        have q1 : ¬ c = 60 := fun e => c_28 (by rw [e]; rfl)
        simp [q1]
      rw [clP_k hk (by decide) hff]
      refine g_aload_n (pc := 58) dX11_clause_58 rfl ?_
      refine g_getfield (pc := 59) f_X11_119_11 dX11_clause_59 hI.1 mf_5 ?_
      refine g_if_eq (pc := 62) 66 dX11_clause_62 (by decide) (fun c_62 => ?_) (fun c_62 => absurd hf c_62)
      refine g_aload_n (pc := 66) dX11_clause_66 rfl ?_
      refine m_cVv (pc := 67) (M' := mX11_skipWord) (as := []) i_X11_156_11 eX11_skipWord hI dX11_clause_67 (c_skipWord (by omega) hI hp) (by omega) rfl rfl (Nat.le_of_ble_eq_true rfl) (fun h hI fr => ?_)
      replace hF := mFr.tr hF fr
      have hp1 := hp.at hwl
      refine g_aload_n (pc := 70) dX11_clause_70 rfl ?_
      refine g_dup (pc := 71) dX11_clause_71 rfl ?_
      refine g_getfield (pc := 72) f_X11_159_11 dX11_clause_72 hI.1 mf_7 ?_
      rw [sv_nj (by decide), h7]
      refine g_iconst (pc := 75) (v := 1) dX11_clause_75 (by decide) ?_
      refine g_iadd (pc := 76) dX11_clause_76 ?_
      rw [nI_1]
      refine m_put (pc := 77) hI w_X11_159_11 rfl (by decide) dX11_clause_77 (fun h hI fr => ?_)
      replace hF := mFr.tr hF fr
      refine g_iload_n (pc := 80) dX11_clause_80 rfl ?_
      refine g_iconst (pc := 81) (v := 3) dX11_clause_81 (by decide) ?_
      refine g_icmp_ge (pc := 82) 94 dX11_clause_82 (by decide) (fun c_82 => ?_) (fun c_82 => absurd (by decide) c_82)
      refine g_iconst (pc := 94) (v := 0) dX11_clause_94 (by decide) ?_
      
      refine g_istore_n (pc := 95) (ls' := [_, _, _, _, _]) dX11_clause_95 (by decide) rfl rfl ?_
      exact l_clause3 (by omega) hI hF (hp1.out (by decide) (fun _ => by decide)) ((sv_nj (by decide)).trans ((sv_nj (by decide)).trans hf)) rdE.rf.a4.a7 (hR.of (fun r hr => by rw [sv_ne (by omega), sv_ne (by omega)])) sv_same
  · refine g_iload_n (pc := 5) dX11_clause_5 rfl ?_
    refine g_iconst (pc := 6) (v := -1) dX11_clause_6 (by decide) ?_
    refine g_icmp_ne (pc := 7) 22 dX11_clause_7 (by decide) (fun c_7 => absurd rfl c_7) (fun c_7 => ?_)
    refine g_aload_n (pc := 10) dX11_clause_10 rfl ?_
    refine g_iconst (pc := 11) (v := 1) dX11_clause_11 (by decide) ?_
    refine g_aload_n (pc := 12) dX11_clause_12 rfl ?_
    refine g_getfield (pc := 13) f_X11_112_11 dX11_clause_13 hI.1 mf_4 ?_
    refine m_cVv (pc := 16) (M' := mX11_wrong) (as := [_, _]) i_X11_132_11 eX11_wrong hI dX11_clause_16 (c_wrong hI _ _) (by omega) rfl rfl (Nat.le_of_ble_eq_true rfl) (fun h hI fr => ?_)
    replace hF := mFr.tr hF fr
    
    refine g_goto (pc := 19) 58 dX11_clause_19 (by decide) ?_
    rw [mWrong_0 hf, hp.2.2.2.1] at hI
    have hne : ¬ sv (sv V 0 5 1) 0 6 (nI a) 0 5 = 0 := by rw [sv_nj (by decide), sv_same]; decide
    refine g_aload_n (pc := 58) dX11_clause_58 rfl ?_
    refine g_getfield (pc := 59) f_X11_119_11 dX11_clause_59 hI.1 mf_5 ?_
    refine g_if_eq (pc := 62) 66 dX11_clause_62 (by decide) (fun c_62 => absurd c_62 hne) (fun c_62 => ?_)
    refine g_return (pc := 65) dX11_clause_65 rfl ?_
    refine ⟨rfl, _, hI, hF, rdE.rf.a5.a6, ?_⟩
    rw [clP_4 hk]
    exact ⟨by rw [sv_nj (by decide), sv_same]; rfl, sv_same, ⟨Nat.le_of_ble_eq_true rfl, Nat.le_of_ble_eq_true rfl⟩, a, (hp.out (by decide) (fun _ => by decide)).out (by decide) (fun _ => by decide)⟩
end
