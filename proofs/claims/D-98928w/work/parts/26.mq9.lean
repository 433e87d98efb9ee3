/-! THE REFERENCE: vows, tempted, alms. Printed by m_q9.py -/
set_option maxRecDepth 100000
/-- vows go to sisters that are there -/
def VW (W : Nat → Int32) (nS : Nat) : Prop := ∀ s, s < nS → W s = -1 ∨ ∃ j, j < nS ∧ W s = nI j
def rngF (W : Nat → Int32) (s : Int32) : Nat → Nat → Int32 → Int32
  | 0, _, _ => -1
  | m + 1, n, a => if W a.toNatClampNeg = -1 then -1 else if W a.toNatClampNeg = s then nI n else rngF W s m (n + 1) (W a.toNatClampNeg)
def itV (W : Nat → Int32) : Nat → Int32 → Int32
  | 0, a => a
  | n + 1, a => if a = -1 then -1 else itV W n (W a.toNatClampNeg)
theorem itV_m1 (W : Nat → Int32) : ∀ n, itV W n (-1) = -1
  | 0 => rfl
  | _ + 1 => if_pos rfl
theorem itV_add (W : Nat → Int32) : ∀ m n a, itV W (m + n) a = itV W n (itV W m a)
  | 0, n, a => by rw [Nat.zero_add]; rfl
  | m + 1, n, a => by
    rw [Nat.succ_add]
    show (if _ then _ else _) = itV W n (if _ then _ else _)
    by_cases q : a = -1
    · rw [if_pos q, if_pos q, itV_m1]
    · rw [if_neg q, if_neg q]
      exact itV_add W m n _
theorem rngF_s (W : Nat → Int32) (s : Int32) : ∀ m n a, ¬ a = -1 → ¬ rngF W s m n a = -1 → ∃ j, j < m ∧ rngF W s m n a = nI (n + j) ∧ itV W (j + 1) a = s
  | 0, _, _, _, h => absurd rfl h
  | m + 1, n, a, ha, h => by
    unfold rngF at h ⊢
    by_cases q : W a.toNatClampNeg = -1
    · rw [if_pos q] at h; exact absurd rfl h
    · rw [if_neg q] at h ⊢
      by_cases q2 : W a.toNatClampNeg = s
      · rw [if_pos q2]
        refine ⟨0, by omega, rfl, ?_⟩
        show (if _ then _ else _) = _
        rw [if_neg ha]
        exact q2
      · rw [if_neg q2] at h ⊢
        obtain ⟨j, h1, h2, h3⟩ := rngF_s W s m (n + 1) _ q h
        refine ⟨j + 1, by omega, by rw [h2]; congr 1; omega, ?_⟩
        show (if _ then _ else _) = _
        rw [if_neg ha]
        exact h3
theorem itV_mod (W : Nat → Int32) (k : Nat) (a : Int32) (hk : itV W k a = a) : ∀ q r, itV W (q * k + r) a = itV W r a
  | 0, r => by rw [Nat.zero_mul, Nat.zero_add]
  | q + 1, r => by
    rw [Nat.succ_mul, Nat.add_comm (q * k) k, Nat.add_assoc, itV_add, hk]
    exact itV_mod W k a hk q r
def rngI (W : Nat → Int32) (s : Int32) : Int32 := rngF W s 8 1 s
theorem rngI_n {W : Nat → Int32} {a : Int32} (ha : ¬ a = -1) (h : ¬ rngI W a = -1) : ∃ k, 1 ≤ k ∧ k ≤ 8 ∧ rngI W a = nI k ∧ ∀ n, itV W n a = itV W (n % k) a := by
  obtain ⟨j, h1, h2, h3⟩ := rngF_s W a 8 1 a ha h
  refine ⟨1 + j, by omega, by omega, h2, fun n => ?_⟩
  have e := itV_mod W (1 + j) a (by rw [Nat.add_comm]; exact h3) (n / (1 + j)) (n % (1 + j))
  rw [Nat.mul_comm, Nat.div_add_mod] at e
  exact e
def hbI (o p v w : Int32) : Int32 := if o = 0 then (if p = 0 then v else -1) else if p = 0 then w else 0
def ibB (o p v w : Int32) : Bool := !(decide (hbI o p v w < hbI (1 - o) p v w))
def tmT (v w : Int32) (s : Int32 × Int32 × Int32) (a b : Int32) : Int32 × Int32 × Int32 := if ibB a b v w = true ∧ ibB b a v w = true then (s.1 + 1, (if s.1 = 0 then 10 * a + b else s.2.1), (if s.1 = 0 then hbI a b v w + hbI b a v w else s.2.2)) else s
def tmS (v w : Int32) : Int32 × Int32 × Int32 := tmT v w (tmT v w (tmT v w (tmT v w (0, -1, 0) 0 0) 0 1) 1 0) 1 1
def tmI (v w x : Int32) : Int32 := if x = 0 then (tmS v w).1 else if x = 1 then (tmS v w).2.1 else (tmS v w).2.2
def givF (D : Nat → Nat → Nat) (b x : Int32) (p : Nat) : Int32 := if hasI b (nI p) = true then lessI x (nI (D 4 p)) else 0
def almF (D : Nat → Nat → Nat) (nP : Nat) (b n : Int32) : Nat → Nat → Nat
  | 0, k => k
  | m + 1, k => if n < sumI (givF D b (nI (k + 1))) nP then k else almF D nP b n m (k + 1)
section
variable {E : jE} {d : Nat} {h : jH} {am : Nat → Nat} {V : mV} {D : Nat → Nat → Nat} {nS nR nP nL k : Nat}
set_option maxHeartbeats 1000000 in
theorem l_ringOf {bc bs : Nat} (hI : InvM am V h) (hW : VW (V 16) nS) (hn : nS ≤ 8) (s : Int32) : ∀ (m n a : Nat), n + m = 9 → a < nS → G E d bc bs mX11_ringOf 4 [some (vR (nMo am)), some (vI s), some (vI (nI a)), some (vI (nI n))] [] h (qR (some (vI (rngF (V 16) s m n (nI a)))) h) := by
  intro m
  induction m with
  | zero =>
    intro n a hm ha
    have e : n = 9 := by omega
    subst e
    refine g_iload_n (pc := 4) dX11_ringOf_4 rfl ?_
    refine g_bipush (pc := 5) (v := 8) dX11_ringOf_5 (by decide) ?_
    refine g_icmp_gt (pc := 7) 37 dX11_ringOf_7 (by decide) (fun c_7 => ?_) (fun c_7 => absurd (by decide) c_7)
    refine g_iconst (pc := 37) (v := -1) dX11_ringOf_37 (by decide) ?_
    refine g_ireturn (pc := 38) dX11_ringOf_38 rfl (by first | exact rfl | exact j_nb _) ?_
    exact ⟨rfl, rfl⟩
  | succ m ih =>
    intro n a hm ha
    have ca : (nI a).toNatClampNeg = a := nI_clamp (by omega)
    show G _ _ _ _ _ _ _ _ _ (qR (some (vI (if _ then _ else _))) h)
    rw [ca]
    refine g_iload_n (pc := 4) dX11_ringOf_4 rfl ?_
    refine g_bipush (pc := 5) (v := 8) dX11_ringOf_5 (by decide) ?_
    refine g_icmp_gt (pc := 7) 37 dX11_ringOf_7 (by decide) (fun c_7 => absurd c_7 (by intro w; have := (nI_ltI (a := 8) (b := n) (by decide) (by omega)).mp w; omega)) (fun c_7 => ?_)
    refine g_aload_n (pc := 10) dX11_ringOf_10 rfl ?_
    refine g_getfield (pc := 11) f_X11_35_11 dX11_ringOf_11 hI.1 mf_16 ?_
    refine g_iload_n (pc := 14) dX11_ringOf_14 rfl ?_
    refine g_iaload (pc := 15) dX11_ringOf_15 (mA hI 16 8 rfl (by decide)) rfl (by omega) (by decide) rfl ?_
    refine g_istore_n (pc := 16) (ls' := [_, _, _, _]) dX11_ringOf_16 (by decide) rfl rfl ?_
    refine g_iload_n (pc := 17) dX11_ringOf_17 rfl ?_
    refine g_iconst (pc := 18) (v := -1) dX11_ringOf_18 (by decide) ?_
    refine g_icmp_ne (pc := 19) 24 dX11_ringOf_19 (by decide) (fun c_19 => ?_) (fun c_19 => ?_)
    · refine g_iload_n (pc := 24) dX11_ringOf_24 rfl ?_
      refine g_iload_n (pc := 25) dX11_ringOf_25 rfl ?_
      refine g_icmp_ne (pc := 26) 31 dX11_ringOf_26 (by decide) (fun c_26 => ?_) (fun c_26 => ?_)
      · refine g_iinc (pc := 31) (ls' := [_, _, _, _]) dX11_ringOf_31 rfl (by first | exact nI_1 _ | exact rfl) (by decide) rfl rfl ?_
        refine g_goto (pc := 34) 4 dX11_ringOf_34 (by decide) ?_
        rw [if_neg c_19, if_neg c_26]
        obtain ⟨j, hj, e⟩ := (hW a ha).resolve_left c_19
        rw [e]
        exact ih (n + 1) j (by omega) hj
      · refine g_iload_n (pc := 29) dX11_ringOf_29 rfl ?_
        refine g_ireturn (pc := 30) dX11_ringOf_30 rfl (by first | exact rfl | exact j_nb _) ?_
        first
          | exact ⟨by rw [if_pos c_19], rfl⟩
          | exact ⟨by rw [if_neg c_19, if_pos c_26], rfl⟩
    · refine g_iconst (pc := 22) (v := -1) dX11_ringOf_22 (by decide) ?_
      refine g_ireturn (pc := 23) dX11_ringOf_23 rfl (by first | exact rfl | exact j_nb _) ?_
      first
        | exact ⟨by rw [if_pos c_19], rfl⟩
        | exact ⟨by rw [if_neg c_19, if_pos c_26], rfl⟩
theorem c_ringOf (hI : InvM am V h) (hW : VW (V 16) nS) (hn : nS ≤ 8) (s : Nat) (hs : s < nS) : Ct E d 0 0 mX11_ringOf [vR (nMo am), vI (nI s)] h (qR (some (vI (rngI (V 16) (nI s)))) h) := by
  refine ct_of (by decide) (Nat.le_of_ble_eq_true rfl) rfl ?_
  refine g_iload_n (pc := 0) dX11_ringOf_0 rfl ?_
  refine g_istore_n (pc := 1) (ls' := [_, _, _, _]) dX11_ringOf_1 (by decide) rfl rfl ?_
  refine g_iconst (pc := 2) (v := 1) dX11_ringOf_2 (by decide) ?_
  refine g_istore_n (pc := 3) (ls' := [_, _, _, _]) dX11_ringOf_3 (by decide) rfl rfl ?_
  exact l_ringOf hI hW hn _ 8 1 s rfl hs
theorem r_mring (hd : 2 ≤ d) (hI : InvM am V h) (hT : MT V D nS nR nP) (s : Int32) (hv : inR s 0 (nI nS - 1) = false) : Ct E d 0 0 mX11_ring [vR (nMo am), vI s] h (mQ am (refV V 1 0) h (some (vI 0))) := by
  refine ct_of (by decide) (Nat.le_of_ble_eq_true rfl) rfl ?_
  have hF : mFr h h := mFr.rf
  have hT := MT.f0 (j := 0) (y := 0) hT
  change MT (thr0 V) D nS nR nP at hT
  have b8 := hT.2.2.2.1
  have b10 := hT.2.2.2.2.1
  have bP := hT.2.2.2.2.2.1
  refine g_aload_n (pc := 0) dX11_ring_0 rfl ?_
  refine g_iconst (pc := 1) (v := 0) dX11_ring_1 (by decide) ?_
  refine m_put (pc := 2) hI w_X11_103_11 rfl (by decide) dX11_ring_2 (fun h hI fr => ?_)
  replace hF := mFr.tr hF fr
  change InvM am (thr0 V) h at hI
  refine g_aload_n (pc := 5) dX11_ring_5 rfl ?_
  refine g_aload_n (pc := 6) dX11_ring_6 rfl ?_
  refine g_iload_n (pc := 7) dX11_ring_7 rfl ?_
  refine m_cP (pc := 8) (M' := mX11_isSister) (as := [_]) i_X11_336_11 eX11_isSister hI dX11_ring_8 (c_isSister hI hT (by omega) _) (by omega) rfl rfl (Nat.le_of_ble_eq_true rfl) ?_
  refine g_ifB_ne (pc := 11) 18 dX11_ring_11 (by decide) (fun c_11 => absurd (c_11.symm.trans hv) (by decide)) (fun c_11 => ?_)
  refine g_iconst (pc := 14) (v := 1) dX11_ring_14 (by decide) ?_
  refine g_goto (pc := 15) 19 dX11_ring_15 (by decide) ?_
  refine g_iconst (pc := 19) (v := 1) dX11_ring_19 (by decide) ?_
  refine g_iconst (pc := 20) (v := 0) dX11_ring_20 (by decide) ?_
  refine m_cV (pc := 21) (M' := mX11_bad) (as := [_, _, _]) i_X11_183_11 eX11_bad hI dX11_ring_21 (c_badT hI thr0_0 1 (by decide) 0 (by decide)) (by omega) rfl rfl (Nat.le_of_ble_eq_true rfl) (fun h hI fr => ?_)
  replace hF := mFr.tr hF fr
  refine g_ifB_eq (pc := 24) 29 dX11_ring_24 (by decide) (fun c_24 => absurd c_24 (by decide)) (fun c_24 => ?_)
  refine g_iconst (pc := 27) (v := 0) dX11_ring_27 (by decide) ?_
  refine g_ireturn (pc := 28) dX11_ring_28 rfl (by first | exact rfl | exact j_nb _) ?_
  rw [refV_thr0] at hI
  exact ⟨rfl, hI, hF⟩
theorem c_mring (hd : 2 ≤ d) (hI : InvM am V h) (hT : MT V D nS nR nP) (hW : VW (V 16) nS) (s : Nat) (hs : s < nS) : Ct E d 0 0 mX11_ring [vR (nMo am), vI (nI s)] h (mQ am (thr0 V) h (some (vI (rngI (V 16) (nI s))))) := by
  refine ct_of (by decide) (Nat.le_of_ble_eq_true rfl) rfl ?_
  have hF : mFr h h := mFr.rf
  have hT := MT.f0 (j := 0) (y := 0) hT
  change MT (thr0 V) D nS nR nP at hT
  have b8 := hT.2.2.2.1
  have b10 := hT.2.2.2.2.1
  have bP := hT.2.2.2.2.2.1
  have h16 : thr0 V 16 = V 16 := sv_ne (by decide)
  have hW : VW (thr0 V 16) nS := by rw [h16]; exact hW
  have hu := in_of hs (show nS ≤ 1000 by omega)
  refine g_aload_n (pc := 0) dX11_ring_0 rfl ?_
  refine g_iconst (pc := 1) (v := 0) dX11_ring_1 (by decide) ?_
  refine m_put (pc := 2) hI w_X11_103_11 rfl (by decide) dX11_ring_2 (fun h hI fr => ?_)
  replace hF := mFr.tr hF fr
  change InvM am (thr0 V) h at hI
  refine g_aload_n (pc := 5) dX11_ring_5 rfl ?_
  refine g_aload_n (pc := 6) dX11_ring_6 rfl ?_
  refine g_iload_n (pc := 7) dX11_ring_7 rfl ?_
  refine m_cP (pc := 8) (M' := mX11_isSister) (as := [_]) i_X11_336_11 eX11_isSister hI dX11_ring_8 (c_isSister hI hT (by omega) _) (by omega) rfl rfl (Nat.le_of_ble_eq_true rfl) ?_
  refine g_ifB_ne (pc := 11) 18 dX11_ring_11 (by decide) (fun c_11 => ?_) (fun c_11 => absurd (hu.symm.trans c_11) (by decide))
  refine g_iconst (pc := 18) (v := 0) dX11_ring_18 (by decide) ?_
  refine g_iconst (pc := 19) (v := 1) dX11_ring_19 (by decide) ?_
  refine g_iconst (pc := 20) (v := 0) dX11_ring_20 (by decide) ?_
  refine m_cV (pc := 21) (M' := mX11_bad) (as := [_, _, _]) i_X11_183_11 eX11_bad hI dX11_ring_21 (c_badF hI thr0_0 1 0 (by decide)) (by omega) rfl rfl (Nat.le_of_ble_eq_true rfl) (fun h hI fr => ?_)
  replace hF := mFr.tr hF fr
  refine g_ifB_eq (pc := 24) 29 dX11_ring_24 (by decide) (fun c_24 => ?_) (fun c_24 => absurd c_24 (by decide))
  refine g_aload_n (pc := 29) dX11_ring_29 rfl ?_
  refine g_iload_n (pc := 30) dX11_ring_30 rfl ?_
  refine m_cP (pc := 31) (M' := mX11_ringOf) (as := [_]) i_X11_373_11 eX11_ringOf hI dX11_ring_31 (c_ringOf hI hW (by omega) s hs) (by omega) rfl rfl (Nat.le_of_ble_eq_true rfl) ?_
  refine g_ireturn (pc := 34) dX11_ring_34 rfl (by first | exact rfl | exact j_nb _) ?_
  exact ⟨by rw [h16], hI, hF⟩
set_option maxHeartbeats 2000000 in
theorem l_follows {bc bs : Nat} {h0 : jH} (hd : 1 ≤ d) (hI : InvM am V h) (hF : mFr h0 h) (hW : VW (V 16) nS) (hn : nS ≤ 8) (s w : Int32) : ∀ (m left : Nat) (a : Int32) (u : Option jV), left ≤ m → left ≤ 1000000 → (a = -1 ∨ ∃ j, j < nS ∧ a = nI j) → G E d bc bs mX11_follows 59 [some (vR (nMo am)), some (vI s), some (vI w), some (vI a), some (vI (nI left)), u] [] h (mQ am V h0 (some (vI (itV (V 16) left a)))) := by
  intro m
  induction m with
  | zero =>
    intro left a u hm hl ha
    have e : left = 0 := by omega
    subst e
    refine g_iload (pc := 59) dX11_follows_59 rfl ?_
    refine g_if_le (pc := 61) 114 dX11_follows_61 (by decide) (fun c_61 => ?_) (fun c_61 => absurd (by decide) c_61)
    refine g_iload_n (pc := 114) dX11_follows_114 rfl ?_
    refine g_ireturn (pc := 115) dX11_follows_115 rfl (by first | exact rfl | exact j_nb _) ?_
    exact ⟨rfl, hI, hF⟩
  | succ m ih =>
    intro left a u hm hl ha
    refine g_iload (pc := 59) dX11_follows_59 rfl ?_
    refine g_if_le (pc := 61) 114 dX11_follows_61 (by decide) (fun c_61 => ?_) (fun c_61 => ?_)
    · refine g_iload_n (pc := 114) dX11_follows_114 rfl ?_
      refine g_ireturn (pc := 115) dX11_follows_115 rfl (by first | exact rfl | exact j_nb _) ?_
      first
        | exact ⟨by rw [c_66, itV_m1], hI, hF⟩
        | (have e : left = 0 := by
             rcases Nat.eq_zero_or_pos left with q | q
             · exact q
             · exact absurd c_61 (nI_nle q (by omega))
           subst e
           exact ⟨rfl, hI, hF⟩)
    · refine g_iload_n (pc := 64) dX11_follows_64 rfl ?_
      refine g_iconst (pc := 65) (v := -1) dX11_follows_65 (by decide) ?_
      refine g_icmp_eq (pc := 66) 114 dX11_follows_66 (by decide) (fun c_66 => ?_) (fun c_66 => ?_)
      · refine g_iload_n (pc := 114) dX11_follows_114 rfl ?_
        refine g_ireturn (pc := 115) dX11_follows_115 rfl (by first | exact rfl | exact j_nb _) ?_
        first
          | exact ⟨by rw [c_66, itV_m1], hI, hF⟩
          | (have e : left = 0 := by
               rcases Nat.eq_zero_or_pos left with q | q
               · exact q
               · exact absurd c_61 (nI_nle q (by omega))
             subst e
             exact ⟨rfl, hI, hF⟩)
      · obtain ⟨j, hj, ej⟩ := ha.resolve_left c_66
        subst ej
        have cj : (nI j).toNatClampNeg = j := nI_clamp (by omega)
        refine g_aload_n (pc := 69) dX11_follows_69 rfl ?_
        refine g_iload_n (pc := 70) dX11_follows_70 rfl ?_
        refine m_cP (pc := 71) (M' := mX11_ringOf) (as := [_]) i_X11_373_11 eX11_ringOf hI dX11_follows_71 (c_ringOf hI hW hn j hj) (by omega) rfl rfl (Nat.le_of_ble_eq_true rfl) ?_
        refine g_istore (pc := 74) (ls' := [_, _, _, _, _, _]) dX11_follows_74 (by decide) rfl rfl ?_
        refine g_iload (pc := 76) dX11_follows_76 rfl ?_
        refine g_iconst (pc := 78) (v := -1) dX11_follows_78 (by decide) ?_
        refine g_icmp_ne (pc := 79) 87 dX11_follows_79 (by decide) (fun c_79 => ?_) (fun c_79 => ?_)
        · obtain ⟨k, k1, k8, ek, hk⟩ := rngI_n c_66 c_79
          rw [hk left]
          have hlt := Nat.mod_lt left k1
          have hle := Nat.mod_le left k
          rw [ek]
          refine g_iload (pc := 87) dX11_follows_87 rfl ?_
          refine g_iload (pc := 89) dX11_follows_89 rfl ?_
          refine g_irem (pc := 91) dX11_follows_91 (nI_ne0 (by omega) (by omega)) ?_
          rw [pk_rem (by omega) (by omega) (by omega)]
          refine g_istore (pc := 92) (ls' := [_, _, _, _, _, _]) dX11_follows_92 (by decide) rfl rfl ?_
          refine g_iload (pc := 94) dX11_follows_94 rfl ?_
          refine g_if_ne (pc := 96) 101 dX11_follows_96 (by decide) (fun c_96 => ?_) (fun c_96 => ?_)
          · have hne : ¬ (left % k) = 0 := fun e => c_96 (by rw [e]; rfl)
            obtain ⟨l2, el⟩ : ∃ l2, (left % k) = l2 + 1 := ⟨(left % k) - 1, by omega⟩
            rw [el]
            have e9 : itV (V 16) (l2 + 1) (nI j) = itV (V 16) l2 (V 16 j) := by
              show (if _ then _ else _) = _
              rw [if_neg c_66, cj]
            rw [e9]
            refine g_aload_n (pc := 101) dX11_follows_101 rfl ?_
            refine g_getfield (pc := 102) f_X11_35_11 dX11_follows_102 hI.1 mf_16 ?_
            refine g_iload_n (pc := 105) dX11_follows_105 rfl ?_
            refine g_iaload (pc := 106) dX11_follows_106 (mA hI 16 8 rfl (by decide)) (j := j) rfl (by omega) (by decide) rfl ?_
            refine g_istore_n (pc := 107) (ls' := [_, _, _, _, _, _]) dX11_follows_107 (by decide) rfl rfl ?_
            refine g_iinc (pc := 108) (v := nI l2) (ls' := [_, _, _, _, _, _]) dX11_follows_108 rfl (pk_m1 l2) (by decide) rfl rfl ?_
            refine g_goto (pc := 111) 59 dX11_follows_111 (by decide) ?_
            exact ih l2 _ _ (by omega) (by omega) (hW j hj)
          · refine g_iload_n (pc := 99) dX11_follows_99 rfl ?_
            refine g_ireturn (pc := 100) dX11_follows_100 rfl (by first | exact rfl | exact j_nb _) ?_
            exact ⟨by rw [show (left % k) = 0 from (nI_eq (b := 0) (by omega) (by decide)).mp c_96]; rfl, hI, hF⟩
        · refine g_iload (pc := 82) dX11_follows_82 rfl ?_
          refine g_goto (pc := 84) 92 dX11_follows_84 (by decide) ?_
          refine g_istore (pc := 92) (ls' := [_, _, _, _, _, _]) dX11_follows_92 (by decide) rfl rfl ?_
          refine g_iload (pc := 94) dX11_follows_94 rfl ?_
          refine g_if_ne (pc := 96) 101 dX11_follows_96 (by decide) (fun c_96 => ?_) (fun c_96 => ?_)
          · have hne : ¬ left = 0 := fun e => c_96 (by rw [e]; rfl)
            obtain ⟨l2, el⟩ : ∃ l2, left = l2 + 1 := ⟨left - 1, by omega⟩
            rw [el]
            have e9 : itV (V 16) (l2 + 1) (nI j) = itV (V 16) l2 (V 16 j) := by
              show (if _ then _ else _) = _
              rw [if_neg c_66, cj]
            rw [e9]
            refine g_aload_n (pc := 101) dX11_follows_101 rfl ?_
            refine g_getfield (pc := 102) f_X11_35_11 dX11_follows_102 hI.1 mf_16 ?_
            refine g_iload_n (pc := 105) dX11_follows_105 rfl ?_
            refine g_iaload (pc := 106) dX11_follows_106 (mA hI 16 8 rfl (by decide)) (j := j) rfl (by omega) (by decide) rfl ?_
            refine g_istore_n (pc := 107) (ls' := [_, _, _, _, _, _]) dX11_follows_107 (by decide) rfl rfl ?_
            refine g_iinc (pc := 108) (v := nI l2) (ls' := [_, _, _, _, _, _]) dX11_follows_108 rfl (pk_m1 l2) (by decide) rfl rfl ?_
            refine g_goto (pc := 111) 59 dX11_follows_111 (by decide) ?_
            exact ih l2 _ _ (by omega) (by omega) (hW j hj)
          · refine g_iload_n (pc := 99) dX11_follows_99 rfl ?_
            refine g_ireturn (pc := 100) dX11_follows_100 rfl (by first | exact rfl | exact j_nb _) ?_
            exact ⟨by rw [show left = 0 from (nI_eq (b := 0) (by omega) (by decide)).mp c_96]; rfl, hI, hF⟩
theorem r1_mfollows (hd : 2 ≤ d) (hI : InvM am V h) (hT : MT V D nS nR nP) (s w : Int32) (hv : inR s 0 (nI nS - 1) = false) : Ct E d 0 0 mX11_follows [vR (nMo am), vI s, vI w] h (mQ am (refV V 1 0) h (some (vI 0))) := by
  refine ct_of (by decide) (Nat.le_of_ble_eq_true rfl) rfl ?_
  have hF : mFr h h := mFr.rf
  have hT := MT.f0 (j := 0) (y := 0) hT
  change MT (thr0 V) D nS nR nP at hT
  have b8 := hT.2.2.2.1
  have b10 := hT.2.2.2.2.1
  have bP := hT.2.2.2.2.2.1
  refine g_aload_n (pc := 0) dX11_follows_0 rfl ?_
  refine g_iconst (pc := 1) (v := 0) dX11_follows_1 (by decide) ?_
  refine m_put (pc := 2) hI w_X11_103_11 rfl (by decide) dX11_follows_2 (fun h hI fr => ?_)
  replace hF := mFr.tr hF fr
  change InvM am (thr0 V) h at hI
  refine g_aload_n (pc := 5) dX11_follows_5 rfl ?_
  refine g_aload_n (pc := 6) dX11_follows_6 rfl ?_
  refine g_iload_n (pc := 7) dX11_follows_7 rfl ?_
  refine m_cP (pc := 8) (M' := mX11_isSister) (as := [_]) i_X11_336_11 eX11_isSister hI dX11_follows_8 (c_isSister hI hT (by omega) _) (by omega) rfl rfl (Nat.le_of_ble_eq_true rfl) ?_
  refine g_ifB_ne (pc := 11) 18 dX11_follows_11 (by decide) (fun c_11 => absurd (c_11.symm.trans hv) (by decide)) (fun c_11 => ?_)
  refine g_iconst (pc := 14) (v := 1) dX11_follows_14 (by decide) ?_
  refine g_goto (pc := 15) 19 dX11_follows_15 (by decide) ?_
  refine g_iconst (pc := 19) (v := 1) dX11_follows_19 (by decide) ?_
  refine g_iconst (pc := 20) (v := 0) dX11_follows_20 (by decide) ?_
  refine m_cV (pc := 21) (M' := mX11_bad) (as := [_, _, _]) i_X11_183_11 eX11_bad hI dX11_follows_21 (c_badT hI thr0_0 1 (by decide) 0 (by decide)) (by omega) rfl rfl (Nat.le_of_ble_eq_true rfl) (fun h hI fr => ?_)
  replace hF := mFr.tr hF fr
  refine g_ifB_ne (pc := 24) 52 dX11_follows_24 (by decide) (fun c_24 => ?_) (fun c_24 => absurd c_24 (by decide))
  refine g_iconst (pc := 52) (v := 0) dX11_follows_52 (by decide) ?_
  refine g_ireturn (pc := 53) dX11_follows_53 rfl (by first | exact rfl | exact j_nb _) ?_
  rw [refV_thr0] at hI
  exact ⟨rfl, hI, hF⟩
theorem r2_mfollows (hd : 2 ≤ d) (hI : InvM am V h) (hT : MT V D nS nR nP) (s w : Int32) (hu : inR s 0 (nI nS - 1) = true) (hv : inR w 0 1000000 = false) : Ct E d 0 0 mX11_follows [vR (nMo am), vI s, vI w] h (mQ am (refV V 2 1) h (some (vI 0))) := by
  refine ct_of (by decide) (Nat.le_of_ble_eq_true rfl) rfl ?_
  have hF : mFr h h := mFr.rf
  have hT := MT.f0 (j := 0) (y := 0) hT
  change MT (thr0 V) D nS nR nP at hT
  have b8 := hT.2.2.2.1
  have b10 := hT.2.2.2.2.1
  have bP := hT.2.2.2.2.2.1
  refine g_aload_n (pc := 0) dX11_follows_0 rfl ?_
  refine g_iconst (pc := 1) (v := 0) dX11_follows_1 (by decide) ?_
  refine m_put (pc := 2) hI w_X11_103_11 rfl (by decide) dX11_follows_2 (fun h hI fr => ?_)
  replace hF := mFr.tr hF fr
  change InvM am (thr0 V) h at hI
  refine g_aload_n (pc := 5) dX11_follows_5 rfl ?_
  refine g_aload_n (pc := 6) dX11_follows_6 rfl ?_
  refine g_iload_n (pc := 7) dX11_follows_7 rfl ?_
  refine m_cP (pc := 8) (M' := mX11_isSister) (as := [_]) i_X11_336_11 eX11_isSister hI dX11_follows_8 (c_isSister hI hT (by omega) _) (by omega) rfl rfl (Nat.le_of_ble_eq_true rfl) ?_
  refine g_ifB_ne (pc := 11) 18 dX11_follows_11 (by decide) (fun c_11 => ?_) (fun c_11 => absurd (hu.symm.trans c_11) (by decide))
  refine g_iconst (pc := 18) (v := 0) dX11_follows_18 (by decide) ?_
  refine g_iconst (pc := 19) (v := 1) dX11_follows_19 (by decide) ?_
  refine g_iconst (pc := 20) (v := 0) dX11_follows_20 (by decide) ?_
  refine m_cV (pc := 21) (M' := mX11_bad) (as := [_, _, _]) i_X11_183_11 eX11_bad hI dX11_follows_21 (c_badF hI thr0_0 1 0 (by decide)) (by omega) rfl rfl (Nat.le_of_ble_eq_true rfl) (fun h hI fr => ?_)
  replace hF := mFr.tr hF fr
  refine g_ifB_ne (pc := 24) 52 dX11_follows_24 (by decide) (fun c_24 => absurd c_24 (by decide)) (fun c_24 => ?_)
  refine g_aload_n (pc := 27) dX11_follows_27 rfl ?_
  refine g_iload_n (pc := 28) dX11_follows_28 rfl ?_
  refine g_iconst (pc := 29) (v := 0) dX11_follows_29 (by decide) ?_
  refine g_ldcw (pc := 30) (v := 1000000) dX11_follows_30 q2484 ?_
  refine g_cS (pc := 33) (M' := mX11_in) (as := [_, _, _]) i_X11_137 eX11_in dX11_follows_33 (c_in _ _ _) (by omega) rfl rfl (Nat.le_of_ble_eq_true rfl) ?_
  refine g_ifB_ne (pc := 36) 43 dX11_follows_36 (by decide) (fun c_36 => absurd (c_36.symm.trans hv) (by decide)) (fun c_36 => ?_)
  refine g_iconst (pc := 39) (v := 1) dX11_follows_39 (by decide) ?_
  refine g_goto (pc := 40) 44 dX11_follows_40 (by decide) ?_
  refine g_iconst (pc := 44) (v := 2) dX11_follows_44 (by decide) ?_
  refine g_iconst (pc := 45) (v := 1) dX11_follows_45 (by decide) ?_
  refine m_cV (pc := 46) (M' := mX11_bad) (as := [_, _, _]) i_X11_183_11 eX11_bad hI dX11_follows_46 (c_badT hI thr0_0 2 (by decide) 1 (by decide)) (by omega) rfl rfl (Nat.le_of_ble_eq_true rfl) (fun h hI fr => ?_)
  replace hF := mFr.tr hF fr
  refine g_ifB_eq (pc := 49) 54 dX11_follows_49 (by decide) (fun c_49 => absurd c_49 (by decide)) (fun c_49 => ?_)
  refine g_iconst (pc := 52) (v := 0) dX11_follows_52 (by decide) ?_
  refine g_ireturn (pc := 53) dX11_follows_53 rfl (by first | exact rfl | exact j_nb _) ?_
  rw [refV_thr0] at hI
  exact ⟨rfl, hI, hF⟩
set_option maxHeartbeats 1000000 in
theorem c_mfollows (hd : 2 ≤ d) (hI : InvM am V h) (hT : MT V D nS nR nP) (hW : VW (V 16) nS) (s n : Nat) (hs : s < nS) (hn : n ≤ 1000000) : Ct E d 0 0 mX11_follows [vR (nMo am), vI (nI s), vI (nI n)] h (mQ am (thr0 V) h (some (vI (itV (V 16) n (nI s))))) := by
  refine ct_of (by decide) (Nat.le_of_ble_eq_true rfl) rfl ?_
  have hF : mFr h h := mFr.rf
  have hT := MT.f0 (j := 0) (y := 0) hT
  change MT (thr0 V) D nS nR nP at hT
  have b8 := hT.2.2.2.1
  have b10 := hT.2.2.2.2.1
  have bP := hT.2.2.2.2.2.1
  have h16 : thr0 V 16 = V 16 := sv_ne (by decide)
  have hW : VW (thr0 V 16) nS := by rw [h16]; exact hW
  have hu := in_of hs (show nS ≤ 1000 by omega)
  have hv : inR (nI n) 0 1000000 = true := inC_of (n := 1000000) hn (by decide)
  refine g_aload_n (pc := 0) dX11_follows_0 rfl ?_
  refine g_iconst (pc := 1) (v := 0) dX11_follows_1 (by decide) ?_
  refine m_put (pc := 2) hI w_X11_103_11 rfl (by decide) dX11_follows_2 (fun h hI fr => ?_)
  replace hF := mFr.tr hF fr
  change InvM am (thr0 V) h at hI
  refine g_aload_n (pc := 5) dX11_follows_5 rfl ?_
  refine g_aload_n (pc := 6) dX11_follows_6 rfl ?_
  refine g_iload_n (pc := 7) dX11_follows_7 rfl ?_
  refine m_cP (pc := 8) (M' := mX11_isSister) (as := [_]) i_X11_336_11 eX11_isSister hI dX11_follows_8 (c_isSister hI hT (by omega) _) (by omega) rfl rfl (Nat.le_of_ble_eq_true rfl) ?_
  refine g_ifB_ne (pc := 11) 18 dX11_follows_11 (by decide) (fun c_11 => ?_) (fun c_11 => absurd (hu.symm.trans c_11) (by decide))
  refine g_iconst (pc := 18) (v := 0) dX11_follows_18 (by decide) ?_
  refine g_iconst (pc := 19) (v := 1) dX11_follows_19 (by decide) ?_
  refine g_iconst (pc := 20) (v := 0) dX11_follows_20 (by decide) ?_
  refine m_cV (pc := 21) (M' := mX11_bad) (as := [_, _, _]) i_X11_183_11 eX11_bad hI dX11_follows_21 (c_badF hI thr0_0 1 0 (by decide)) (by omega) rfl rfl (Nat.le_of_ble_eq_true rfl) (fun h hI fr => ?_)
  replace hF := mFr.tr hF fr
  refine g_ifB_ne (pc := 24) 52 dX11_follows_24 (by decide) (fun c_24 => absurd c_24 (by decide)) (fun c_24 => ?_)
  refine g_aload_n (pc := 27) dX11_follows_27 rfl ?_
  refine g_iload_n (pc := 28) dX11_follows_28 rfl ?_
  refine g_iconst (pc := 29) (v := 0) dX11_follows_29 (by decide) ?_
  refine g_ldcw (pc := 30) (v := 1000000) dX11_follows_30 q2484 ?_
  refine g_cS (pc := 33) (M' := mX11_in) (as := [_, _, _]) i_X11_137 eX11_in dX11_follows_33 (c_in _ _ _) (by omega) rfl rfl (Nat.le_of_ble_eq_true rfl) ?_
  refine g_ifB_ne (pc := 36) 43 dX11_follows_36 (by decide) (fun c_36 => ?_) (fun c_36 => absurd (hv.symm.trans c_36) (by decide))
  refine g_iconst (pc := 43) (v := 0) dX11_follows_43 (by decide) ?_
  refine g_iconst (pc := 44) (v := 2) dX11_follows_44 (by decide) ?_
  refine g_iconst (pc := 45) (v := 1) dX11_follows_45 (by decide) ?_
  refine m_cV (pc := 46) (M' := mX11_bad) (as := [_, _, _]) i_X11_183_11 eX11_bad hI dX11_follows_46 (c_badF hI thr0_0 2 1 (by decide)) (by omega) rfl rfl (Nat.le_of_ble_eq_true rfl) (fun h hI fr => ?_)
  replace hF := mFr.tr hF fr
  refine g_ifB_eq (pc := 49) 54 dX11_follows_49 (by decide) (fun c_49 => ?_) (fun c_49 => absurd c_49 (by decide))
  refine g_iload_n (pc := 54) dX11_follows_54 rfl ?_
  refine g_istore_n (pc := 55) (ls' := [_, _, _, _, _, _]) dX11_follows_55 (by decide) rfl rfl ?_
  refine g_iload_n (pc := 56) dX11_follows_56 rfl ?_
  refine g_istore (pc := 57) (ls' := [_, _, _, _, _, _]) dX11_follows_57 (by decide) rfl rfl ?_
  rw [← h16]
  exact l_follows (by omega) hI hF hW (by omega) _ _ n n _ _ (Nat.le_refl _) hn (Or.inr ⟨s, hs, rfl⟩)
theorem c_mhasBy (o p v w : Int32) : Ct E d 0 0 mX11_hasBy [vI o, vI p, vI v, vI w] h (qR (some (vI (hbI o p v w))) h) := by
  refine ct_of (by decide) (Nat.le_of_ble_eq_true rfl) rfl ?_
  refine g_iload_n (pc := 0) dX11_hasBy_0 rfl ?_
  refine g_if_ne (pc := 1) 16 dX11_hasBy_1 (by decide) (fun c_1 => ?_) (fun c_1 => ?_)
  · refine g_iload_n (pc := 16) dX11_hasBy_16 rfl ?_
    refine g_if_ne (pc := 17) 24 dX11_hasBy_17 (by decide) (fun c_17 => ?_) (fun c_17 => ?_)
    · refine g_iconst (pc := 24) (v := 0) dX11_hasBy_24 (by decide) ?_
      refine g_ireturn (pc := 25) dX11_hasBy_25 rfl (by first | exact rfl | exact j_nb _) ?_
      exact ⟨by simp [hbI, *], rfl⟩
    · refine g_iload_n (pc := 20) dX11_hasBy_20 rfl ?_
      refine g_goto (pc := 21) 25 dX11_hasBy_21 (by decide) ?_
      refine g_ireturn (pc := 25) dX11_hasBy_25 rfl (by first | exact rfl | exact j_nb _) ?_
      exact ⟨by simp [hbI, *], rfl⟩
  · refine g_iload_n (pc := 4) dX11_hasBy_4 rfl ?_
    refine g_if_ne (pc := 5) 12 dX11_hasBy_5 (by decide) (fun c_5 => ?_) (fun c_5 => ?_)
    · refine g_iconst (pc := 12) (v := -1) dX11_hasBy_12 (by decide) ?_
      refine g_goto (pc := 13) 25 dX11_hasBy_13 (by decide) ?_
      refine g_ireturn (pc := 25) dX11_hasBy_25 rfl (by first | exact rfl | exact j_nb _) ?_
      exact ⟨by simp [hbI, *], rfl⟩
    · refine g_iload_n (pc := 8) dX11_hasBy_8 rfl ?_
      refine g_goto (pc := 9) 25 dX11_hasBy_9 (by decide) ?_
      refine g_ireturn (pc := 25) dX11_hasBy_25 rfl (by first | exact rfl | exact j_nb _) ?_
      exact ⟨by simp [hbI, *], rfl⟩
theorem c_isBest (hd : 1 ≤ d) (o p v w : Int32) : Ct E d 0 0 mX11_isBest [vI o, vI p, vI v, vI w] h (qR (some (vI (bI (ibB o p v w)))) h) := by
  refine ct_of (by decide) (Nat.le_of_ble_eq_true rfl) rfl ?_
  refine g_iload_n (pc := 0) dX11_isBest_0 rfl ?_
  refine g_iload_n (pc := 1) dX11_isBest_1 rfl ?_
  refine g_iload_n (pc := 2) dX11_isBest_2 rfl ?_
  refine g_iload_n (pc := 3) dX11_isBest_3 rfl ?_
  refine g_cS (pc := 4) (M' := mX11_hasBy) (as := [_, _, _, _]) i_X11_377 eX11_hasBy dX11_isBest_4 (c_mhasBy _ _ _ _) (by omega) rfl rfl (Nat.le_of_ble_eq_true rfl) ?_
  refine g_iconst (pc := 7) (v := 1) dX11_isBest_7 (by decide) ?_
  refine g_iload_n (pc := 8) dX11_isBest_8 rfl ?_
  refine g_isub (pc := 9) dX11_isBest_9 ?_
  refine g_iload_n (pc := 10) dX11_isBest_10 rfl ?_
  refine g_iload_n (pc := 11) dX11_isBest_11 rfl ?_
  refine g_iload_n (pc := 12) dX11_isBest_12 rfl ?_
  refine g_cS (pc := 13) (M' := mX11_hasBy) (as := [_, _, _, _]) i_X11_377 eX11_hasBy dX11_isBest_13 (c_mhasBy _ _ _ _) (by omega) rfl rfl (Nat.le_of_ble_eq_true rfl) ?_
  refine g_icmp_lt (pc := 16) 23 dX11_isBest_16 (by decide) (fun c_16 => ?_) (fun c_16 => ?_)
  · refine g_iconst (pc := 23) (v := 0) dX11_isBest_23 (by decide) ?_
    refine g_ireturn (pc := 24) dX11_isBest_24 rfl (by first | exact rfl | exact j_nb _) ?_
    exact ⟨by simp [ibB, bI, c_16], rfl⟩
  · refine g_iconst (pc := 19) (v := 1) dX11_isBest_19 (by decide) ?_
    refine g_goto (pc := 20) 24 dX11_isBest_20 (by decide) ?_
    refine g_ireturn (pc := 24) dX11_isBest_24 rfl (by first | exact rfl | exact j_nb _) ?_
    exact ⟨by simp [ibB, bI, c_16], rfl⟩
set_option maxHeartbeats 2000000 in
theorem l_tm {bc bs : Nat} {Q : jR → jH → Prop} (hd : 2 ≤ d) (v w x : Int32) (s : Int32 × Int32 × Int32) (a b : Int32) (kk : G E d bc bs mX11_tempted 158 [some (vR (nMo am)), some (vI v), some (vI w), some (vI x), some (vI (tmT v w s a b).1), some (vI (tmT v w s a b).2.1), some (vI (tmT v w s a b).2.2), some (vI a), some (vI b)] [] h Q) : G E d bc bs mX11_tempted 77 [some (vR (nMo am)), some (vI v), some (vI w), some (vI x), some (vI s.1), some (vI s.2.1), some (vI s.2.2), some (vI a), some (vI b)] [] h Q := by
  refine g_iload (pc := 77) dX11_tempted_77 rfl ?_
  refine g_iload (pc := 79) dX11_tempted_79 rfl ?_
  refine g_iload_n (pc := 81) dX11_tempted_81 rfl ?_
  refine g_iload_n (pc := 82) dX11_tempted_82 rfl ?_
  refine g_cS (pc := 83) (M' := mX11_isBest) (as := [_, _, _, _]) i_X11_381 eX11_isBest dX11_tempted_83 (c_isBest (by omega) _ _ _ _) (by omega) rfl rfl (Nat.le_of_ble_eq_true rfl) ?_
  refine g_ifB_eq (pc := 86) 158 dX11_tempted_86 (by decide) (fun c_86 => ?_) (fun c_86 => ?_)
  · have e : tmT v w s a b = _ := if_neg (fun q => absurd (c_86.symm.trans q.1) (by decide))
    rw [e] at kk
    exact kk
  · refine g_iload (pc := 89) dX11_tempted_89 rfl ?_
    refine g_iload (pc := 91) dX11_tempted_91 rfl ?_
    refine g_iload_n (pc := 93) dX11_tempted_93 rfl ?_
    refine g_iload_n (pc := 94) dX11_tempted_94 rfl ?_
    refine g_cS (pc := 95) (M' := mX11_isBest) (as := [_, _, _, _]) i_X11_381 eX11_isBest dX11_tempted_95 (c_isBest (by omega) _ _ _ _) (by omega) rfl rfl (Nat.le_of_ble_eq_true rfl) ?_
    refine g_ifB_ne (pc := 98) 104 dX11_tempted_98 (by decide) (fun c_98 => ?_) (fun c_98 => ?_)
    · refine g_iload (pc := 104) dX11_tempted_104 rfl ?_
      refine g_if_ne (pc := 106) 131 dX11_tempted_106 (by decide) (fun c_106 => ?_) (fun c_106 => ?_)
      · refine g_iload (pc := 131) dX11_tempted_131 rfl ?_
        refine g_istore (pc := 133) (ls' := [_, _, _, _, _, _, _, _, _]) dX11_tempted_133 (by decide) rfl rfl ?_
        refine g_iload (pc := 135) dX11_tempted_135 rfl ?_
        refine g_if_ne (pc := 137) 151 dX11_tempted_137 (by decide) (fun c_137 => ?_) (fun c_137 => ?_)
        · refine g_iload (pc := 151) dX11_tempted_151 rfl ?_
          refine g_istore (pc := 153) (ls' := [_, _, _, _, _, _, _, _, _]) dX11_tempted_153 (by decide) rfl rfl ?_
          refine g_iinc (pc := 155) (ls' := [_, _, _, _, _, _, _, _, _]) dX11_tempted_155 rfl (by first | exact nI_1 _ | exact rfl) (by decide) rfl rfl ?_
          have e : tmT v w s a b = _ := if_pos ⟨c_86, c_98⟩
          rw [e] at kk
          simp only at kk
          rw [if_neg c_106, if_neg c_106] at kk
          first
            | exact kk
            | exact absurd c_137 c_106
            | exact absurd c_106 c_137
        · refine g_bipush (pc := 140) (v := 10) dX11_tempted_140 (by decide) ?_
          refine g_iload (pc := 142) dX11_tempted_142 rfl ?_
          refine g_imul (pc := 144) dX11_tempted_144 ?_
          refine g_iload (pc := 145) dX11_tempted_145 rfl ?_
          refine g_iadd (pc := 147) dX11_tempted_147 ?_
          refine g_goto (pc := 148) 153 dX11_tempted_148 (by decide) ?_
          refine g_istore (pc := 153) (ls' := [_, _, _, _, _, _, _, _, _]) dX11_tempted_153 (by decide) rfl rfl ?_
          refine g_iinc (pc := 155) (ls' := [_, _, _, _, _, _, _, _, _]) dX11_tempted_155 rfl (by first | exact nI_1 _ | exact rfl) (by decide) rfl rfl ?_
          have e : tmT v w s a b = _ := if_pos ⟨c_86, c_98⟩
          rw [e] at kk
          simp only at kk
          rw [if_neg c_106, if_neg c_106] at kk
          first
            | exact kk
            | exact absurd c_137 c_106
            | exact absurd c_106 c_137
      · refine g_iload (pc := 109) dX11_tempted_109 rfl ?_
        refine g_iload (pc := 111) dX11_tempted_111 rfl ?_
        refine g_iload_n (pc := 113) dX11_tempted_113 rfl ?_
        refine g_iload_n (pc := 114) dX11_tempted_114 rfl ?_
        refine g_cS (pc := 115) (M' := mX11_hasBy) (as := [_, _, _, _]) i_X11_377 eX11_hasBy dX11_tempted_115 (c_mhasBy _ _ _ _) (by omega) rfl rfl (Nat.le_of_ble_eq_true rfl) ?_
        refine g_iload (pc := 118) dX11_tempted_118 rfl ?_
        refine g_iload (pc := 120) dX11_tempted_120 rfl ?_
        refine g_iload_n (pc := 122) dX11_tempted_122 rfl ?_
        refine g_iload_n (pc := 123) dX11_tempted_123 rfl ?_
        refine g_cS (pc := 124) (M' := mX11_hasBy) (as := [_, _, _, _]) i_X11_377 eX11_hasBy dX11_tempted_124 (c_mhasBy _ _ _ _) (by omega) rfl rfl (Nat.le_of_ble_eq_true rfl) ?_
        refine g_iadd (pc := 127) dX11_tempted_127 ?_
        refine g_goto (pc := 128) 133 dX11_tempted_128 (by decide) ?_
        refine g_istore (pc := 133) (ls' := [_, _, _, _, _, _, _, _, _]) dX11_tempted_133 (by decide) rfl rfl ?_
        refine g_iload (pc := 135) dX11_tempted_135 rfl ?_
        refine g_if_ne (pc := 137) 151 dX11_tempted_137 (by decide) (fun c_137 => ?_) (fun c_137 => ?_)
        · refine g_iload (pc := 151) dX11_tempted_151 rfl ?_
          refine g_istore (pc := 153) (ls' := [_, _, _, _, _, _, _, _, _]) dX11_tempted_153 (by decide) rfl rfl ?_
          refine g_iinc (pc := 155) (ls' := [_, _, _, _, _, _, _, _, _]) dX11_tempted_155 rfl (by first | exact nI_1 _ | exact rfl) (by decide) rfl rfl ?_
          have e : tmT v w s a b = _ := if_pos ⟨c_86, c_98⟩
          rw [e] at kk
          simp only at kk
          rw [if_pos c_106, if_pos c_106] at kk
          first
            | exact kk
            | exact absurd c_137 c_106
            | exact absurd c_106 c_137
        · refine g_bipush (pc := 140) (v := 10) dX11_tempted_140 (by decide) ?_
          refine g_iload (pc := 142) dX11_tempted_142 rfl ?_
          refine g_imul (pc := 144) dX11_tempted_144 ?_
          refine g_iload (pc := 145) dX11_tempted_145 rfl ?_
          refine g_iadd (pc := 147) dX11_tempted_147 ?_
          refine g_goto (pc := 148) 153 dX11_tempted_148 (by decide) ?_
          refine g_istore (pc := 153) (ls' := [_, _, _, _, _, _, _, _, _]) dX11_tempted_153 (by decide) rfl rfl ?_
          refine g_iinc (pc := 155) (ls' := [_, _, _, _, _, _, _, _, _]) dX11_tempted_155 rfl (by first | exact nI_1 _ | exact rfl) (by decide) rfl rfl ?_
          have e : tmT v w s a b = _ := if_pos ⟨c_86, c_98⟩
          rw [e] at kk
          simp only at kk
          rw [if_pos c_106, if_pos c_106] at kk
          first
            | exact kk
            | exact absurd c_137 c_106
            | exact absurd c_106 c_137
    · refine g_goto (pc := 101) 158 dX11_tempted_101 (by decide) ?_
      have e : tmT v w s a b = _ := if_neg (fun q => absurd (c_98.symm.trans q.2) (by decide))
      rw [e] at kk
      exact kk
theorem r_mtempted (hd : 1 ≤ d) (hI : InvM am V h) (v w x : Int32) (hv : (inR v 0 99 && inR w 0 99 && inR x 0 2) = false) : Ct E d 0 0 mX11_tempted [vR (nMo am), vI v, vI w, vI x] h (mQ am (refV V 1 1) h (some (vI 0))) := by
  refine ct_of (by decide) (Nat.le_of_ble_eq_true rfl) rfl ?_
  have hF : mFr h h := mFr.rf
  refine g_aload_n (pc := 0) dX11_tempted_0 rfl ?_
  refine g_iconst (pc := 1) (v := 0) dX11_tempted_1 (by decide) ?_
  refine m_put (pc := 2) hI w_X11_103_11 rfl (by decide) dX11_tempted_2 (fun h hI fr => ?_)
  replace hF := mFr.tr hF fr
  change InvM am (thr0 V) h at hI
  refine g_aload_n (pc := 5) dX11_tempted_5 rfl ?_
  refine g_iload_n (pc := 6) dX11_tempted_6 rfl ?_
  refine g_iconst (pc := 7) (v := 0) dX11_tempted_7 (by decide) ?_
  refine g_bipush (pc := 8) (v := 99) dX11_tempted_8 (by decide) ?_
  refine g_cS (pc := 10) (M' := mX11_in) (as := [_, _, _]) i_X11_137 eX11_in dX11_tempted_10 (c_in _ _ _) (by omega) rfl rfl (Nat.le_of_ble_eq_true rfl) ?_
  refine g_ifB_eq (pc := 13) 35 dX11_tempted_13 (by decide) (fun c_13 => ?_) (fun c_13 => ?_)
  · refine g_iconst (pc := 35) (v := 1) dX11_tempted_35 (by decide) ?_
    refine g_goto (pc := 36) 40 dX11_tempted_36 (by decide) ?_
    refine g_iconst (pc := 40) (v := 1) dX11_tempted_40 (by decide) ?_
    refine g_iconst (pc := 41) (v := 1) dX11_tempted_41 (by decide) ?_
    refine m_cV (pc := 42) (M' := mX11_bad) (as := [_, _, _]) i_X11_183_11 eX11_bad hI dX11_tempted_42 (c_badT hI thr0_0 1 (by decide) 1 (by decide)) (by omega) rfl rfl (Nat.le_of_ble_eq_true rfl) (fun h hI fr => ?_)
    replace hF := mFr.tr hF fr
    refine g_ifB_eq (pc := 45) 50 dX11_tempted_45 (by decide) (fun c_45 => absurd c_45 (by decide)) (fun c_45 => ?_)
    refine g_iconst (pc := 48) (v := 0) dX11_tempted_48 (by decide) ?_
    refine g_ireturn (pc := 49) dX11_tempted_49 rfl (by first | exact rfl | exact j_nb _) ?_
    rw [refV_thr0] at hI
    exact ⟨rfl, hI, hF⟩
  · refine g_iload_n (pc := 16) dX11_tempted_16 rfl ?_
    refine g_iconst (pc := 17) (v := 0) dX11_tempted_17 (by decide) ?_
    refine g_bipush (pc := 18) (v := 99) dX11_tempted_18 (by decide) ?_
    refine g_cS (pc := 20) (M' := mX11_in) (as := [_, _, _]) i_X11_137 eX11_in dX11_tempted_20 (c_in _ _ _) (by omega) rfl rfl (Nat.le_of_ble_eq_true rfl) ?_
    refine g_ifB_eq (pc := 23) 35 dX11_tempted_23 (by decide) (fun c_23 => ?_) (fun c_23 => ?_)
    · refine g_iconst (pc := 35) (v := 1) dX11_tempted_35 (by decide) ?_
      refine g_goto (pc := 36) 40 dX11_tempted_36 (by decide) ?_
      refine g_iconst (pc := 40) (v := 1) dX11_tempted_40 (by decide) ?_
      refine g_iconst (pc := 41) (v := 1) dX11_tempted_41 (by decide) ?_
      refine m_cV (pc := 42) (M' := mX11_bad) (as := [_, _, _]) i_X11_183_11 eX11_bad hI dX11_tempted_42 (c_badT hI thr0_0 1 (by decide) 1 (by decide)) (by omega) rfl rfl (Nat.le_of_ble_eq_true rfl) (fun h hI fr => ?_)
      replace hF := mFr.tr hF fr
      refine g_ifB_eq (pc := 45) 50 dX11_tempted_45 (by decide) (fun c_45 => absurd c_45 (by decide)) (fun c_45 => ?_)
      refine g_iconst (pc := 48) (v := 0) dX11_tempted_48 (by decide) ?_
      refine g_ireturn (pc := 49) dX11_tempted_49 rfl (by first | exact rfl | exact j_nb _) ?_
      rw [refV_thr0] at hI
      exact ⟨rfl, hI, hF⟩
    · refine g_iload_n (pc := 26) dX11_tempted_26 rfl ?_
      refine g_iconst (pc := 27) (v := 0) dX11_tempted_27 (by decide) ?_
      refine g_iconst (pc := 28) (v := 2) dX11_tempted_28 (by decide) ?_
      refine g_cS (pc := 29) (M' := mX11_in) (as := [_, _, _]) i_X11_137 eX11_in dX11_tempted_29 (c_in _ _ _) (by omega) rfl rfl (Nat.le_of_ble_eq_true rfl) ?_
      refine g_ifB_ne (pc := 32) 39 dX11_tempted_32 (by decide) (fun c_32 => ?_) (fun c_32 => ?_)
      · exfalso
        rw [c_13, c_23, c_32] at hv
        cases hv
      · refine g_iconst (pc := 35) (v := 1) dX11_tempted_35 (by decide) ?_
        refine g_goto (pc := 36) 40 dX11_tempted_36 (by decide) ?_
        refine g_iconst (pc := 40) (v := 1) dX11_tempted_40 (by decide) ?_
        refine g_iconst (pc := 41) (v := 1) dX11_tempted_41 (by decide) ?_
        refine m_cV (pc := 42) (M' := mX11_bad) (as := [_, _, _]) i_X11_183_11 eX11_bad hI dX11_tempted_42 (c_badT hI thr0_0 1 (by decide) 1 (by decide)) (by omega) rfl rfl (Nat.le_of_ble_eq_true rfl) (fun h hI fr => ?_)
        replace hF := mFr.tr hF fr
        refine g_ifB_eq (pc := 45) 50 dX11_tempted_45 (by decide) (fun c_45 => absurd c_45 (by decide)) (fun c_45 => ?_)
        refine g_iconst (pc := 48) (v := 0) dX11_tempted_48 (by decide) ?_
        refine g_ireturn (pc := 49) dX11_tempted_49 rfl (by first | exact rfl | exact j_nb _) ?_
        rw [refV_thr0] at hI
        exact ⟨rfl, hI, hF⟩
set_option maxHeartbeats 4000000 in
theorem c_mtempted (hd : 3 ≤ d) (hI : InvM am V h) (v w x : Int32) (hv : (inR v 0 99 && inR w 0 99 && inR x 0 2) = true) : Ct E d 0 0 mX11_tempted [vR (nMo am), vI v, vI w, vI x] h (mQ am (thr0 V) h (some (vI (tmI v w x)))) := by
  refine ct_of (by decide) (Nat.le_of_ble_eq_true rfl) rfl ?_
  have hF : mFr h h := mFr.rf
  simp only [Bool.and_eq_true] at hv
  obtain ⟨⟨h0, h1⟩, h2⟩ := hv
  refine g_aload_n (pc := 0) dX11_tempted_0 rfl ?_
  refine g_iconst (pc := 1) (v := 0) dX11_tempted_1 (by decide) ?_
  refine m_put (pc := 2) hI w_X11_103_11 rfl (by decide) dX11_tempted_2 (fun h hI fr => ?_)
  replace hF := mFr.tr hF fr
  change InvM am (thr0 V) h at hI
  refine g_aload_n (pc := 5) dX11_tempted_5 rfl ?_
  refine g_iload_n (pc := 6) dX11_tempted_6 rfl ?_
  refine g_iconst (pc := 7) (v := 0) dX11_tempted_7 (by decide) ?_
  refine g_bipush (pc := 8) (v := 99) dX11_tempted_8 (by decide) ?_
  refine g_cS (pc := 10) (M' := mX11_in) (as := [_, _, _]) i_X11_137 eX11_in dX11_tempted_10 (c_in _ _ _) (by omega) rfl rfl (Nat.le_of_ble_eq_true rfl) ?_
  refine g_ifB_eq (pc := 13) 35 dX11_tempted_13 (by decide) (fun c_13 => absurd (h0.symm.trans c_13) (by decide)) (fun c_13 => ?_)
  refine g_iload_n (pc := 16) dX11_tempted_16 rfl ?_
  refine g_iconst (pc := 17) (v := 0) dX11_tempted_17 (by decide) ?_
  refine g_bipush (pc := 18) (v := 99) dX11_tempted_18 (by decide) ?_
  refine g_cS (pc := 20) (M' := mX11_in) (as := [_, _, _]) i_X11_137 eX11_in dX11_tempted_20 (c_in _ _ _) (by omega) rfl rfl (Nat.le_of_ble_eq_true rfl) ?_
  refine g_ifB_eq (pc := 23) 35 dX11_tempted_23 (by decide) (fun c_23 => absurd (h1.symm.trans c_23) (by decide)) (fun c_23 => ?_)
  refine g_iload_n (pc := 26) dX11_tempted_26 rfl ?_
  refine g_iconst (pc := 27) (v := 0) dX11_tempted_27 (by decide) ?_
  refine g_iconst (pc := 28) (v := 2) dX11_tempted_28 (by decide) ?_
  refine g_cS (pc := 29) (M' := mX11_in) (as := [_, _, _]) i_X11_137 eX11_in dX11_tempted_29 (c_in _ _ _) (by omega) rfl rfl (Nat.le_of_ble_eq_true rfl) ?_
  refine g_ifB_ne (pc := 32) 39 dX11_tempted_32 (by decide) (fun c_32 => ?_) (fun c_32 => absurd (h2.symm.trans c_32) (by decide))
  refine g_iconst (pc := 39) (v := 0) dX11_tempted_39 (by decide) ?_
  refine g_iconst (pc := 40) (v := 1) dX11_tempted_40 (by decide) ?_
  refine g_iconst (pc := 41) (v := 1) dX11_tempted_41 (by decide) ?_
  refine m_cV (pc := 42) (M' := mX11_bad) (as := [_, _, _]) i_X11_183_11 eX11_bad hI dX11_tempted_42 (c_badF hI thr0_0 1 1 (by decide)) (by omega) rfl rfl (Nat.le_of_ble_eq_true rfl) (fun h hI fr => ?_)
  replace hF := mFr.tr hF fr
  refine g_ifB_eq (pc := 45) 50 dX11_tempted_45 (by decide) (fun c_45 => ?_) (fun c_45 => absurd c_45 (by decide))
  refine g_iconst (pc := 50) (v := 0) dX11_tempted_50 (by decide) ?_
  refine g_istore (pc := 51) (ls' := [_, _, _, _, _, _, _, _, _]) dX11_tempted_51 (by decide) rfl rfl ?_
  refine g_iconst (pc := 53) (v := -1) dX11_tempted_53 (by decide) ?_
  refine g_istore (pc := 54) (ls' := [_, _, _, _, _, _, _, _, _]) dX11_tempted_54 (by decide) rfl rfl ?_
  refine g_iconst (pc := 56) (v := 0) dX11_tempted_56 (by decide) ?_
  refine g_istore (pc := 57) (ls' := [_, _, _, _, _, _, _, _, _]) dX11_tempted_57 (by decide) rfl rfl ?_
  refine g_iconst (pc := 59) (v := 0) dX11_tempted_59 (by decide) ?_
  refine g_istore (pc := 60) (ls' := [_, _, _, _, _, _, _, _, _]) dX11_tempted_60 (by decide) rfl rfl ?_
  change G _ _ _ _ _ _ [some (vR (nMo am)), some (vI v), some (vI w), some (vI x), some (vI ((0, -1, 0) : Int32 × Int32 × Int32).1), some (vI ((0, -1, 0) : Int32 × Int32 × Int32).2.1), some (vI ((0, -1, 0) : Int32 × Int32 × Int32).2.2), some (vI 0), _] _ _ _
  refine g_iload (pc := 62) dX11_tempted_62 rfl ?_
  refine g_iconst (pc := 64) (v := 2) dX11_tempted_64 (by decide) ?_
  refine g_icmp_ge (pc := 65) 170 dX11_tempted_65 (by decide) (fun c_65 => absurd c_65 (by decide)) (fun c_65 => ?_)
  refine g_iconst (pc := 68) (v := 0) dX11_tempted_68 (by decide) ?_
  refine g_istore (pc := 69) (ls' := [_, _, _, _, _, _, _, _, _]) dX11_tempted_69 (by decide) rfl rfl ?_
  refine g_iload (pc := 71) dX11_tempted_71 rfl ?_
  refine g_iconst (pc := 73) (v := 2) dX11_tempted_73 (by decide) ?_
  refine g_icmp_ge (pc := 74) 164 dX11_tempted_74 (by decide) (fun c_74 => absurd c_74 (by decide)) (fun c_74 => ?_)
  refine l_tm (by omega) _ _ _ _ _ _ ?_
  refine g_iinc (pc := 158) (ls' := [_, _, _, _, _, _, _, _, _]) dX11_tempted_158 rfl (by first | exact nI_1 _ | exact rfl) (by decide) rfl rfl ?_
  refine g_goto (pc := 161) 71 dX11_tempted_161 (by decide) ?_
  refine g_iload (pc := 71) dX11_tempted_71 rfl ?_
  refine g_iconst (pc := 73) (v := 2) dX11_tempted_73 (by decide) ?_
  refine g_icmp_ge (pc := 74) 164 dX11_tempted_74 (by decide) (fun c_74 => absurd c_74 (by decide)) (fun c_74 => ?_)
  refine l_tm (by omega) _ _ _ _ _ _ ?_
  refine g_iinc (pc := 158) (ls' := [_, _, _, _, _, _, _, _, _]) dX11_tempted_158 rfl (by first | exact nI_1 _ | exact rfl) (by decide) rfl rfl ?_
  refine g_goto (pc := 161) 71 dX11_tempted_161 (by decide) ?_
  refine g_iload (pc := 71) dX11_tempted_71 rfl ?_
  refine g_iconst (pc := 73) (v := 2) dX11_tempted_73 (by decide) ?_
  refine g_icmp_ge (pc := 74) 164 dX11_tempted_74 (by decide) (fun c_74 => ?_) (fun c_74 => absurd (by decide) c_74)
  refine g_iinc (pc := 164) (ls' := [_, _, _, _, _, _, _, _, _]) dX11_tempted_164 rfl (by first | exact nI_1 _ | exact rfl) (by decide) rfl rfl ?_
  refine g_goto (pc := 167) 62 dX11_tempted_167 (by decide) ?_
  refine g_iload (pc := 62) dX11_tempted_62 rfl ?_
  refine g_iconst (pc := 64) (v := 2) dX11_tempted_64 (by decide) ?_
  refine g_icmp_ge (pc := 65) 170 dX11_tempted_65 (by decide) (fun c_65 => absurd c_65 (by decide)) (fun c_65 => ?_)
  refine g_iconst (pc := 68) (v := 0) dX11_tempted_68 (by decide) ?_
  refine g_istore (pc := 69) (ls' := [_, _, _, _, _, _, _, _, _]) dX11_tempted_69 (by decide) rfl rfl ?_
  refine g_iload (pc := 71) dX11_tempted_71 rfl ?_
  refine g_iconst (pc := 73) (v := 2) dX11_tempted_73 (by decide) ?_
  refine g_icmp_ge (pc := 74) 164 dX11_tempted_74 (by decide) (fun c_74 => absurd c_74 (by decide)) (fun c_74 => ?_)
  refine l_tm (by omega) _ _ _ _ _ _ ?_
  refine g_iinc (pc := 158) (ls' := [_, _, _, _, _, _, _, _, _]) dX11_tempted_158 rfl (by first | exact nI_1 _ | exact rfl) (by decide) rfl rfl ?_
  refine g_goto (pc := 161) 71 dX11_tempted_161 (by decide) ?_
  refine g_iload (pc := 71) dX11_tempted_71 rfl ?_
  refine g_iconst (pc := 73) (v := 2) dX11_tempted_73 (by decide) ?_
  refine g_icmp_ge (pc := 74) 164 dX11_tempted_74 (by decide) (fun c_74 => absurd c_74 (by decide)) (fun c_74 => ?_)
  refine l_tm (by omega) _ _ _ _ _ _ ?_
  refine g_iinc (pc := 158) (ls' := [_, _, _, _, _, _, _, _, _]) dX11_tempted_158 rfl (by first | exact nI_1 _ | exact rfl) (by decide) rfl rfl ?_
  refine g_goto (pc := 161) 71 dX11_tempted_161 (by decide) ?_
  refine g_iload (pc := 71) dX11_tempted_71 rfl ?_
  refine g_iconst (pc := 73) (v := 2) dX11_tempted_73 (by decide) ?_
  refine g_icmp_ge (pc := 74) 164 dX11_tempted_74 (by decide) (fun c_74 => ?_) (fun c_74 => absurd (by decide) c_74)
  refine g_iinc (pc := 164) (ls' := [_, _, _, _, _, _, _, _, _]) dX11_tempted_164 rfl (by first | exact nI_1 _ | exact rfl) (by decide) rfl rfl ?_
  refine g_goto (pc := 167) 62 dX11_tempted_167 (by decide) ?_
  refine g_iload (pc := 62) dX11_tempted_62 rfl ?_
  refine g_iconst (pc := 64) (v := 2) dX11_tempted_64 (by decide) ?_
  refine g_icmp_ge (pc := 65) 170 dX11_tempted_65 (by decide) (fun c_65 => ?_) (fun c_65 => absurd (by decide) c_65)
  refine g_iload_n (pc := 170) dX11_tempted_170 rfl ?_
  refine g_if_ne (pc := 171) 179 dX11_tempted_171 (by decide) (fun c_171 => ?_) (fun c_171 => ?_)
  · refine g_iload_n (pc := 179) dX11_tempted_179 rfl ?_
    refine g_iconst (pc := 180) (v := 1) dX11_tempted_180 (by decide) ?_
    refine g_icmp_ne (pc := 181) 189 dX11_tempted_181 (by decide) (fun c_181 => ?_) (fun c_181 => ?_)
    · refine g_iload (pc := 189) dX11_tempted_189 rfl ?_
      refine g_ireturn (pc := 191) dX11_tempted_191 rfl (by first | exact rfl | exact j_nb _) ?_
      refine ⟨?_, hI, hF⟩
      unfold tmI tmS
      simp [*, show nI 1 = (1 : Int32) from rfl]
    · refine g_iload (pc := 184) dX11_tempted_184 rfl ?_
      refine g_goto (pc := 186) 191 dX11_tempted_186 (by decide) ?_
      refine g_ireturn (pc := 191) dX11_tempted_191 rfl (by first | exact rfl | exact j_nb _) ?_
      refine ⟨?_, hI, hF⟩
      unfold tmI tmS
      simp [*, show nI 1 = (1 : Int32) from rfl]
  · refine g_iload (pc := 174) dX11_tempted_174 rfl ?_
    refine g_goto (pc := 176) 191 dX11_tempted_176 (by decide) ?_
    refine g_ireturn (pc := 191) dX11_tempted_191 rfl (by first | exact rfl | exact j_nb _) ?_
    refine ⟨?_, hI, hF⟩
    unfold tmI tmS
    simp [*, show nI 1 = (1 : Int32) from rfl]
set_option maxHeartbeats 2000000 in
theorem l_givenBy {bc bs : Nat} {Q : jR → jH → Prop} (hd : 7 ≤ d) (hI : InvM am V h) (hT : MT V D nS nR nP) (b x : Int32) : ∀ (m r : Nat), nP - r = m → r ≤ nP → G E d bc bs mX11_givenBy 51 [some (vR (nMo am)), some (vI b), some (vI x), some (vI (sumI (givF D b x) nP)), some (vI (nI nP))] [] h Q → G E d bc bs mX11_givenBy 5 [some (vR (nMo am)), some (vI b), some (vI x), some (vI (sumI (givF D b x) r)), some (vI (nI r))] [] h Q := by
  intro m
  induction m with
  | zero =>
    intro r hm hr kk
    have e : r = nP := by omega
    subst e
    have b8 := hT.2.2.2.1
    have b10 := hT.2.2.2.2.1
    have bP := hT.2.2.2.2.2.1
    refine g_iload (pc := 5) dX11_givenBy_5 rfl ?_
    refine g_aload_n (pc := 7) dX11_givenBy_7 rfl ?_
    refine g_getfield (pc := 8) f_X11_23_11 dX11_givenBy_8 hI.1 mf_12 ?_
    refine g_iconst (pc := 11) (v := 2) dX11_givenBy_11 (by decide) ?_
    refine g_iaload (pc := 12) dX11_givenBy_12 (mA hI 12 3 rfl (by decide)) (j := 2) (by decide) (by omega) (by decide) rfl ?_
    rw [hT.2.2.1]
    refine g_icmp_ge (pc := 13) 51 dX11_givenBy_13 (by decide) (fun c_13 => ?_) (fun c_13 => absurd (nI_le (Nat.le_refl _) (by omega)) c_13)
    exact kk
  | succ m ih =>
    intro r hm hr kk
    have b8 := hT.2.2.2.1
    have b10 := hT.2.2.2.2.1
    have bP := hT.2.2.2.2.2.1
    have hpp := hT.2.2.2.2.2.2.2.1 r (by omega)
    refine g_iload (pc := 5) dX11_givenBy_5 rfl ?_
    refine g_aload_n (pc := 7) dX11_givenBy_7 rfl ?_
    refine g_getfield (pc := 8) f_X11_23_11 dX11_givenBy_8 hI.1 mf_12 ?_
    refine g_iconst (pc := 11) (v := 2) dX11_givenBy_11 (by decide) ?_
    refine g_iaload (pc := 12) dX11_givenBy_12 (mA hI 12 3 rfl (by decide)) (j := 2) (by decide) (by omega) (by decide) rfl ?_
    rw [hT.2.2.1]
    refine g_icmp_ge (pc := 13) 51 dX11_givenBy_13 (by decide) (fun c_13 => absurd c_13 (by intro w; have := (nI_leI (by omega) (by omega)).mp w; omega)) (fun c_13 => ?_)
    refine g_iload_n (pc := 16) dX11_givenBy_16 rfl ?_
    refine g_iload_n (pc := 17) dX11_givenBy_17 rfl ?_
    refine g_iload (pc := 18) dX11_givenBy_18 rfl ?_
    refine g_cS (pc := 20) (M' := mX11_has) (as := [_, _]) i_X11_263 eX11_has dX11_givenBy_20 (c_has _ _) (by omega) rfl rfl (Nat.le_of_ble_eq_true rfl) ?_
    refine g_ifB_eq (pc := 23) 42 dX11_givenBy_23 (by decide) (fun c_23 => ?_) (fun c_23 => ?_)
    · refine g_iconst (pc := 42) (v := 0) dX11_givenBy_42 (by decide) ?_
      refine g_iadd (pc := 43) dX11_givenBy_43 ?_
      refine g_istore_n (pc := 44) (ls' := [_, _, _, _, _]) dX11_givenBy_44 (by decide) rfl rfl ?_
      refine g_iinc (pc := 45) (ls' := [_, _, _, _, _]) dX11_givenBy_45 rfl (by first | exact nI_1 _ | exact rfl) (by decide) rfl rfl ?_
      refine g_goto (pc := 48) 5 dX11_givenBy_48 (by decide) ?_
      have e0 : sumI (givF D b x) (r + 1) = _ := show sumI (givF D b x) r + givF D b x r = _ from by unfold givF; rw [if_neg (by rw [c_23]; decide)]
      have q := ih (r + 1) (by omega) (by omega) kk
      rw [e0] at q
      exact q
    · refine g_iload_n (pc := 26) dX11_givenBy_26 rfl ?_
      refine g_aload_n (pc := 27) dX11_givenBy_27 rfl ?_
      refine g_getfield (pc := 28) f_X11_49_11 dX11_givenBy_28 hI.1 mf_20 ?_
      refine g_iload (pc := 31) dX11_givenBy_31 rfl ?_
      refine g_aaload (pc := 33) (t := 5) rfl rfl dX11_givenBy_33 (mG hI 20 8 rfl (by decide)) rfl (by omega) (by decide) rfl ?_
      refine g_iconst (pc := 34) (v := 1) dX11_givenBy_34 (by decide) ?_
      refine g_iaload (pc := 35) dX11_givenBy_35 (mR hI 20 2 _ rfl (by show _ < 8; omega)) (j := 1) (by decide) (by omega) (by decide) rfl ?_
      rw [hpp.2.1]
      refine g_cS (pc := 36) (M' := mX11_less) (as := [_, _]) i_X11_245 eX11_less dX11_givenBy_36 (c_less _ _) (by omega) rfl rfl (Nat.le_of_ble_eq_true rfl) ?_
      refine g_goto (pc := 39) 43 dX11_givenBy_39 (by decide) ?_
      refine g_iadd (pc := 43) dX11_givenBy_43 ?_
      refine g_istore_n (pc := 44) (ls' := [_, _, _, _, _]) dX11_givenBy_44 (by decide) rfl rfl ?_
      refine g_iinc (pc := 45) (ls' := [_, _, _, _, _]) dX11_givenBy_45 rfl (by first | exact nI_1 _ | exact rfl) (by decide) rfl rfl ?_
      refine g_goto (pc := 48) 5 dX11_givenBy_48 (by decide) ?_
      have e0 : sumI (givF D b x) (r + 1) = _ := show sumI (givF D b x) r + givF D b x r = _ from by unfold givF; rw [if_pos c_23]
      have q := ih (r + 1) (by omega) (by omega) kk
      rw [e0] at q
      exact q
theorem c_givenBy (hd : 7 ≤ d) (hI : InvM am V h) (hT : MT V D nS nR nP) (b x : Int32) : Ct E d 0 0 mX11_givenBy [vR (nMo am), vI b, vI x] h (qR (some (vI (sumI (givF D b x) nP))) h) := by
  refine ct_of (by decide) (Nat.le_of_ble_eq_true rfl) rfl ?_
  refine g_iconst (pc := 0) (v := 0) dX11_givenBy_0 (by decide) ?_
  refine g_istore_n (pc := 1) (ls' := [_, _, _, _, _]) dX11_givenBy_1 (by decide) rfl rfl ?_
  refine g_iconst (pc := 2) (v := 0) dX11_givenBy_2 (by decide) ?_
  refine g_istore (pc := 3) (ls' := [_, _, _, _, _]) dX11_givenBy_3 (by decide) rfl rfl ?_
  refine l_givenBy hd hI hT b x nP 0 rfl (Nat.zero_le _) ?_
  refine g_iload_n (pc := 51) dX11_givenBy_51 rfl ?_
  refine g_ireturn (pc := 52) dX11_givenBy_52 rfl (by first | exact rfl | exact j_nb _) ?_
  exact ⟨rfl, rfl⟩
set_option maxHeartbeats 1000000 in
theorem l_alms {bc bs : Nat} {Q : jR → jH → Prop} (hd : 8 ≤ d) (hI : InvM am V h) (hT : MT V D nS nR nP) (p : Nat) (b n : Int32) : ∀ (m k : Nat), k + m = 99 → (G E d bc bs mX11_alms 101 [some (vR (nMo am)), some (vI (nI p)), some (vI b), some (vI n), some (vI (nI (almF D nP b n m k)))] [] h Q) → G E d bc bs mX11_alms 75 [some (vR (nMo am)), some (vI (nI p)), some (vI b), some (vI n), some (vI (nI k))] [] h Q := by
  intro m
  induction m with
  | zero =>
    intro k hm kk
    have e : k = 99 := by omega
    subst e
    refine g_iload (pc := 75) dX11_alms_75 rfl ?_
    refine g_bipush (pc := 77) (v := 99) dX11_alms_77 (by decide) ?_
    refine g_icmp_ge (pc := 79) 101 dX11_alms_79 (by decide) (fun c_79 => ?_) (fun c_79 => absurd (by decide) c_79)
    exact kk
  | succ m ih =>
    intro k hm kk
    refine g_iload (pc := 75) dX11_alms_75 rfl ?_
    refine g_bipush (pc := 77) (v := 99) dX11_alms_77 (by decide) ?_
    refine g_icmp_ge (pc := 79) 101 dX11_alms_79 (by decide) (fun c_79 => absurd c_79 (by intro w; have := (nI_leI (a := 99) (by decide) (by omega)).mp w; omega)) (fun c_79 => ?_)
    refine g_aload_n (pc := 82) dX11_alms_82 rfl ?_
    refine g_iload_n (pc := 83) dX11_alms_83 rfl ?_
    refine g_iload (pc := 84) dX11_alms_84 rfl ?_
    refine g_iconst (pc := 86) (v := 1) dX11_alms_86 (by decide) ?_
    refine g_iadd (pc := 87) dX11_alms_87 ?_
    rw [nI_1]
    refine m_cP (pc := 88) (M' := mX11_givenBy) (as := [_, _]) i_X11_385_11 eX11_givenBy hI dX11_alms_88 (c_givenBy (by omega) hI hT _ _) (by omega) rfl rfl (Nat.le_of_ble_eq_true rfl) ?_
    refine g_iload_n (pc := 91) dX11_alms_91 rfl ?_
    refine g_icmp_gt (pc := 92) 101 dX11_alms_92 (by decide) (fun c_92 => ?_) (fun c_92 => ?_)
    · have e : almF D nP b n (m + 1) k = _ := show (if _ then _ else _) = _ from if_pos c_92
      rw [e] at kk
      exact kk
    · refine g_iinc (pc := 95) (ls' := [_, _, _, _, _]) dX11_alms_95 rfl (by first | exact nI_1 _ | exact rfl) (by decide) rfl rfl ?_
      refine g_goto (pc := 98) 75 dX11_alms_98 (by decide) ?_
      refine ih (k + 1) (by omega) ?_
      have e : almF D nP b n (m + 1) k = _ := show (if _ then _ else _) = _ from if_neg c_92
      rw [e] at kk
      exact kk
theorem r1_malms (hd : 2 ≤ d) (hI : InvM am V h) (hT : MT V D nS nR nP) (s b n : Int32) (hv : inR s 0 (nI nP - 1) = false) : Ct E d 0 0 mX11_alms [vR (nMo am), vI s, vI b, vI n] h (mQ am (refV V 1 0) h (some (vI 0))) := by
  refine ct_of (by decide) (Nat.le_of_ble_eq_true rfl) rfl ?_
  have hF : mFr h h := mFr.rf
  have hT := MT.f0 (j := 0) (y := 0) hT
  change MT (thr0 V) D nS nR nP at hT
  have b8 := hT.2.2.2.1
  have b10 := hT.2.2.2.2.1
  have bP := hT.2.2.2.2.2.1
  refine g_aload_n (pc := 0) dX11_alms_0 rfl ?_
  refine g_iconst (pc := 1) (v := 0) dX11_alms_1 (by decide) ?_
  refine m_put (pc := 2) hI w_X11_103_11 rfl (by decide) dX11_alms_2 (fun h hI fr => ?_)
  replace hF := mFr.tr hF fr
  change InvM am (thr0 V) h at hI
  refine g_aload_n (pc := 5) dX11_alms_5 rfl ?_
  refine g_aload_n (pc := 6) dX11_alms_6 rfl ?_
  refine g_iload_n (pc := 7) dX11_alms_7 rfl ?_
  refine m_cP (pc := 8) (M' := mX11_isPerson) (as := [_]) i_X11_342_11 eX11_isPerson hI dX11_alms_8 (c_isPerson hI hT (by omega) _) (by omega) rfl rfl (Nat.le_of_ble_eq_true rfl) ?_
  refine g_ifB_ne (pc := 11) 18 dX11_alms_11 (by decide) (fun c_11 => absurd (c_11.symm.trans hv) (by decide)) (fun c_11 => ?_)
  refine g_iconst (pc := 14) (v := 1) dX11_alms_14 (by decide) ?_
  refine g_goto (pc := 15) 19 dX11_alms_15 (by decide) ?_
  refine g_iconst (pc := 19) (v := 1) dX11_alms_19 (by decide) ?_
  refine g_iconst (pc := 20) (v := 0) dX11_alms_20 (by decide) ?_
  refine m_cV (pc := 21) (M' := mX11_bad) (as := [_, _, _]) i_X11_183_11 eX11_bad hI dX11_alms_21 (c_badT hI thr0_0 1 (by decide) 0 (by decide)) (by omega) rfl rfl (Nat.le_of_ble_eq_true rfl) (fun h hI fr => ?_)
  replace hF := mFr.tr hF fr
  refine g_ifB_ne (pc := 24) 70 dX11_alms_24 (by decide) (fun c_24 => ?_) (fun c_24 => absurd c_24 (by decide))
  refine g_iconst (pc := 70) (v := 0) dX11_alms_70 (by decide) ?_
  refine g_ireturn (pc := 71) dX11_alms_71 rfl (by first | exact rfl | exact j_nb _) ?_
  rw [refV_thr0] at hI
  exact ⟨rfl, hI, hF⟩
theorem r2_malms (hd : 2 ≤ d) (hI : InvM am V h) (hT : MT V D nS nR nP) (s b n : Int32) (hu : inR s 0 (nI nP - 1) = true) (hv : (inR b 0 (bitI nP - 1) && inR n 0 999) = false) : Ct E d 0 0 mX11_alms [vR (nMo am), vI s, vI b, vI n] h (mQ am (refV V 2 1) h (some (vI 0))) := by
  refine ct_of (by decide) (Nat.le_of_ble_eq_true rfl) rfl ?_
  have hF : mFr h h := mFr.rf
  have hT := MT.f0 (j := 0) (y := 0) hT
  change MT (thr0 V) D nS nR nP at hT
  have b8 := hT.2.2.2.1
  have b10 := hT.2.2.2.2.1
  have bP := hT.2.2.2.2.2.1
  refine g_aload_n (pc := 0) dX11_alms_0 rfl ?_
  refine g_iconst (pc := 1) (v := 0) dX11_alms_1 (by decide) ?_
  refine m_put (pc := 2) hI w_X11_103_11 rfl (by decide) dX11_alms_2 (fun h hI fr => ?_)
  replace hF := mFr.tr hF fr
  change InvM am (thr0 V) h at hI
  refine g_aload_n (pc := 5) dX11_alms_5 rfl ?_
  refine g_aload_n (pc := 6) dX11_alms_6 rfl ?_
  refine g_iload_n (pc := 7) dX11_alms_7 rfl ?_
  refine m_cP (pc := 8) (M' := mX11_isPerson) (as := [_]) i_X11_342_11 eX11_isPerson hI dX11_alms_8 (c_isPerson hI hT (by omega) _) (by omega) rfl rfl (Nat.le_of_ble_eq_true rfl) ?_
  refine g_ifB_ne (pc := 11) 18 dX11_alms_11 (by decide) (fun c_11 => ?_) (fun c_11 => absurd (hu.symm.trans c_11) (by decide))
  refine g_iconst (pc := 18) (v := 0) dX11_alms_18 (by decide) ?_
  refine g_iconst (pc := 19) (v := 1) dX11_alms_19 (by decide) ?_
  refine g_iconst (pc := 20) (v := 0) dX11_alms_20 (by decide) ?_
  refine m_cV (pc := 21) (M' := mX11_bad) (as := [_, _, _]) i_X11_183_11 eX11_bad hI dX11_alms_21 (c_badF hI thr0_0 1 0 (by decide)) (by omega) rfl rfl (Nat.le_of_ble_eq_true rfl) (fun h hI fr => ?_)
  replace hF := mFr.tr hF fr
  refine g_ifB_ne (pc := 24) 70 dX11_alms_24 (by decide) (fun c_24 => absurd c_24 (by decide)) (fun c_24 => ?_)
  refine g_aload_n (pc := 27) dX11_alms_27 rfl ?_
  refine g_iload_n (pc := 28) dX11_alms_28 rfl ?_
  refine g_iconst (pc := 29) (v := 0) dX11_alms_29 (by decide) ?_
  refine g_iconst (pc := 30) (v := 1) dX11_alms_30 (by decide) ?_
  refine g_aload_n (pc := 31) dX11_alms_31 rfl ?_
  refine g_getfield (pc := 32) f_X11_23_11 dX11_alms_32 hI.1 mf_12 ?_
  refine g_iconst (pc := 35) (v := 2) dX11_alms_35 (by decide) ?_
  refine g_iaload (pc := 36) dX11_alms_36 (mA hI 12 3 rfl (by decide)) (j := 2) (by decide) (by omega) (by decide) rfl ?_
  refine g_ishl (pc := 37) dX11_alms_37 ?_
  rw [hT.2.2.1, show (1 : Int32) <<< (nI nP &&& 31) = bitI nP from rfl]
  refine g_iconst (pc := 38) (v := 1) dX11_alms_38 (by decide) ?_
  refine g_isub (pc := 39) dX11_alms_39 ?_
  refine g_cS (pc := 40) (M' := mX11_in) (as := [_, _, _]) i_X11_137 eX11_in dX11_alms_40 (c_in _ _ _) (by omega) rfl rfl (Nat.le_of_ble_eq_true rfl) ?_
  refine g_ifB_eq (pc := 43) 57 dX11_alms_43 (by decide) (fun c_43 => ?_) (fun c_43 => ?_)
  · refine g_iconst (pc := 57) (v := 1) dX11_alms_57 (by decide) ?_
    refine g_goto (pc := 58) 62 dX11_alms_58 (by decide) ?_
    refine g_iconst (pc := 62) (v := 2) dX11_alms_62 (by decide) ?_
    refine g_iconst (pc := 63) (v := 1) dX11_alms_63 (by decide) ?_
    refine m_cV (pc := 64) (M' := mX11_bad) (as := [_, _, _]) i_X11_183_11 eX11_bad hI dX11_alms_64 (c_badT hI thr0_0 2 (by decide) 1 (by decide)) (by omega) rfl rfl (Nat.le_of_ble_eq_true rfl) (fun h hI fr => ?_)
    replace hF := mFr.tr hF fr
    refine g_ifB_eq (pc := 67) 72 dX11_alms_67 (by decide) (fun c_67 => absurd c_67 (by decide)) (fun c_67 => ?_)
    refine g_iconst (pc := 70) (v := 0) dX11_alms_70 (by decide) ?_
    refine g_ireturn (pc := 71) dX11_alms_71 rfl (by first | exact rfl | exact j_nb _) ?_
    rw [refV_thr0] at hI
    exact ⟨rfl, hI, hF⟩
  · refine g_iload_n (pc := 46) dX11_alms_46 rfl ?_
    refine g_iconst (pc := 47) (v := 0) dX11_alms_47 (by decide) ?_
    refine g_sipush (pc := 48) (v := 999) dX11_alms_48 (by decide) ?_
    refine g_cS (pc := 51) (M' := mX11_in) (as := [_, _, _]) i_X11_137 eX11_in dX11_alms_51 (c_in _ _ _) (by omega) rfl rfl (Nat.le_of_ble_eq_true rfl) ?_
    refine g_ifB_ne (pc := 54) 61 dX11_alms_54 (by decide) (fun c_54 => ?_) (fun c_54 => ?_)
    · exfalso
      rw [c_43, c_54] at hv
      cases hv
    · refine g_iconst (pc := 57) (v := 1) dX11_alms_57 (by decide) ?_
      refine g_goto (pc := 58) 62 dX11_alms_58 (by decide) ?_
      refine g_iconst (pc := 62) (v := 2) dX11_alms_62 (by decide) ?_
      refine g_iconst (pc := 63) (v := 1) dX11_alms_63 (by decide) ?_
      refine m_cV (pc := 64) (M' := mX11_bad) (as := [_, _, _]) i_X11_183_11 eX11_bad hI dX11_alms_64 (c_badT hI thr0_0 2 (by decide) 1 (by decide)) (by omega) rfl rfl (Nat.le_of_ble_eq_true rfl) (fun h hI fr => ?_)
      replace hF := mFr.tr hF fr
      refine g_ifB_eq (pc := 67) 72 dX11_alms_67 (by decide) (fun c_67 => absurd c_67 (by decide)) (fun c_67 => ?_)
      refine g_iconst (pc := 70) (v := 0) dX11_alms_70 (by decide) ?_
      refine g_ireturn (pc := 71) dX11_alms_71 rfl (by first | exact rfl | exact j_nb _) ?_
      rw [refV_thr0] at hI
      exact ⟨rfl, hI, hF⟩
set_option maxHeartbeats 1000000 in
theorem c_malms (hd : 9 ≤ d) (hI : InvM am V h) (hT : MT V D nS nR nP) (p : Nat) (b n : Int32) (hp : p < nP) (hv : (inR b 0 (bitI nP - 1) && inR n 0 999) = true) : Ct E d 0 0 mX11_alms [vR (nMo am), vI (nI p), vI b, vI n] h (mQ am (thr0 V) h (some (vI (givF D b (nI (almF D nP b n 99 0)) p)))) := by
  refine ct_of (by decide) (Nat.le_of_ble_eq_true rfl) rfl ?_
  have hF : mFr h h := mFr.rf
  have hT := MT.f0 (j := 0) (y := 0) hT
  change MT (thr0 V) D nS nR nP at hT
  have b8 := hT.2.2.2.1
  have b10 := hT.2.2.2.2.1
  have bP := hT.2.2.2.2.2.1
  have hu := in_of hp (show nP ≤ 1000 by omega)
  have hpp := hT.2.2.2.2.2.2.2.1 p hp
  simp only [Bool.and_eq_true] at hv
  refine g_aload_n (pc := 0) dX11_alms_0 rfl ?_
  refine g_iconst (pc := 1) (v := 0) dX11_alms_1 (by decide) ?_
  refine m_put (pc := 2) hI w_X11_103_11 rfl (by decide) dX11_alms_2 (fun h hI fr => ?_)
  replace hF := mFr.tr hF fr
  change InvM am (thr0 V) h at hI
  refine g_aload_n (pc := 5) dX11_alms_5 rfl ?_
  refine g_aload_n (pc := 6) dX11_alms_6 rfl ?_
  refine g_iload_n (pc := 7) dX11_alms_7 rfl ?_
  refine m_cP (pc := 8) (M' := mX11_isPerson) (as := [_]) i_X11_342_11 eX11_isPerson hI dX11_alms_8 (c_isPerson hI hT (by omega) _) (by omega) rfl rfl (Nat.le_of_ble_eq_true rfl) ?_
  refine g_ifB_ne (pc := 11) 18 dX11_alms_11 (by decide) (fun c_11 => ?_) (fun c_11 => absurd (hu.symm.trans c_11) (by decide))
  refine g_iconst (pc := 18) (v := 0) dX11_alms_18 (by decide) ?_
  refine g_iconst (pc := 19) (v := 1) dX11_alms_19 (by decide) ?_
  refine g_iconst (pc := 20) (v := 0) dX11_alms_20 (by decide) ?_
  refine m_cV (pc := 21) (M' := mX11_bad) (as := [_, _, _]) i_X11_183_11 eX11_bad hI dX11_alms_21 (c_badF hI thr0_0 1 0 (by decide)) (by omega) rfl rfl (Nat.le_of_ble_eq_true rfl) (fun h hI fr => ?_)
  replace hF := mFr.tr hF fr
  refine g_ifB_ne (pc := 24) 70 dX11_alms_24 (by decide) (fun c_24 => absurd c_24 (by decide)) (fun c_24 => ?_)
  refine g_aload_n (pc := 27) dX11_alms_27 rfl ?_
  refine g_iload_n (pc := 28) dX11_alms_28 rfl ?_
  refine g_iconst (pc := 29) (v := 0) dX11_alms_29 (by decide) ?_
  refine g_iconst (pc := 30) (v := 1) dX11_alms_30 (by decide) ?_
  refine g_aload_n (pc := 31) dX11_alms_31 rfl ?_
  refine g_getfield (pc := 32) f_X11_23_11 dX11_alms_32 hI.1 mf_12 ?_
  refine g_iconst (pc := 35) (v := 2) dX11_alms_35 (by decide) ?_
  refine g_iaload (pc := 36) dX11_alms_36 (mA hI 12 3 rfl (by decide)) (j := 2) (by decide) (by omega) (by decide) rfl ?_
  refine g_ishl (pc := 37) dX11_alms_37 ?_
  rw [hT.2.2.1, show (1 : Int32) <<< (nI nP &&& 31) = bitI nP from rfl]
  refine g_iconst (pc := 38) (v := 1) dX11_alms_38 (by decide) ?_
  refine g_isub (pc := 39) dX11_alms_39 ?_
  refine g_cS (pc := 40) (M' := mX11_in) (as := [_, _, _]) i_X11_137 eX11_in dX11_alms_40 (c_in _ _ _) (by omega) rfl rfl (Nat.le_of_ble_eq_true rfl) ?_
  refine g_ifB_eq (pc := 43) 57 dX11_alms_43 (by decide) (fun c_43 => absurd (hv.1.symm.trans c_43) (by decide)) (fun c_43 => ?_)
  refine g_iload_n (pc := 46) dX11_alms_46 rfl ?_
  refine g_iconst (pc := 47) (v := 0) dX11_alms_47 (by decide) ?_
  refine g_sipush (pc := 48) (v := 999) dX11_alms_48 (by decide) ?_
  refine g_cS (pc := 51) (M' := mX11_in) (as := [_, _, _]) i_X11_137 eX11_in dX11_alms_51 (c_in _ _ _) (by omega) rfl rfl (Nat.le_of_ble_eq_true rfl) ?_
  refine g_ifB_ne (pc := 54) 61 dX11_alms_54 (by decide) (fun c_54 => ?_) (fun c_54 => absurd (hv.2.symm.trans c_54) (by decide))
  refine g_iconst (pc := 61) (v := 0) dX11_alms_61 (by decide) ?_
  refine g_iconst (pc := 62) (v := 2) dX11_alms_62 (by decide) ?_
  refine g_iconst (pc := 63) (v := 1) dX11_alms_63 (by decide) ?_
  refine m_cV (pc := 64) (M' := mX11_bad) (as := [_, _, _]) i_X11_183_11 eX11_bad hI dX11_alms_64 (c_badF hI thr0_0 2 1 (by decide)) (by omega) rfl rfl (Nat.le_of_ble_eq_true rfl) (fun h hI fr => ?_)
  replace hF := mFr.tr hF fr
  refine g_ifB_eq (pc := 67) 72 dX11_alms_67 (by decide) (fun c_67 => ?_) (fun c_67 => absurd c_67 (by decide))
  refine g_iconst (pc := 72) (v := 0) dX11_alms_72 (by decide) ?_
  refine g_istore (pc := 73) (ls' := [_, _, _, _, _]) dX11_alms_73 (by decide) rfl rfl ?_
  refine l_alms (by omega) hI hT p b n 99 0 rfl ?_
  refine g_iload_n (pc := 101) dX11_alms_101 rfl ?_
  refine g_iload_n (pc := 102) dX11_alms_102 rfl ?_
  refine g_cS (pc := 103) (M' := mX11_has) (as := [_, _]) i_X11_263 eX11_has dX11_alms_103 (c_has _ _) (by omega) rfl rfl (Nat.le_of_ble_eq_true rfl) ?_
  refine g_ifB_eq (pc := 106) 125 dX11_alms_106 (by decide) (fun c_106 => ?_) (fun c_106 => ?_)
  · refine g_iconst (pc := 125) (v := 0) dX11_alms_125 (by decide) ?_
    refine g_ireturn (pc := 126) dX11_alms_126 rfl (by first | exact rfl | exact j_nb _) ?_
    unfold givF
    first
      | exact ⟨by rw [if_pos c_106], hI, hF⟩
      | exact ⟨by rw [if_neg (by rw [c_106]; decide)], hI, hF⟩
  · refine g_iload (pc := 109) dX11_alms_109 rfl ?_
    refine g_aload_n (pc := 111) dX11_alms_111 rfl ?_
    refine g_getfield (pc := 112) f_X11_49_11 dX11_alms_112 hI.1 mf_20 ?_
    refine g_iload_n (pc := 115) dX11_alms_115 rfl ?_
    refine g_aaload (pc := 116) (t := 5) rfl rfl dX11_alms_116 (mG hI 20 8 rfl (by decide)) rfl (by omega) (by decide) rfl ?_
    refine g_iconst (pc := 117) (v := 1) dX11_alms_117 (by decide) ?_
    refine g_iaload (pc := 118) dX11_alms_118 (mR hI 20 2 _ rfl (by show _ < 8; omega)) (j := 1) (by decide) (by omega) (by decide) rfl ?_
    rw [hpp.2.1]
    refine g_cS (pc := 119) (M' := mX11_less) (as := [_, _]) i_X11_245 eX11_less dX11_alms_119 (c_less _ _) (by omega) rfl rfl (Nat.le_of_ble_eq_true rfl) ?_
    refine g_goto (pc := 122) 126 dX11_alms_122 (by decide) ?_
    refine g_ireturn (pc := 126) dX11_alms_126 rfl (by first | exact rfl | exact j_nb _) ?_
    unfold givF
    first
      | exact ⟨by rw [if_pos c_106], hI, hF⟩
      | exact ⟨by rw [if_neg (by rw [c_106]; decide)], hI, hF⟩
end
