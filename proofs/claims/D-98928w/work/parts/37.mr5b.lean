/-! THE REFERENCE: one of a law; the readers of a law. Printed by m_r5b.py -/
set_option maxRecDepth 100000
section
variable {E : jE} {d : Nat} {h : jH} {am : Nat → Nat} {V : mV} {t : Nat → Nat} {n a o : Nat} {cs : List cd}
set_option maxHeartbeats 1000000 in
theorem l_of80 {bc bs kk pp : Nat} {V0 : mV} {h0 : jH} (hd : 4 ≤ d) (w : Int32) (hI : InvM am V h) (hF : mFr h0 h) (fs : FS t n V0 V kk pp) : G E d bc bs mX11_one 80 [some (vR (nMo am)), some (vI w), none] [] h (lwQ am V0 h0 t n o cs (.inl (kk, pp))) := by
  refine g_aload_n (pc := 80) dX11_one_80 rfl ?_
  refine m_cVv (pc := 81) (M' := mX11_sum) (as := []) i_X11_239_11 eX11_sum hI dX11_one_81 (c_sum1 (by omega) hI fs.ne) (by omega) rfl rfl (Nat.le_of_ble_eq_true rfl) (fun h hI fr => ?_)
  replace hF := mFr.tr hF fr
  refine g_aload_n (pc := 84) dX11_one_84 rfl ?_
  refine g_bipush (pc := 85) (v := 44) dX11_one_85 (by decide) ?_
  refine m_cVv (pc := 87) (M' := mX11_sign) (as := [_]) i_X11_179_11 eX11_sign hI dX11_one_87 (c_sign1 hI fs.ne _) (by omega) rfl rfl (Nat.le_of_ble_eq_true rfl) (fun h hI fr => ?_)
  replace hF := mFr.tr hF fr
  refine g_aload_n (pc := 90) dX11_one_90 rfl ?_
  refine m_cVv (pc := 91) (M' := mX11_sum) (as := []) i_X11_239_11 eX11_sum hI dX11_one_91 (c_sum1 (by omega) hI fs.ne) (by omega) rfl rfl (Nat.le_of_ble_eq_true rfl) (fun h hI fr => ?_)
  replace hF := mFr.tr hF fr
  refine g_aload_n (pc := 94) dX11_one_94 rfl ?_
  refine g_bipush (pc := 95) (v := 93) dX11_one_95 (by decide) ?_
  refine m_cVv (pc := 97) (M' := mX11_sign) (as := [_]) i_X11_179_11 eX11_sign hI dX11_one_97 (c_sign1 hI fs.ne _) (by omega) rfl rfl (Nat.le_of_ble_eq_true rfl) (fun h hI fr => ?_)
  replace hF := mFr.tr hF fr
  refine g_aload_n (pc := 100) dX11_one_100 rfl ?_
  refine g_iload_n (pc := 101) dX11_one_101 rfl ?_
  refine g_iconst (pc := 102) (v := 0) dX11_one_102 (by decide) ?_
  refine m_cVv (pc := 103) (M' := mX11_notes) (as := [_, _]) i_X11_224_11 eX11_notes hI dX11_one_103 (c_notes1 hI fs.ne _ _) (by omega) rfl rfl (Nat.le_of_ble_eq_true rfl) (fun h hI fr => ?_)
  replace hF := mFr.tr hF fr
  refine g_aload_n (pc := 106) dX11_one_106 rfl ?_
  refine g_dup (pc := 107) dX11_one_107 rfl ?_
  refine g_getfield (pc := 108) f_X11_162_11 dX11_one_108 hI.1 mf_8 ?_
  refine g_iconst (pc := 111) (v := 1) dX11_one_111 (by decide) ?_
  refine g_isub (pc := 112) dX11_one_112 ?_
  refine m_put (pc := 113) hI w_X11_162_11 rfl (by decide) dX11_one_113 (fun h hI fr => ?_)
  replace hF := mFr.tr hF fr
  refine g_return (pc := 116) dX11_one_116 rfl ?_
  have fs2 := FS.f0 (j := 8) (y := V 0 8 - 1) fs (Or.inl ⟨rfl, by omega⟩) (by decide)
  exact ⟨rfl, _, hI, hF, fs2.2.2.2.1, fs2.1, fs2.2.1, fs2.2.2.1, fs2.2.2.2.2⟩
set_option maxHeartbeats 1000000 in
theorem l_of84 {bc bs kk pp : Nat} {V0 : mV} {h0 : jH} (hd : 4 ≤ d) (w : Int32) (hI : InvM am V h) (hF : mFr h0 h) (fs : FS t n V0 V kk pp) : G E d bc bs mX11_one 84 [some (vR (nMo am)), some (vI w), none] [] h (lwQ am V0 h0 t n o cs (.inl (kk, pp))) := by
  refine g_aload_n (pc := 84) dX11_one_84 rfl ?_
  refine g_bipush (pc := 85) (v := 44) dX11_one_85 (by decide) ?_
  refine m_cVv (pc := 87) (M' := mX11_sign) (as := [_]) i_X11_179_11 eX11_sign hI dX11_one_87 (c_sign1 hI fs.ne _) (by omega) rfl rfl (Nat.le_of_ble_eq_true rfl) (fun h hI fr => ?_)
  replace hF := mFr.tr hF fr
  refine g_aload_n (pc := 90) dX11_one_90 rfl ?_
  refine m_cVv (pc := 91) (M' := mX11_sum) (as := []) i_X11_239_11 eX11_sum hI dX11_one_91 (c_sum1 (by omega) hI fs.ne) (by omega) rfl rfl (Nat.le_of_ble_eq_true rfl) (fun h hI fr => ?_)
  replace hF := mFr.tr hF fr
  refine g_aload_n (pc := 94) dX11_one_94 rfl ?_
  refine g_bipush (pc := 95) (v := 93) dX11_one_95 (by decide) ?_
  refine m_cVv (pc := 97) (M' := mX11_sign) (as := [_]) i_X11_179_11 eX11_sign hI dX11_one_97 (c_sign1 hI fs.ne _) (by omega) rfl rfl (Nat.le_of_ble_eq_true rfl) (fun h hI fr => ?_)
  replace hF := mFr.tr hF fr
  refine g_aload_n (pc := 100) dX11_one_100 rfl ?_
  refine g_iload_n (pc := 101) dX11_one_101 rfl ?_
  refine g_iconst (pc := 102) (v := 0) dX11_one_102 (by decide) ?_
  refine m_cVv (pc := 103) (M' := mX11_notes) (as := [_, _]) i_X11_224_11 eX11_notes hI dX11_one_103 (c_notes1 hI fs.ne _ _) (by omega) rfl rfl (Nat.le_of_ble_eq_true rfl) (fun h hI fr => ?_)
  replace hF := mFr.tr hF fr
  refine g_aload_n (pc := 106) dX11_one_106 rfl ?_
  refine g_dup (pc := 107) dX11_one_107 rfl ?_
  refine g_getfield (pc := 108) f_X11_162_11 dX11_one_108 hI.1 mf_8 ?_
  refine g_iconst (pc := 111) (v := 1) dX11_one_111 (by decide) ?_
  refine g_isub (pc := 112) dX11_one_112 ?_
  refine m_put (pc := 113) hI w_X11_162_11 rfl (by decide) dX11_one_113 (fun h hI fr => ?_)
  replace hF := mFr.tr hF fr
  refine g_return (pc := 116) dX11_one_116 rfl ?_
  have fs2 := FS.f0 (j := 8) (y := V 0 8 - 1) fs (Or.inl ⟨rfl, by omega⟩) (by decide)
  exact ⟨rfl, _, hI, hF, fs2.2.2.2.1, fs2.1, fs2.2.1, fs2.2.2.1, fs2.2.2.2.2⟩
set_option maxHeartbeats 1000000 in
theorem l_of90 {bc bs kk pp : Nat} {V0 : mV} {h0 : jH} (hd : 4 ≤ d) (w : Int32) (hI : InvM am V h) (hF : mFr h0 h) (fs : FS t n V0 V kk pp) : G E d bc bs mX11_one 90 [some (vR (nMo am)), some (vI w), none] [] h (lwQ am V0 h0 t n o cs (.inl (kk, pp))) := by
  refine g_aload_n (pc := 90) dX11_one_90 rfl ?_
  refine m_cVv (pc := 91) (M' := mX11_sum) (as := []) i_X11_239_11 eX11_sum hI dX11_one_91 (c_sum1 (by omega) hI fs.ne) (by omega) rfl rfl (Nat.le_of_ble_eq_true rfl) (fun h hI fr => ?_)
  replace hF := mFr.tr hF fr
  refine g_aload_n (pc := 94) dX11_one_94 rfl ?_
  refine g_bipush (pc := 95) (v := 93) dX11_one_95 (by decide) ?_
  refine m_cVv (pc := 97) (M' := mX11_sign) (as := [_]) i_X11_179_11 eX11_sign hI dX11_one_97 (c_sign1 hI fs.ne _) (by omega) rfl rfl (Nat.le_of_ble_eq_true rfl) (fun h hI fr => ?_)
  replace hF := mFr.tr hF fr
  refine g_aload_n (pc := 100) dX11_one_100 rfl ?_
  refine g_iload_n (pc := 101) dX11_one_101 rfl ?_
  refine g_iconst (pc := 102) (v := 0) dX11_one_102 (by decide) ?_
  refine m_cVv (pc := 103) (M' := mX11_notes) (as := [_, _]) i_X11_224_11 eX11_notes hI dX11_one_103 (c_notes1 hI fs.ne _ _) (by omega) rfl rfl (Nat.le_of_ble_eq_true rfl) (fun h hI fr => ?_)
  replace hF := mFr.tr hF fr
  refine g_aload_n (pc := 106) dX11_one_106 rfl ?_
  refine g_dup (pc := 107) dX11_one_107 rfl ?_
  refine g_getfield (pc := 108) f_X11_162_11 dX11_one_108 hI.1 mf_8 ?_
  refine g_iconst (pc := 111) (v := 1) dX11_one_111 (by decide) ?_
  refine g_isub (pc := 112) dX11_one_112 ?_
  refine m_put (pc := 113) hI w_X11_162_11 rfl (by decide) dX11_one_113 (fun h hI fr => ?_)
  replace hF := mFr.tr hF fr
  refine g_return (pc := 116) dX11_one_116 rfl ?_
  have fs2 := FS.f0 (j := 8) (y := V 0 8 - 1) fs (Or.inl ⟨rfl, by omega⟩) (by decide)
  exact ⟨rfl, _, hI, hF, fs2.2.2.2.1, fs2.1, fs2.2.1, fs2.2.2.1, fs2.2.2.2.2⟩
set_option maxHeartbeats 1000000 in
theorem l_of94 {bc bs kk pp : Nat} {V0 : mV} {h0 : jH} (hd : 4 ≤ d) (w : Int32) (hI : InvM am V h) (hF : mFr h0 h) (fs : FS t n V0 V kk pp) : G E d bc bs mX11_one 94 [some (vR (nMo am)), some (vI w), none] [] h (lwQ am V0 h0 t n o cs (.inl (kk, pp))) := by
  refine g_aload_n (pc := 94) dX11_one_94 rfl ?_
  refine g_bipush (pc := 95) (v := 93) dX11_one_95 (by decide) ?_
  refine m_cVv (pc := 97) (M' := mX11_sign) (as := [_]) i_X11_179_11 eX11_sign hI dX11_one_97 (c_sign1 hI fs.ne _) (by omega) rfl rfl (Nat.le_of_ble_eq_true rfl) (fun h hI fr => ?_)
  replace hF := mFr.tr hF fr
  refine g_aload_n (pc := 100) dX11_one_100 rfl ?_
  refine g_iload_n (pc := 101) dX11_one_101 rfl ?_
  refine g_iconst (pc := 102) (v := 0) dX11_one_102 (by decide) ?_
  refine m_cVv (pc := 103) (M' := mX11_notes) (as := [_, _]) i_X11_224_11 eX11_notes hI dX11_one_103 (c_notes1 hI fs.ne _ _) (by omega) rfl rfl (Nat.le_of_ble_eq_true rfl) (fun h hI fr => ?_)
  replace hF := mFr.tr hF fr
  refine g_aload_n (pc := 106) dX11_one_106 rfl ?_
  refine g_dup (pc := 107) dX11_one_107 rfl ?_
  refine g_getfield (pc := 108) f_X11_162_11 dX11_one_108 hI.1 mf_8 ?_
  refine g_iconst (pc := 111) (v := 1) dX11_one_111 (by decide) ?_
  refine g_isub (pc := 112) dX11_one_112 ?_
  refine m_put (pc := 113) hI w_X11_162_11 rfl (by decide) dX11_one_113 (fun h hI fr => ?_)
  replace hF := mFr.tr hF fr
  refine g_return (pc := 116) dX11_one_116 rfl ?_
  have fs2 := FS.f0 (j := 8) (y := V 0 8 - 1) fs (Or.inl ⟨rfl, by omega⟩) (by decide)
  exact ⟨rfl, _, hI, hF, fs2.2.2.2.1, fs2.1, fs2.2.1, fs2.2.2.1, fs2.2.2.2.2⟩
set_option maxHeartbeats 1000000 in
theorem l_of100 {bc bs kk pp : Nat} {V0 : mV} {h0 : jH} (hd : 4 ≤ d) (w : Int32) (hI : InvM am V h) (hF : mFr h0 h) (fs : FS t n V0 V kk pp) : G E d bc bs mX11_one 100 [some (vR (nMo am)), some (vI w), none] [] h (lwQ am V0 h0 t n o cs (.inl (kk, pp))) := by
  refine g_aload_n (pc := 100) dX11_one_100 rfl ?_
  refine g_iload_n (pc := 101) dX11_one_101 rfl ?_
  refine g_iconst (pc := 102) (v := 0) dX11_one_102 (by decide) ?_
  refine m_cVv (pc := 103) (M' := mX11_notes) (as := [_, _]) i_X11_224_11 eX11_notes hI dX11_one_103 (c_notes1 hI fs.ne _ _) (by omega) rfl rfl (Nat.le_of_ble_eq_true rfl) (fun h hI fr => ?_)
  replace hF := mFr.tr hF fr
  refine g_aload_n (pc := 106) dX11_one_106 rfl ?_
  refine g_dup (pc := 107) dX11_one_107 rfl ?_
  refine g_getfield (pc := 108) f_X11_162_11 dX11_one_108 hI.1 mf_8 ?_
  refine g_iconst (pc := 111) (v := 1) dX11_one_111 (by decide) ?_
  refine g_isub (pc := 112) dX11_one_112 ?_
  refine m_put (pc := 113) hI w_X11_162_11 rfl (by decide) dX11_one_113 (fun h hI fr => ?_)
  replace hF := mFr.tr hF fr
  refine g_return (pc := 116) dX11_one_116 rfl ?_
  have fs2 := FS.f0 (j := 8) (y := V 0 8 - 1) fs (Or.inl ⟨rfl, by omega⟩) (by decide)
  exact ⟨rfl, _, hI, hF, fs2.2.2.2.1, fs2.1, fs2.2.1, fs2.2.2.1, fs2.2.2.2.2⟩
set_option maxHeartbeats 1000000 in
theorem l_of152 {bc bs kk pp : Nat} {V0 : mV} {h0 : jH} (hd : 4 ≤ d) (w : Int32) (hI : InvM am V h) (hF : mFr h0 h) (fs : FS t n V0 V kk pp) : G E d bc bs mX11_one 152 [some (vR (nMo am)), some (vI w), none] [] h (lwQ am V0 h0 t n o cs (.inl (kk, pp))) := by
  refine g_aload_n (pc := 152) dX11_one_152 rfl ?_
  refine g_bipush (pc := 153) (v := 41) dX11_one_153 (by decide) ?_
  refine m_cVv (pc := 155) (M' := mX11_sign) (as := [_]) i_X11_179_11 eX11_sign hI dX11_one_155 (c_sign1 hI fs.ne _) (by omega) rfl rfl (Nat.le_of_ble_eq_true rfl) (fun h hI fr => ?_)
  replace hF := mFr.tr hF fr
  refine g_aload_n (pc := 158) dX11_one_158 rfl ?_
  refine g_dup (pc := 159) dX11_one_159 rfl ?_
  refine g_getfield (pc := 160) f_X11_162_11 dX11_one_160 hI.1 mf_8 ?_
  refine g_iconst (pc := 163) (v := 1) dX11_one_163 (by decide) ?_
  refine g_isub (pc := 164) dX11_one_164 ?_
  refine m_put (pc := 165) hI w_X11_162_11 rfl (by decide) dX11_one_165 (fun h hI fr => ?_)
  replace hF := mFr.tr hF fr
  refine g_return (pc := 168) dX11_one_168 rfl ?_
  have fs2 := FS.f0 (j := 8) (y := V 0 8 - 1) fs (Or.inl ⟨rfl, by omega⟩) (by decide)
  exact ⟨rfl, _, hI, hF, fs2.2.2.2.1, fs2.1, fs2.2.1, fs2.2.2.1, fs2.2.2.2.2⟩
set_option maxHeartbeats 1000000 in
theorem l_of158 {bc bs kk pp : Nat} {V0 : mV} {h0 : jH} (hd : 4 ≤ d) (w : Int32) (hI : InvM am V h) (hF : mFr h0 h) (fs : FS t n V0 V kk pp) : G E d bc bs mX11_one 158 [some (vR (nMo am)), some (vI w), none] [] h (lwQ am V0 h0 t n o cs (.inl (kk, pp))) := by
  refine g_aload_n (pc := 158) dX11_one_158 rfl ?_
  refine g_dup (pc := 159) dX11_one_159 rfl ?_
  refine g_getfield (pc := 160) f_X11_162_11 dX11_one_160 hI.1 mf_8 ?_
  refine g_iconst (pc := 163) (v := 1) dX11_one_163 (by decide) ?_
  refine g_isub (pc := 164) dX11_one_164 ?_
  refine m_put (pc := 165) hI w_X11_162_11 rfl (by decide) dX11_one_165 (fun h hI fr => ?_)
  replace hF := mFr.tr hF fr
  refine g_return (pc := 168) dX11_one_168 rfl ?_
  have fs2 := FS.f0 (j := 8) (y := V 0 8 - 1) fs (Or.inl ⟨rfl, by omega⟩) (by decide)
  exact ⟨rfl, _, hI, hF, fs2.2.2.2.1, fs2.1, fs2.2.1, fs2.2.2.1, fs2.2.2.2.2⟩
set_option maxHeartbeats 8000000 in
theorem lw_one {m : Nat} (ih : LWa E am t n m) (hI : InvM am V h) (hs : lwS V t n a o cs) (hm : 5 * (n - a) + 1 ≤ m + 1) (hd : 3 * (6 - o) + 12 ≤ d) : Ct E d 0 0 mX11_one [vR (nMo am)] h (lwQ am V h t n o cs (lw t n (m + 1) 2 o a [])) := by
  refine ct_of (by decide) (Nat.le_of_ble_eq_true rfl) rfl ?_
  obtain ⟨h0, hh0⟩ : ∃ h0, h0 = h := ⟨h, rfl⟩
  have hF : mFr h0 h := by rw [hh0]; exact mFr.rf
  rw [show lwQ am V h t n o cs = lwQ am V h0 t n o cs by rw [hh0]]
  have hb := bl_le (t := t) hs.1.2.2.2.2
  have hs1 := hs.at hb.1 hb.2
  have hwl := wl_le (t := t) (n := n) (a := bl t n a)
  have hcl0 := hs.2.2.2.2.1
  have hn150 := hs.2.2.2.2.2.1
  have ho6 := hs.2.2.2.2.2.2
  refine g_aload_n (pc := 0) dX11_one_0 rfl ?_
  refine g_getfield (pc := 1) f_X11_119_11 dX11_one_1 hI.1 mf_5 ?_
  refine g_if_eq (pc := 4) 8 dX11_one_4 (by decide) (fun c_4 => ?_) (fun c_4 => absurd hs.2.1 c_4)
  refine g_aload_n (pc := 8) dX11_one_8 rfl ?_
  refine m_cVv (pc := 9) (M' := mX11_blanks) (as := []) i_X11_125_11 eX11_blanks hI dX11_one_9 (cP_blanks (by omega) hI hs.1) (by omega) rfl rfl (Nat.le_of_ble_eq_true rfl) (fun h hI fr => ?_)
  replace hF := mFr.tr hF fr
  refine g_aload_n (pc := 12) dX11_one_12 rfl ?_
  refine g_bipush (pc := 13) (v := 12) dX11_one_13 (by decide) ?_
  refine g_iconst (pc := 15) (v := 5) dX11_one_15 (by decide) ?_
  refine g_iconst (pc := 16) (v := 1) dX11_one_16 (by decide) ?_
  refine g_bipush (pc := 17) (v := 19) dX11_one_17 (by decide) ?_
  refine g_bipush (pc := 19) (v := 20) dX11_one_19 (by decide) ?_
  refine g_iconst (pc := 21) (v := 0) dX11_one_21 (by decide) ?_
  refine m_cV (pc := 22) (M' := mX11_isWord) (as := [_, _, _, _, _, _]) i_X11_152_11 eX11_isWord hI dX11_one_22 (c_w_least (by omega) hI hs1.1 hs1.2.1) (by omega) rfl rfl (Nat.le_of_ble_eq_true rfl) (fun h hI fr => ?_)
  replace hF := mFr.tr hF fr
  rw [bl_bl, sv_sv] at hI
  rw [bl_bl]
  refine g_ifB_eq (pc := 25) 33 dX11_one_25 (by decide) (fun c_25 => ?_) (fun c_25 => ?_)
  · refine g_aload_n (pc := 33) dX11_one_33 rfl ?_
    refine g_bipush (pc := 34) (v := 13) dX11_one_34 (by decide) ?_
    refine g_bipush (pc := 36) (v := 15) dX11_one_36 (by decide) ?_
    refine g_bipush (pc := 38) (v := 19) dX11_one_38 (by decide) ?_
    refine g_bipush (pc := 40) (v := 20) dX11_one_40 (by decide) ?_
    refine g_iconst (pc := 42) (v := 0) dX11_one_42 (by decide) ?_
    refine g_iconst (pc := 43) (v := 0) dX11_one_43 (by decide) ?_
    refine m_cV (pc := 44) (M' := mX11_isWord) (as := [_, _, _, _, _, _]) i_X11_152_11 eX11_isWord hI dX11_one_44 (c_w_most (by omega) hI hs1.1 hs1.2.1) (by omega) rfl rfl (Nat.le_of_ble_eq_true rfl) (fun h hI fr => ?_)
    replace hF := mFr.tr hF fr
    rw [bl_bl, sv_sv] at hI
    rw [bl_bl]
    refine g_ifB_eq (pc := 47) 55 dX11_one_47 (by decide) (fun c_47 => ?_) (fun c_47 => ?_)
    · refine g_iconst (pc := 55) (v := -1) dX11_one_55 (by decide) ?_
      refine g_istore_n (pc := 56) (ls' := [_, _, _]) dX11_one_56 (by decide) rfl rfl ?_
      refine g_iload_n (pc := 57) dX11_one_57 rfl ?_
      refine g_iconst (pc := 58) (v := -1) dX11_one_58 (by decide) ?_
      refine g_icmp_eq (pc := 59) 117 dX11_one_59 (by decide) (fun c_59 => ?_) (fun c_59 => ?_)
      · have hlm : lmN t n (bl t n a) = 0 := by
          unfold lmN
          rw [if_neg (show ¬ wdB t n (bl t n a) W_least = true by rw [c_25]; decide), if_neg (show ¬ wdB t n (bl t n a) W_most = true by rw [c_47]; decide)]
        refine g_aload_n (pc := 117) dX11_one_117 rfl ?_
        refine g_aload_n (pc := 118) dX11_one_118 rfl ?_
        refine g_getfield (pc := 119) f_X11_112_11 dX11_one_119 hI.1 mf_4 ?_
        rw [hs1.1.2.2.2.1]
        refine m_cP (pc := 122) (M' := mX11_byteAt) (as := [_]) i_X11_115_11 eX11_byteAt hI dX11_one_122 (cP_byteAt hI hs1.1 (by have := hs1.1.2.2; omega)) (by omega) rfl rfl (Nat.le_of_ble_eq_true rfl) ?_
        refine g_bipush (pc := 125) (v := 40) dX11_one_125 (by decide) ?_
        refine g_icmp_ne (pc := 127) 169 dX11_one_127 (by decide) (fun c_127 => ?_) (fun c_127 => ?_)
        · refine g_aload_n (pc := 169) dX11_one_169 rfl ?_
          refine m_cV (pc := 170) (M' := mX11_knownHere) (as := []) i_X11_242_11 eX11_knownHere hI dX11_one_170 (c_knownHere (by omega) hI hs1.1 hs1.2.1 bl_bl) (by omega) rfl rfl (Nat.le_of_ble_eq_true rfl) (fun h hI fr => ?_)
          replace hF := mFr.tr hF fr
          refine g_istore_n (pc := 173) (ls' := [_, _, _]) dX11_one_173 (by decide) rfl rfl ?_
          by_cases hk : knN t n (bl t n a) < 8
          · have hkp := kn_pos hk
            rw [if_pos hk] at hI
            rw [show knI (knN t n (bl t n a)) = nI (knN t n (bl t n a)) from if_pos hk]
            have elw : lw t n (m + 1) 2 o a [] = .inr (bl t n a + wl t n (bl t n a), [(1, nI (knN t n (bl t n a)))]) := by
              show (if _ then _ else _) = _
              rw [if_neg (by decide), if_pos rfl, if_neg (fun w => w hlm), if_neg c_127, if_pos hk]
            rw [elw]
            have hs2 := hs1.at (b := bl t n a + wl t n (bl t n a)) (by omega) (by omega)
            have hs3 := noV_lwS (w := 1) (v := nI (knN t n (bl t n a))) hs2 (by omega)
            refine g_iload_n (pc := 174) dX11_one_174 rfl ?_
            refine g_iconst (pc := 175) (v := -1) dX11_one_175 (by decide) ?_
            refine g_icmp_eq (pc := 176) 188 dX11_one_176 (by decide) (fun c_176 => absurd c_176 (fun e => by have := congrArg Int32.toInt e; rw [nI_toInt (by omega)] at this; have h1 : (-1 : Int32).toInt = -1 := (by decide); omega)) (fun c_176 => ?_)
            refine g_aload_n (pc := 179) dX11_one_179 rfl ?_
            refine g_iconst (pc := 180) (v := 1) dX11_one_180 (by decide) ?_
            refine g_iload_n (pc := 181) dX11_one_181 rfl ?_
            refine m_cVv (pc := 182) (M' := mX11_notes) (as := [_, _]) i_X11_224_11 eX11_notes hI dX11_one_182 (c_notes hI hs2 _ _) (by omega) rfl rfl (Nat.le_of_ble_eq_true rfl) (fun h hI fr => ?_)
            replace hF := mFr.tr hF fr
            refine g_goto (pc := 185) 201 dX11_one_185 (by decide) ?_
            refine g_return (pc := 201) dX11_one_201 rfl ?_
            exact ⟨rfl, _, hI, hF, noV_rd (rdE.rf.a4.a4) (by omega), hs3.2.1, hs3.1, hs3.2.2.1, hs3.2.2.2.1⟩
          · rw [if_neg hk, sv_sv] at hI
            rw [show knI (knN t n (bl t n a)) = -1 from if_neg hk]
            have elw : lw t n (m + 1) 2 o a [] = pB (nuP t n 0 999 (bl t n a)) fun p v => .inr (p, [(0, nI v)]) := by
              show (if _ then _ else _) = _
              rw [if_neg (by decide), if_pos rfl, if_neg (fun w => w hlm), if_neg c_127, if_neg hk]
            rw [elw]
            refine g_iload_n (pc := 174) dX11_one_174 rfl ?_
            refine g_iconst (pc := 175) (v := -1) dX11_one_175 (by decide) ?_
            refine g_icmp_eq (pc := 176) 188 dX11_one_176 (by decide) (fun c_176 => ?_) (fun c_176 => absurd rfl c_176)
            refine g_aload_n (pc := 188) dX11_one_188 rfl ?_
            refine g_iconst (pc := 189) (v := 0) dX11_one_189 (by decide) ?_
            refine g_aload_n (pc := 190) dX11_one_190 rfl ?_
            refine g_iconst (pc := 191) (v := 0) dX11_one_191 (by decide) ?_
            refine g_sipush (pc := 192) (v := 999) dX11_one_192 (by decide) ?_
            refine m_cV (pc := 195) (M' := mX11_number) (as := [_, _]) i_X11_175_11 eX11_number hI dX11_one_195 (c_number (by omega) hI hs1.1 hs1.2.1 _ _) (by omega) rfl rfl (Nat.le_of_ble_eq_true rfl) (fun h hI fr => ?_)
            replace hF := mFr.tr hF fr
            refine num_cases (V0 := V) (lo := 0) (hi := 999) hs1.1.2.2.2.2 hs1.1 hs1.2.1 rdE.rf.a4 (fun kk pp ex0 fs ez => ?_) (fun p v ex0 ev ez hv hin hpn hp2 rd2 hf2 => ?_)
            · rw [ez, ex0]
              refine m_cVv (pc := 198) (M' := mX11_notes) (as := [_, _]) i_X11_224_11 eX11_notes hI dX11_one_198 (c_notes1 hI fs.ne _ _) (by omega) rfl rfl (Nat.le_of_ble_eq_true rfl) (fun h hI fr => ?_)
              replace hF := mFr.tr hF fr
              refine g_return (pc := 201) dX11_one_201 rfl ?_
              exact ⟨rfl, _, hI, hF, fs.2.2.2.1, fs.1, fs.2.1, fs.2.2.1, fs.2.2.2.2⟩
            · rw [ez, ex0]
              rw [ev] at hI
              have hlt := nuP_lt hs1.1.2.2.2.2 ex0
              have hs2 := hs1.at (b := p) (by omega) hpn
              have hs3 := noV_lwS (w := 0) (v := nI v) hs2 (by omega)
              refine m_cVv (pc := 198) (M' := mX11_notes) (as := [_, _]) i_X11_224_11 eX11_notes hI dX11_one_198 (c_notes hI hs2 _ _) (by omega) rfl rfl (Nat.le_of_ble_eq_true rfl) (fun h hI fr => ?_)
              replace hF := mFr.tr hF fr
              refine g_return (pc := 201) dX11_one_201 rfl ?_
              exact ⟨rfl, _, hI, hF, noV_rd rd2 (by omega), hs3.2.1, hs3.1, hs3.2.2.1, hs3.2.2.2.1⟩
        · have hcl := hs.2.2.2.2.1
          have hlt : bl t n a < n := by
            have q := c_127
            unfold bN at q
            by_cases w : bl t n a < n
            · exact w
            · rw [if_neg w] at q; exact absurd q (by decide)
          by_cases ho : o = 6
          · have elw : lw t n (m + 1) 2 o a [] = .inl (3, bl t n a) := by
              show (if _ then _ else _) = _
              rw [if_neg (by decide), if_pos rfl, if_neg (fun w => w hlm), if_pos c_127, if_pos ho]
            rw [elw]
            refine g_aload_n (pc := 130) dX11_one_130 rfl ?_
            refine m_cV (pc := 131) (M' := mX11_opensOne) (as := []) i_X11_236_11 eX11_opensOne hI dX11_one_131 (c_opens6 (a := bl t n a) (by omega) hI hs1.2.1 (by rw [hs1.2.2.1, ho]; rfl) hs1.1.2.2.2.1) (by omega) rfl rfl (Nat.le_of_ble_eq_true rfl) (fun h hI fr => ?_)
            replace hF := mFr.tr hF fr
            refine g_ifB_ne (pc := 134) 138 dX11_one_134 (by decide) (fun c_134 => absurd c_134 (by decide)) (fun c_134 => ?_)
            refine g_return (pc := 137) dX11_one_137 rfl ?_
            exact ⟨rfl, _, hI, hF, rdE.rf.a4.a5.a6, by rw [sv_nj (by decide), sv_same]; rfl, sv_same, ⟨Nat.le_of_ble_eq_true rfl, Nat.le_of_ble_eq_true rfl⟩, _, (hs1.1.out (by decide) (fun _ => by decide)).out (by decide) (fun _ => by decide)⟩
          · have elw : lw t n (m + 1) 2 o a [] = pB (lw t n m 0 (o + 1) (bl t n a + 1) []) fun p c => pB (sgP t n 41 p) fun p _ => .inr (p, c) := by
              show (if _ then _ else _) = _
              rw [if_neg (by decide), if_pos rfl, if_neg (fun w => w hlm), if_pos c_127, if_neg ho]
            rw [elw]
            refine g_aload_n (pc := 130) dX11_one_130 rfl ?_
            refine m_cV (pc := 131) (M' := mX11_opensOne) (as := []) i_X11_236_11 eX11_opensOne hI dX11_one_131 (c_opens (o := o) hI hs1.2.1 hs1.2.2.1 (by omega)) (by omega) rfl rfl (Nat.le_of_ble_eq_true rfl) (fun h hI fr => ?_)
            replace hF := mFr.tr hF fr
            have hs2 := hs1.op (o' := o + 1) (by omega)
            refine g_ifB_ne (pc := 134) 138 dX11_one_134 (by decide) (fun c_134 => ?_) (fun c_134 => absurd c_134 (by decide))
            refine g_aload_n (pc := 138) dX11_one_138 rfl ?_
            refine g_dup (pc := 139) dX11_one_139 rfl ?_
            refine g_getfield (pc := 140) f_X11_112_11 dX11_one_140 hI.1 mf_4 ?_
            rw [hs2.1.2.2.2.1]
            refine g_iconst (pc := 143) (v := 1) dX11_one_143 (by decide) ?_
            refine g_iadd (pc := 144) dX11_one_144 ?_
            rw [nI_1]
            refine m_put (pc := 145) hI w_X11_112_11 rfl (by decide) dX11_one_145 (fun h hI fr => ?_)
            replace hF := mFr.tr hF fr
            have hs3 := hs2.at (b := (bl t n a + 1)) (by omega) (by omega)
            have rd3 : rdE V (sv (sv (sv V 0 4 (nI (bl t n a))) 0 8 (nI (o + 1))) 0 4 (nI (bl t n a + 1))) := rdE.rf.a4.a8.a4
            refine g_aload_n (pc := 148) dX11_one_148 rfl ?_
            refine m_cX (pc := 149) (M' := mX11_sum) (as := []) i_X11_239_11 eX11_sum hI dX11_one_149 (((ih (d - 1) _ h (o + 1) (bl t n a + 1) cs hI hs3).1 (by omega) (by omega))) (by omega) rfl rfl (Nat.le_of_ble_eq_true rfl) (fun r9 h9 q9 => ?_)
            obtain ⟨rfl, V4, hI, fr, rd_V4, q9⟩ := q9
            refine ⟨none, rfl, ?_⟩
            replace hF := mFr.tr hF fr
            cases e2 : lw t n m 0 (o + 1) (bl t n a + 1) [] with
            | inl e =>
              rw [e2] at q9
              obtain ⟨f5, f6, fk, fp⟩ := q9
              have fs : FS t n V V4 e.1 e.2 := ⟨f5, f6, fk, rd3.tr rd_V4, fp⟩
              exact l_of152 (by omega) _ hI hF fs
            | inr q =>
              obtain ⟨Pe2, Ce2⟩ := q
              rw [e2] at q9
              obtain ⟨f5, fp, f8, fl⟩ := q9
              obtain ⟨G1, G2, -⟩ := lw_ok m 0 (o + 1) (bl t n a + 1) [] Pe2 Ce2 (by omega) (by omega) e2
              have Ge2 := G2 (by omega)
              have hs_e2 : lwS V4 t n Pe2 (o + 1) (cs ++ Ce2) := ⟨fp, f5, f8, fl, by simp at *; omega, hs.2.2.2.2.2.1, by omega⟩
              change G _ _ _ _ _ _ _ _ _ (lwQ am V h0 t n o cs (pB (sgP t n 41 Pe2) fun p _ => .inr (p, Ce2)))
              refine g_aload_n (pc := 152) dX11_one_152 rfl ?_
              refine g_bipush (pc := 153) (v := 41) dX11_one_153 (by decide) ?_
              refine m_cVv (pc := 155) (M' := mX11_sign) (as := [_]) i_X11_179_11 eX11_sign hI dX11_one_155 (c_sign (by omega) hI hs_e2.1 hs_e2.2.1 41) (by omega) rfl rfl (Nat.le_of_ble_eq_true rfl) (fun h hI fr => ?_)
              replace hF := mFr.tr hF fr
              refine sg_cases (c := 41) (by decide) hs_e2 (rd3.tr rd_V4) (fun e3 ny fs => ?_) (fun e3 y hs_e3 rd_e3 => ?_)
              · rw [if_neg ny] at hI
                rw [e3]
                exact l_of158 (by omega) _ hI hF fs
              · rw [if_pos y] at hI
                rw [e3]
                change G _ _ _ _ _ _ _ _ _ (lwQ am V h0 t n o cs (.inr (bl t n Pe2 + 1, Ce2)))
                refine g_aload_n (pc := 158) dX11_one_158 rfl ?_
                refine g_dup (pc := 159) dX11_one_159 rfl ?_
                refine g_getfield (pc := 160) f_X11_162_11 dX11_one_160 hI.1 mf_8 ?_
                rw [hs_e3.2.2.1]
                refine g_iconst (pc := 163) (v := 1) dX11_one_163 (by decide) ?_
                refine g_isub (pc := 164) dX11_one_164 ?_
                rw [nI_pred]
                refine m_put (pc := 165) hI w_X11_162_11 rfl (by decide) dX11_one_165 (fun h hI fr => ?_)
                replace hF := mFr.tr hF fr
                refine g_return (pc := 168) dX11_one_168 rfl ?_
                have hs10 := hs_e3.op (o' := o) hs.2.2.2.2.2.2
                exact ⟨rfl, _, hI, hF, rd_e3.a8, hs10.2.1, hs10.1, hs10.2.2.1, hs10.2.2.2.1⟩
      · exact absurd rfl c_59
    · refine g_bipush (pc := 50) (v := 8) dX11_one_50 (by decide) ?_
      refine g_goto (pc := 52) 56 dX11_one_52 (by decide) ?_
      refine g_istore_n (pc := 56) (ls' := [_, _, _]) dX11_one_56 (by decide) rfl rfl ?_
      refine g_iload_n (pc := 57) dX11_one_57 rfl ?_
      refine g_iconst (pc := 58) (v := -1) dX11_one_58 (by decide) ?_
      refine g_icmp_eq (pc := 59) 117 dX11_one_59 (by decide) (fun c_59 => ?_) (fun c_59 => ?_)
      · exact absurd c_59 (by decide)
      · have hlm : lmN t n (bl t n a) = 8 := by
          unfold lmN
          rw [if_neg (show ¬ wdB t n (bl t n a) W_least = true by rw [c_25]; decide), if_pos c_47]
        have hlp := lm_pos (t := t) (n := n) (a := bl t n a) (by rw [hlm]; decide)
        have hcl := hs.2.2.2.2.1
        by_cases ho : o = 6
        · have elw : lw t n (m + 1) 2 o a [] = .inl (3, bl t n a) := by
            show (if _ then _ else _) = _
            rw [if_neg (by decide), if_pos rfl, if_pos (by rw [hlm]; decide), if_pos ho]
          rw [elw]
          refine g_aload_n (pc := 62) dX11_one_62 rfl ?_
          refine m_cV (pc := 63) (M' := mX11_opensOne) (as := []) i_X11_236_11 eX11_opensOne hI dX11_one_63 (c_opens6 (a := bl t n a) (by omega) hI hs1.2.1 (by rw [hs1.2.2.1, ho]; rfl) hs1.1.2.2.2.1) (by omega) rfl rfl (Nat.le_of_ble_eq_true rfl) (fun h hI fr => ?_)
          replace hF := mFr.tr hF fr
          refine g_ifB_ne (pc := 66) 70 dX11_one_66 (by decide) (fun c_66 => absurd c_66 (by decide)) (fun c_66 => ?_)
          refine g_return (pc := 69) dX11_one_69 rfl ?_
          exact ⟨rfl, _, hI, hF, rdE.rf.a4.a5.a6, by rw [sv_nj (by decide), sv_same]; rfl, sv_same, ⟨Nat.le_of_ble_eq_true rfl, Nat.le_of_ble_eq_true rfl⟩, _, (hs1.1.out (by decide) (fun _ => by decide)).out (by decide) (fun _ => by decide)⟩
        · have elw : lw t n (m + 1) 2 o a [] = pB (sgP t n 91 (bl t n a + wl t n (bl t n a))) fun p _ => pB (lw t n m 0 (o + 1) p []) fun p c1 => pB (sgP t n 44 p) fun p _ => pB (lw t n m 0 (o + 1) p []) fun p c2 => pB (sgP t n 93 p) fun p _ => .inr (p, c1 ++ c2 ++ [(nI 8, 0)]) := by
            show (if _ then _ else _) = _
            rw [if_neg (by decide), if_pos rfl, if_pos (by rw [hlm]; decide), if_neg (by omega), hlm]
          rw [elw]
          refine g_aload_n (pc := 62) dX11_one_62 rfl ?_
          refine m_cV (pc := 63) (M' := mX11_opensOne) (as := []) i_X11_236_11 eX11_opensOne hI dX11_one_63 (c_opens (o := o) hI hs1.2.1 hs1.2.2.1 (by omega)) (by omega) rfl rfl (Nat.le_of_ble_eq_true rfl) (fun h hI fr => ?_)
          replace hF := mFr.tr hF fr
          have hs2 := hs1.op (o' := o + 1) (by omega)
          refine g_ifB_ne (pc := 66) 70 dX11_one_66 (by decide) (fun c_66 => ?_) (fun c_66 => absurd c_66 (by decide))
          refine g_aload_n (pc := 70) dX11_one_70 rfl ?_
          refine m_cVv (pc := 71) (M' := mX11_skipWord) (as := []) i_X11_156_11 eX11_skipWord hI dX11_one_71 (c_skipWord (by omega) hI hs2.1) (by omega) rfl rfl (Nat.le_of_ble_eq_true rfl) (fun h hI fr => ?_)
          replace hF := mFr.tr hF fr
          have hs3 := hs2.at (b := (bl t n a + wl t n (bl t n a))) (by omega) (by omega)
          have rd3 : rdE V (sv (sv (sv V 0 4 (nI (bl t n a))) 0 8 (nI (o + 1))) 0 4 (nI (bl t n a + wl t n (bl t n a)))) := rdE.rf.a4.a8.a4
          refine g_aload_n (pc := 74) dX11_one_74 rfl ?_
          refine g_bipush (pc := 75) (v := 91) dX11_one_75 (by decide) ?_
          refine m_cVv (pc := 77) (M' := mX11_sign) (as := [_]) i_X11_179_11 eX11_sign hI dX11_one_77 (c_sign (by omega) hI hs3.1 hs3.2.1 91) (by omega) rfl rfl (Nat.le_of_ble_eq_true rfl) (fun h hI fr => ?_)
          replace hF := mFr.tr hF fr
          refine sg_cases (c := 91) (by decide) hs3 rd3 (fun e1 ny fs => ?_) (fun e1 y hs_e1 rd_e1 => ?_)
          · rw [if_neg ny] at hI
            rw [e1]
            exact l_of80 (by omega) _ hI hF fs
          · rw [if_pos y] at hI
            rw [e1]
            change G _ _ _ _ _ _ _ _ _ (lwQ am V h0 t n o cs (pB (lw t n m 0 (o + 1) (bl t n (bl t n a + wl t n (bl t n a)) + 1) []) fun p c1 => pB (sgP t n 44 p) fun p _ => pB (lw t n m 0 (o + 1) p []) fun p c2 => pB (sgP t n 93 p) fun p _ => .inr (p, c1 ++ c2 ++ [(nI 8, 0)])))
            have hse1 := sg_lt (t := t) (n := n) (a := (bl t n a + wl t n (bl t n a))) (c := 91) (by decide) y
            have hbe1 := bl_ge (t := t) (n := n) (a := (bl t n a + wl t n (bl t n a)))
            refine g_aload_n (pc := 80) dX11_one_80 rfl ?_
            refine m_cX (pc := 81) (M' := mX11_sum) (as := []) i_X11_239_11 eX11_sum hI dX11_one_81 (((ih (d - 1) _ h (o + 1) (bl t n (bl t n a + wl t n (bl t n a)) + 1) cs hI hs_e1).1 (by omega) (by omega))) (by omega) rfl rfl (Nat.le_of_ble_eq_true rfl) (fun r9 h9 q9 => ?_)
            obtain ⟨rfl, V4, hI, fr, rd_V4, q9⟩ := q9
            refine ⟨none, rfl, ?_⟩
            replace hF := mFr.tr hF fr
            cases e2 : lw t n m 0 (o + 1) (bl t n (bl t n a + wl t n (bl t n a)) + 1) [] with
            | inl e =>
              rw [e2] at q9
              obtain ⟨f5, f6, fk, fp⟩ := q9
              have fs : FS t n V V4 e.1 e.2 := ⟨f5, f6, fk, rd_e1.tr rd_V4, fp⟩
              exact l_of84 (by omega) _ hI hF fs
            | inr q =>
              obtain ⟨Pe2, Ce2⟩ := q
              rw [e2] at q9
              obtain ⟨f5, fp, f8, fl⟩ := q9
              obtain ⟨G1, G2, -⟩ := lw_ok m 0 (o + 1) (bl t n (bl t n a + wl t n (bl t n a)) + 1) [] Pe2 Ce2 (by omega) (by omega) e2
              have Ge2 := G2 (by omega)
              have hs_e2 : lwS V4 t n Pe2 (o + 1) (cs ++ Ce2) := ⟨fp, f5, f8, fl, by simp at *; omega, hs.2.2.2.2.2.1, by omega⟩
              change G _ _ _ _ _ _ _ _ _ (lwQ am V h0 t n o cs (pB (sgP t n 44 Pe2) fun p _ => pB (lw t n m 0 (o + 1) p []) fun p c2 => pB (sgP t n 93 p) fun p _ => .inr (p, Ce2 ++ c2 ++ [(nI 8, 0)])))
              refine g_aload_n (pc := 84) dX11_one_84 rfl ?_
              refine g_bipush (pc := 85) (v := 44) dX11_one_85 (by decide) ?_
              refine m_cVv (pc := 87) (M' := mX11_sign) (as := [_]) i_X11_179_11 eX11_sign hI dX11_one_87 (c_sign (by omega) hI hs_e2.1 hs_e2.2.1 44) (by omega) rfl rfl (Nat.le_of_ble_eq_true rfl) (fun h hI fr => ?_)
              replace hF := mFr.tr hF fr
              refine sg_cases (c := 44) (by decide) hs_e2 (rd_e1.tr rd_V4) (fun e3 ny fs => ?_) (fun e3 y hs_e3 rd_e3 => ?_)
              · rw [if_neg ny] at hI
                rw [e3]
                exact l_of90 (by omega) _ hI hF fs
              · rw [if_pos y] at hI
                rw [e3]
                change G _ _ _ _ _ _ _ _ _ (lwQ am V h0 t n o cs (pB (lw t n m 0 (o + 1) (bl t n Pe2 + 1) []) fun p c2 => pB (sgP t n 93 p) fun p _ => .inr (p, Ce2 ++ c2 ++ [(nI 8, 0)])))
                have hse3 := sg_lt (t := t) (n := n) (a := Pe2) (c := 44) (by decide) y
                have hbe3 := bl_ge (t := t) (n := n) (a := Pe2)
                refine g_aload_n (pc := 90) dX11_one_90 rfl ?_
                refine m_cX (pc := 91) (M' := mX11_sum) (as := []) i_X11_239_11 eX11_sum hI dX11_one_91 (((ih (d - 1) _ h (o + 1) (bl t n Pe2 + 1) (cs ++ Ce2) hI hs_e3).1 (by omega) (by omega))) (by omega) rfl rfl (Nat.le_of_ble_eq_true rfl) (fun r9 h9 q9 => ?_)
                obtain ⟨rfl, V6, hI, fr, rd_V6, q9⟩ := q9
                refine ⟨none, rfl, ?_⟩
                replace hF := mFr.tr hF fr
                cases e4 : lw t n m 0 (o + 1) (bl t n Pe2 + 1) [] with
                | inl e =>
                  rw [e4] at q9
                  obtain ⟨f5, f6, fk, fp⟩ := q9
                  have fs : FS t n V V6 e.1 e.2 := ⟨f5, f6, fk, rd_e3.tr rd_V6, fp⟩
                  exact l_of94 (by omega) _ hI hF fs
                | inr q =>
                  obtain ⟨Pe4, Ce4⟩ := q
                  rw [e4] at q9
                  obtain ⟨f5, fp, f8, fl⟩ := q9
                  obtain ⟨G1, G2, -⟩ := lw_ok m 0 (o + 1) (bl t n Pe2 + 1) [] Pe4 Ce4 (by omega) (by omega) e4
                  have Ge4 := G2 (by omega)
                  have hs_e4 : lwS V6 t n Pe4 (o + 1) (cs ++ Ce2 ++ Ce4) := ⟨fp, f5, f8, fl, by simp at *; omega, hs.2.2.2.2.2.1, by omega⟩
                  change G _ _ _ _ _ _ _ _ _ (lwQ am V h0 t n o cs (pB (sgP t n 93 Pe4) fun p _ => .inr (p, Ce2 ++ Ce4 ++ [(nI 8, 0)])))
                  refine g_aload_n (pc := 94) dX11_one_94 rfl ?_
                  refine g_bipush (pc := 95) (v := 93) dX11_one_95 (by decide) ?_
                  refine m_cVv (pc := 97) (M' := mX11_sign) (as := [_]) i_X11_179_11 eX11_sign hI dX11_one_97 (c_sign (by omega) hI hs_e4.1 hs_e4.2.1 93) (by omega) rfl rfl (Nat.le_of_ble_eq_true rfl) (fun h hI fr => ?_)
                  replace hF := mFr.tr hF fr
                  refine sg_cases (c := 93) (by decide) hs_e4 (rd_e3.tr rd_V6) (fun e5 ny fs => ?_) (fun e5 y hs_e5 rd_e5 => ?_)
                  · rw [if_neg ny] at hI
                    rw [e5]
                    exact l_of100 (by omega) _ hI hF fs
                  · rw [if_pos y] at hI
                    rw [e5]
                    change G _ _ _ _ _ _ _ _ _ (lwQ am V h0 t n o cs (.inr (bl t n Pe4 + 1, Ce2 ++ Ce4 ++ [(nI 8, 0)])))
                    have hse5 := sg_lt (t := t) (n := n) (a := Pe4) (c := 93) (by decide) y
                    have hbe5 := bl_ge (t := t) (n := n) (a := Pe4)
                    refine g_aload_n (pc := 100) dX11_one_100 rfl ?_
                    refine g_iload_n (pc := 101) dX11_one_101 rfl ?_
                    refine g_iconst (pc := 102) (v := 0) dX11_one_102 (by decide) ?_
                    refine m_cVv (pc := 103) (M' := mX11_notes) (as := [_, _]) i_X11_224_11 eX11_notes hI dX11_one_103 (c_notes hI hs_e5 _ _) (by omega) rfl rfl (Nat.le_of_ble_eq_true rfl) (fun h hI fr => ?_)
                    replace hF := mFr.tr hF fr
                    have hs9 := noV_lwS (w := 8) (v := 0) hs_e5 (by simp at *; omega)
                    refine g_aload_n (pc := 106) dX11_one_106 rfl ?_
                    refine g_dup (pc := 107) dX11_one_107 rfl ?_
                    refine g_getfield (pc := 108) f_X11_162_11 dX11_one_108 hI.1 mf_8 ?_
                    rw [hs9.2.2.1]
                    refine g_iconst (pc := 111) (v := 1) dX11_one_111 (by decide) ?_
                    refine g_isub (pc := 112) dX11_one_112 ?_
                    rw [nI_pred]
                    refine m_put (pc := 113) hI w_X11_162_11 rfl (by decide) dX11_one_113 (fun h hI fr => ?_)
                    replace hF := mFr.tr hF fr
                    refine g_return (pc := 116) dX11_one_116 rfl ?_
                    have hs10 := hs9.op (o' := o) hs.2.2.2.2.2.2
                    refine ⟨rfl, _, hI, hF, (noV_rd rd_e5 (by simp at *; omega)).a8, hs10.2.1, hs10.1, hs10.2.2.1, ?_⟩
                    have hl := hs10.2.2.2.1
                    rw [show cs ++ (Ce2 ++ Ce4 ++ [(nI 8, 0)]) = cs ++ Ce2 ++ Ce4 ++ [(8, 0)] by rw [show nI 8 = (8 : Int32) from rfl]; simp]
                    exact hl
  · refine g_bipush (pc := 28) (v := 7) dX11_one_28 (by decide) ?_
    refine g_goto (pc := 30) 56 dX11_one_30 (by decide) ?_
    refine g_istore_n (pc := 56) (ls' := [_, _, _]) dX11_one_56 (by decide) rfl rfl ?_
    refine g_iload_n (pc := 57) dX11_one_57 rfl ?_
    refine g_iconst (pc := 58) (v := -1) dX11_one_58 (by decide) ?_
    refine g_icmp_eq (pc := 59) 117 dX11_one_59 (by decide) (fun c_59 => ?_) (fun c_59 => ?_)
    · exact absurd c_59 (by decide)
    · have hlm : lmN t n (bl t n a) = 7 := by
        unfold lmN
        rw [if_pos c_25]
      have hlp := lm_pos (t := t) (n := n) (a := bl t n a) (by rw [hlm]; decide)
      have hcl := hs.2.2.2.2.1
      by_cases ho : o = 6
      · have elw : lw t n (m + 1) 2 o a [] = .inl (3, bl t n a) := by
          show (if _ then _ else _) = _
          rw [if_neg (by decide), if_pos rfl, if_pos (by rw [hlm]; decide), if_pos ho]
        rw [elw]
        refine g_aload_n (pc := 62) dX11_one_62 rfl ?_
        refine m_cV (pc := 63) (M' := mX11_opensOne) (as := []) i_X11_236_11 eX11_opensOne hI dX11_one_63 (c_opens6 (a := bl t n a) (by omega) hI hs1.2.1 (by rw [hs1.2.2.1, ho]; rfl) hs1.1.2.2.2.1) (by omega) rfl rfl (Nat.le_of_ble_eq_true rfl) (fun h hI fr => ?_)
        replace hF := mFr.tr hF fr
        refine g_ifB_ne (pc := 66) 70 dX11_one_66 (by decide) (fun c_66 => absurd c_66 (by decide)) (fun c_66 => ?_)
        refine g_return (pc := 69) dX11_one_69 rfl ?_
        exact ⟨rfl, _, hI, hF, rdE.rf.a4.a5.a6, by rw [sv_nj (by decide), sv_same]; rfl, sv_same, ⟨Nat.le_of_ble_eq_true rfl, Nat.le_of_ble_eq_true rfl⟩, _, (hs1.1.out (by decide) (fun _ => by decide)).out (by decide) (fun _ => by decide)⟩
      · have elw : lw t n (m + 1) 2 o a [] = pB (sgP t n 91 (bl t n a + wl t n (bl t n a))) fun p _ => pB (lw t n m 0 (o + 1) p []) fun p c1 => pB (sgP t n 44 p) fun p _ => pB (lw t n m 0 (o + 1) p []) fun p c2 => pB (sgP t n 93 p) fun p _ => .inr (p, c1 ++ c2 ++ [(nI 7, 0)]) := by
          show (if _ then _ else _) = _
          rw [if_neg (by decide), if_pos rfl, if_pos (by rw [hlm]; decide), if_neg (by omega), hlm]
        rw [elw]
        refine g_aload_n (pc := 62) dX11_one_62 rfl ?_
        refine m_cV (pc := 63) (M' := mX11_opensOne) (as := []) i_X11_236_11 eX11_opensOne hI dX11_one_63 (c_opens (o := o) hI hs1.2.1 hs1.2.2.1 (by omega)) (by omega) rfl rfl (Nat.le_of_ble_eq_true rfl) (fun h hI fr => ?_)
        replace hF := mFr.tr hF fr
        have hs2 := hs1.op (o' := o + 1) (by omega)
        refine g_ifB_ne (pc := 66) 70 dX11_one_66 (by decide) (fun c_66 => ?_) (fun c_66 => absurd c_66 (by decide))
        refine g_aload_n (pc := 70) dX11_one_70 rfl ?_
        refine m_cVv (pc := 71) (M' := mX11_skipWord) (as := []) i_X11_156_11 eX11_skipWord hI dX11_one_71 (c_skipWord (by omega) hI hs2.1) (by omega) rfl rfl (Nat.le_of_ble_eq_true rfl) (fun h hI fr => ?_)
        replace hF := mFr.tr hF fr
        have hs3 := hs2.at (b := (bl t n a + wl t n (bl t n a))) (by omega) (by omega)
        have rd3 : rdE V (sv (sv (sv V 0 4 (nI (bl t n a))) 0 8 (nI (o + 1))) 0 4 (nI (bl t n a + wl t n (bl t n a)))) := rdE.rf.a4.a8.a4
        refine g_aload_n (pc := 74) dX11_one_74 rfl ?_
        refine g_bipush (pc := 75) (v := 91) dX11_one_75 (by decide) ?_
        refine m_cVv (pc := 77) (M' := mX11_sign) (as := [_]) i_X11_179_11 eX11_sign hI dX11_one_77 (c_sign (by omega) hI hs3.1 hs3.2.1 91) (by omega) rfl rfl (Nat.le_of_ble_eq_true rfl) (fun h hI fr => ?_)
        replace hF := mFr.tr hF fr
        refine sg_cases (c := 91) (by decide) hs3 rd3 (fun e1 ny fs => ?_) (fun e1 y hs_e1 rd_e1 => ?_)
        · rw [if_neg ny] at hI
          rw [e1]
          exact l_of80 (by omega) _ hI hF fs
        · rw [if_pos y] at hI
          rw [e1]
          change G _ _ _ _ _ _ _ _ _ (lwQ am V h0 t n o cs (pB (lw t n m 0 (o + 1) (bl t n (bl t n a + wl t n (bl t n a)) + 1) []) fun p c1 => pB (sgP t n 44 p) fun p _ => pB (lw t n m 0 (o + 1) p []) fun p c2 => pB (sgP t n 93 p) fun p _ => .inr (p, c1 ++ c2 ++ [(nI 7, 0)])))
          have hse1 := sg_lt (t := t) (n := n) (a := (bl t n a + wl t n (bl t n a))) (c := 91) (by decide) y
          have hbe1 := bl_ge (t := t) (n := n) (a := (bl t n a + wl t n (bl t n a)))
          refine g_aload_n (pc := 80) dX11_one_80 rfl ?_
          refine m_cX (pc := 81) (M' := mX11_sum) (as := []) i_X11_239_11 eX11_sum hI dX11_one_81 (((ih (d - 1) _ h (o + 1) (bl t n (bl t n a + wl t n (bl t n a)) + 1) cs hI hs_e1).1 (by omega) (by omega))) (by omega) rfl rfl (Nat.le_of_ble_eq_true rfl) (fun r9 h9 q9 => ?_)
          obtain ⟨rfl, V4, hI, fr, rd_V4, q9⟩ := q9
          refine ⟨none, rfl, ?_⟩
          replace hF := mFr.tr hF fr
          cases e2 : lw t n m 0 (o + 1) (bl t n (bl t n a + wl t n (bl t n a)) + 1) [] with
          | inl e =>
            rw [e2] at q9
            obtain ⟨f5, f6, fk, fp⟩ := q9
            have fs : FS t n V V4 e.1 e.2 := ⟨f5, f6, fk, rd_e1.tr rd_V4, fp⟩
            exact l_of84 (by omega) _ hI hF fs
          | inr q =>
            obtain ⟨Pe2, Ce2⟩ := q
            rw [e2] at q9
            obtain ⟨f5, fp, f8, fl⟩ := q9
            obtain ⟨G1, G2, -⟩ := lw_ok m 0 (o + 1) (bl t n (bl t n a + wl t n (bl t n a)) + 1) [] Pe2 Ce2 (by omega) (by omega) e2
            have Ge2 := G2 (by omega)
            have hs_e2 : lwS V4 t n Pe2 (o + 1) (cs ++ Ce2) := ⟨fp, f5, f8, fl, by simp at *; omega, hs.2.2.2.2.2.1, by omega⟩
            change G _ _ _ _ _ _ _ _ _ (lwQ am V h0 t n o cs (pB (sgP t n 44 Pe2) fun p _ => pB (lw t n m 0 (o + 1) p []) fun p c2 => pB (sgP t n 93 p) fun p _ => .inr (p, Ce2 ++ c2 ++ [(nI 7, 0)])))
            refine g_aload_n (pc := 84) dX11_one_84 rfl ?_
            refine g_bipush (pc := 85) (v := 44) dX11_one_85 (by decide) ?_
            refine m_cVv (pc := 87) (M' := mX11_sign) (as := [_]) i_X11_179_11 eX11_sign hI dX11_one_87 (c_sign (by omega) hI hs_e2.1 hs_e2.2.1 44) (by omega) rfl rfl (Nat.le_of_ble_eq_true rfl) (fun h hI fr => ?_)
            replace hF := mFr.tr hF fr
            refine sg_cases (c := 44) (by decide) hs_e2 (rd_e1.tr rd_V4) (fun e3 ny fs => ?_) (fun e3 y hs_e3 rd_e3 => ?_)
            · rw [if_neg ny] at hI
              rw [e3]
              exact l_of90 (by omega) _ hI hF fs
            · rw [if_pos y] at hI
              rw [e3]
              change G _ _ _ _ _ _ _ _ _ (lwQ am V h0 t n o cs (pB (lw t n m 0 (o + 1) (bl t n Pe2 + 1) []) fun p c2 => pB (sgP t n 93 p) fun p _ => .inr (p, Ce2 ++ c2 ++ [(nI 7, 0)])))
              have hse3 := sg_lt (t := t) (n := n) (a := Pe2) (c := 44) (by decide) y
              have hbe3 := bl_ge (t := t) (n := n) (a := Pe2)
              refine g_aload_n (pc := 90) dX11_one_90 rfl ?_
              refine m_cX (pc := 91) (M' := mX11_sum) (as := []) i_X11_239_11 eX11_sum hI dX11_one_91 (((ih (d - 1) _ h (o + 1) (bl t n Pe2 + 1) (cs ++ Ce2) hI hs_e3).1 (by omega) (by omega))) (by omega) rfl rfl (Nat.le_of_ble_eq_true rfl) (fun r9 h9 q9 => ?_)
              obtain ⟨rfl, V6, hI, fr, rd_V6, q9⟩ := q9
              refine ⟨none, rfl, ?_⟩
              replace hF := mFr.tr hF fr
              cases e4 : lw t n m 0 (o + 1) (bl t n Pe2 + 1) [] with
              | inl e =>
                rw [e4] at q9
                obtain ⟨f5, f6, fk, fp⟩ := q9
                have fs : FS t n V V6 e.1 e.2 := ⟨f5, f6, fk, rd_e3.tr rd_V6, fp⟩
                exact l_of94 (by omega) _ hI hF fs
              | inr q =>
                obtain ⟨Pe4, Ce4⟩ := q
                rw [e4] at q9
                obtain ⟨f5, fp, f8, fl⟩ := q9
                obtain ⟨G1, G2, -⟩ := lw_ok m 0 (o + 1) (bl t n Pe2 + 1) [] Pe4 Ce4 (by omega) (by omega) e4
                have Ge4 := G2 (by omega)
                have hs_e4 : lwS V6 t n Pe4 (o + 1) (cs ++ Ce2 ++ Ce4) := ⟨fp, f5, f8, fl, by simp at *; omega, hs.2.2.2.2.2.1, by omega⟩
                change G _ _ _ _ _ _ _ _ _ (lwQ am V h0 t n o cs (pB (sgP t n 93 Pe4) fun p _ => .inr (p, Ce2 ++ Ce4 ++ [(nI 7, 0)])))
                refine g_aload_n (pc := 94) dX11_one_94 rfl ?_
                refine g_bipush (pc := 95) (v := 93) dX11_one_95 (by decide) ?_
                refine m_cVv (pc := 97) (M' := mX11_sign) (as := [_]) i_X11_179_11 eX11_sign hI dX11_one_97 (c_sign (by omega) hI hs_e4.1 hs_e4.2.1 93) (by omega) rfl rfl (Nat.le_of_ble_eq_true rfl) (fun h hI fr => ?_)
                replace hF := mFr.tr hF fr
                refine sg_cases (c := 93) (by decide) hs_e4 (rd_e3.tr rd_V6) (fun e5 ny fs => ?_) (fun e5 y hs_e5 rd_e5 => ?_)
                · rw [if_neg ny] at hI
                  rw [e5]
                  exact l_of100 (by omega) _ hI hF fs
                · rw [if_pos y] at hI
                  rw [e5]
                  change G _ _ _ _ _ _ _ _ _ (lwQ am V h0 t n o cs (.inr (bl t n Pe4 + 1, Ce2 ++ Ce4 ++ [(nI 7, 0)])))
                  have hse5 := sg_lt (t := t) (n := n) (a := Pe4) (c := 93) (by decide) y
                  have hbe5 := bl_ge (t := t) (n := n) (a := Pe4)
                  refine g_aload_n (pc := 100) dX11_one_100 rfl ?_
                  refine g_iload_n (pc := 101) dX11_one_101 rfl ?_
                  refine g_iconst (pc := 102) (v := 0) dX11_one_102 (by decide) ?_
                  refine m_cVv (pc := 103) (M' := mX11_notes) (as := [_, _]) i_X11_224_11 eX11_notes hI dX11_one_103 (c_notes hI hs_e5 _ _) (by omega) rfl rfl (Nat.le_of_ble_eq_true rfl) (fun h hI fr => ?_)
                  replace hF := mFr.tr hF fr
                  have hs9 := noV_lwS (w := 7) (v := 0) hs_e5 (by simp at *; omega)
                  refine g_aload_n (pc := 106) dX11_one_106 rfl ?_
                  refine g_dup (pc := 107) dX11_one_107 rfl ?_
                  refine g_getfield (pc := 108) f_X11_162_11 dX11_one_108 hI.1 mf_8 ?_
                  rw [hs9.2.2.1]
                  refine g_iconst (pc := 111) (v := 1) dX11_one_111 (by decide) ?_
                  refine g_isub (pc := 112) dX11_one_112 ?_
                  rw [nI_pred]
                  refine m_put (pc := 113) hI w_X11_162_11 rfl (by decide) dX11_one_113 (fun h hI fr => ?_)
                  replace hF := mFr.tr hF fr
                  refine g_return (pc := 116) dX11_one_116 rfl ?_
                  have hs10 := hs9.op (o' := o) hs.2.2.2.2.2.2
                  refine ⟨rfl, _, hI, hF, (noV_rd rd_e5 (by simp at *; omega)).a8, hs10.2.1, hs10.1, hs10.2.2.1, ?_⟩
                  have hl := hs10.2.2.2.1
                  rw [show cs ++ (Ce2 ++ Ce4 ++ [(nI 7, 0)]) = cs ++ Ce2 ++ Ce4 ++ [(7, 0)] by rw [show nI 7 = (7 : Int32) from rfl]; simp]
                  exact hl
theorem lw_all2 : ∀ m, LWa E am t n m ∧ LWb E am t n m
  | 0 => ⟨fun d V h o a cs _ _ => ⟨fun q => by omega, fun q => by omega, fun q => by omega⟩, fun d bc bs V V0 h h0 o a cs acc u _ _ _ _ q => by omega⟩
  | m + 1 => by
    obtain ⟨ih, ihb⟩ := lw_all2 m
    exact ⟨fun d V h o a cs hI hs => ⟨fun q1 q2 => lw_sum ih ihb hI hs q1 q2, fun q1 q2 => lw_product ih ihb hI hs q1 q2, fun q1 q2 => lw_one ih hI hs q1 q2⟩, fun d bc bs V V0 h h0 o a cs acc u hI hF rd hs q => ⟨fun q2 => lw_l3 ih ihb hI hF rd hs q q2, fun q2 => lw_l4 ih ihb hI hF rd hs q q2⟩⟩
theorem getD_map {cs : List cd} {i : Nat} : True := trivial
/-- what a law's reading gives, at the end of the text -/
def lawP (t : Nat → Nat) (n : Nat) : pR (List cd) := pB (lw t n (5 * n + 3) 0 0 (bl t n 0) []) fun p c => if bl t n p < n then .inl (1, bl t n p) else .inr (bl t n p, c)
/-- the codes stand -/
def laV (V V' : mV) (c : List cd) : Prop := V' 0 0 = 0 ∧ V' 0 1 = 0 ∧ V' 0 3 = -1 ∧ V' 0 21 = nI c.length ∧ (∀ i, i < c.length → V' (1000 * 23 + i) 0 = (c.getD i (0, 0)).1 ∧ V' (1000 * 23 + i) 1 = (c.getD i (0, 0)).2) ∧ ∀ r j, ¬ rdX r j → ¬ (r = 0 ∧ (j = 0 ∨ j = 1 ∨ j = 3 ∨ j = 21)) → ¬ (23000 ≤ r ∧ r < 23160) → V' r j = V r j
def laQ (am : Nat → Nat) (V : mV) (h : jH) (x : pR (List cd)) : jR → jH → Prop := fun r h' => ∃ V', InvM am V' h' ∧ mFr h h' ∧ match x with
  | .inl e => r = .inl (some (vI (nI e.1 - 10))) ∧ fltV V V' (nI e.2)
  | .inr q => r = .inl (some (vI 1)) ∧ laV V V' q.2
theorem r_mlaw (hd : 2 ≤ d) (hI : InvM am V h) (w : Int32) (hv : (inR w 0 (V 0 1) && decide (w ≤ 150)) = false) : Ct E d 0 0 mX11_law [vR (nMo am), vI w] h (mQ am (refV V 1 1) h (some (vI 0))) := by
  refine ct_of (by decide) (Nat.le_of_ble_eq_true rfl) rfl ?_
  have hF : mFr h h := mFr.rf
  refine g_aload_n (pc := 0) dX11_law_0 rfl ?_
  refine g_iconst (pc := 1) (v := 0) dX11_law_1 (by decide) ?_
  refine m_put (pc := 2) hI w_X11_103_11 rfl (by decide) dX11_law_2 (fun h hI fr => ?_)
  replace hF := mFr.tr hF fr
  change InvM am (thr0 V) h at hI
  refine g_aload_n (pc := 5) dX11_law_5 rfl ?_
  refine g_iload_n (pc := 6) dX11_law_6 rfl ?_
  refine g_iconst (pc := 7) (v := 0) dX11_law_7 (by decide) ?_
  refine g_aload_n (pc := 8) dX11_law_8 rfl ?_
  refine g_getfield (pc := 9) f_X11_106_11 dX11_law_9 hI.1 mf_1 ?_
  rw [show thr0 V 0 1 = V 0 1 from sv_nj (by decide)]
  refine g_cS (pc := 12) (M' := mX11_in) (as := [_, _, _]) i_X11_137 eX11_in dX11_law_12 (c_in _ _ _) (by omega) rfl rfl (Nat.le_of_ble_eq_true rfl) ?_
  refine g_ifB_eq (pc := 15) 25 dX11_law_15 (by decide) (fun c_15 => ?_) (fun c_15 => ?_)
  · refine g_iconst (pc := 25) (v := 1) dX11_law_25 (by decide) ?_
    refine g_goto (pc := 26) 30 dX11_law_26 (by decide) ?_
    refine g_iconst (pc := 30) (v := 1) dX11_law_30 (by decide) ?_
    refine g_iconst (pc := 31) (v := 1) dX11_law_31 (by decide) ?_
    refine m_cV (pc := 32) (M' := mX11_bad) (as := [_, _, _]) i_X11_183_11 eX11_bad hI dX11_law_32 (c_badT hI thr0_0 1 (by decide) 1 (by decide)) (by omega) rfl rfl (Nat.le_of_ble_eq_true rfl) (fun h hI fr => ?_)
    replace hF := mFr.tr hF fr
    refine g_ifB_eq (pc := 35) 40 dX11_law_35 (by decide) (fun c_35 => absurd c_35 (by decide)) (fun c_35 => ?_)
    refine g_iconst (pc := 38) (v := 0) dX11_law_38 (by decide) ?_
    refine g_ireturn (pc := 39) dX11_law_39 rfl (by first | exact rfl | exact j_nb _) ?_
    rw [refV_thr0] at hI
    exact ⟨rfl, hI, hF⟩
  · refine g_iload_n (pc := 18) dX11_law_18 rfl ?_
    refine g_sipush (pc := 19) (v := 150) dX11_law_19 (by decide) ?_
    refine g_icmp_le (pc := 22) 29 dX11_law_22 (by decide) (fun c_22 => ?_) (fun c_22 => ?_)
    · exfalso
      rw [c_15, decide_eq_true c_22] at hv
      cases hv
    · refine g_iconst (pc := 25) (v := 1) dX11_law_25 (by decide) ?_
      refine g_goto (pc := 26) 30 dX11_law_26 (by decide) ?_
      refine g_iconst (pc := 30) (v := 1) dX11_law_30 (by decide) ?_
      refine g_iconst (pc := 31) (v := 1) dX11_law_31 (by decide) ?_
      refine m_cV (pc := 32) (M' := mX11_bad) (as := [_, _, _]) i_X11_183_11 eX11_bad hI dX11_law_32 (c_badT hI thr0_0 1 (by decide) 1 (by decide)) (by omega) rfl rfl (Nat.le_of_ble_eq_true rfl) (fun h hI fr => ?_)
      replace hF := mFr.tr hF fr
      refine g_ifB_eq (pc := 35) 40 dX11_law_35 (by decide) (fun c_35 => absurd c_35 (by decide)) (fun c_35 => ?_)
      refine g_iconst (pc := 38) (v := 0) dX11_law_38 (by decide) ?_
      refine g_ireturn (pc := 39) dX11_law_39 rfl (by first | exact rfl | exact j_nb _) ?_
      rw [refV_thr0] at hI
      exact ⟨rfl, hI, hF⟩
set_option maxHeartbeats 4000000 in
theorem c_mlaw (hd : 36 ≤ d) (hI : InvM am V h) (hT : TX V t) (n T : Nat) (h1 : V 0 1 = nI T) (hT6 : T ≤ 600) (hn : n ≤ T) (hn2 : n ≤ 150) : Ct E d 0 0 mX11_law [vR (nMo am), vI (nI n)] h (laQ am V h (lawP t n)) := by
  refine ct_of (by decide) (Nat.le_of_ble_eq_true rfl) rfl ?_
  have hF : mFr h h := mFr.rf
  have hv : inR (nI n) 0 (V 0 1) = true := by rw [h1]; exact inC_of hn (by omega)
  have hT0 : TX (thr0 V) t := hT.sv (by decide)
  have hb0 := bl_le (t := t) (n := n) (Nat.zero_le n)
  refine g_aload_n (pc := 0) dX11_law_0 rfl ?_
  refine g_iconst (pc := 1) (v := 0) dX11_law_1 (by decide) ?_
  refine m_put (pc := 2) hI w_X11_103_11 rfl (by decide) dX11_law_2 (fun h hI fr => ?_)
  replace hF := mFr.tr hF fr
  change InvM am (thr0 V) h at hI
  refine g_aload_n (pc := 5) dX11_law_5 rfl ?_
  refine g_iload_n (pc := 6) dX11_law_6 rfl ?_
  refine g_iconst (pc := 7) (v := 0) dX11_law_7 (by decide) ?_
  refine g_aload_n (pc := 8) dX11_law_8 rfl ?_
  refine g_getfield (pc := 9) f_X11_106_11 dX11_law_9 hI.1 mf_1 ?_
  rw [show thr0 V 0 1 = V 0 1 from sv_nj (by decide)]
  refine g_cS (pc := 12) (M' := mX11_in) (as := [_, _, _]) i_X11_137 eX11_in dX11_law_12 (c_in _ _ _) (by omega) rfl rfl (Nat.le_of_ble_eq_true rfl) ?_
  refine g_ifB_eq (pc := 15) 25 dX11_law_15 (by decide) (fun c_15 => absurd (hv.symm.trans c_15) (by decide)) (fun c_15 => ?_)
  refine g_iload_n (pc := 18) dX11_law_18 rfl ?_
  refine g_sipush (pc := 19) (v := 150) dX11_law_19 (by decide) ?_
  refine g_icmp_le (pc := 22) 29 dX11_law_22 (by decide) (fun c_22 => ?_) (fun c_22 => absurd (nI_le (b := 150) hn2 (by decide)) c_22)
  refine g_iconst (pc := 29) (v := 0) dX11_law_29 (by decide) ?_
  refine g_iconst (pc := 30) (v := 1) dX11_law_30 (by decide) ?_
  refine g_iconst (pc := 31) (v := 1) dX11_law_31 (by decide) ?_
  refine m_cV (pc := 32) (M' := mX11_bad) (as := [_, _, _]) i_X11_183_11 eX11_bad hI dX11_law_32 (c_badF hI thr0_0 1 1 (by decide)) (by omega) rfl rfl (Nat.le_of_ble_eq_true rfl) (fun h hI fr => ?_)
  replace hF := mFr.tr hF fr
  refine g_ifB_eq (pc := 35) 40 dX11_law_35 (by decide) (fun c_35 => ?_) (fun c_35 => absurd c_35 (by decide))
  refine g_aload_n (pc := 40) dX11_law_40 rfl ?_
  refine g_iload_n (pc := 41) dX11_law_41 rfl ?_
  refine m_cVv (pc := 42) (M' := mX11_starts) (as := [_]) i_X11_187_11 eX11_starts hI dX11_law_42 (c_starts (by omega) hI hT0 (by omega)) (by omega) rfl rfl (Nat.le_of_ble_eq_true rfl) (fun h hI fr => ?_)
  replace hF := mFr.tr hF fr
  refine g_aload_n (pc := 45) dX11_law_45 rfl ?_
  refine g_iconst (pc := 46) (v := 0) dX11_law_46 (by decide) ?_
  refine m_put (pc := 47) hI w_X11_215_11 rfl (by decide) dX11_law_47 (fun h hI fr => ?_)
  replace hF := mFr.tr hF fr
  have hp0 := (stV_PS (V := thr0 V) (t := t) (n := n) hT0 (by omega)).at hb0.2
  obtain ⟨V1, hV1⟩ : ∃ V1, V1 = sv (sv (stV (thr0 V) (nI n)) 0 4 (nI (bl t n 0))) 0 22 0 := ⟨_, rfl⟩
  rw [← hV1] at hI
  have hs0 : lwS V1 t n (bl t n 0) 0 [] := by
    rw [hV1]
    refine ⟨hp0.out (by decide) (fun _ => by decide), ?_, ?_, ⟨?_, fun i hi => absurd hi (Nat.not_lt_zero i)⟩, Nat.zero_le _, hn2, by decide⟩
    · rw [sv_nj (by decide), sv_nj (by decide)]
      unfold stV
      rw [sv_nj (by decide), sv_nj (by decide), sv_nj (by decide), sv_same]
    · rw [sv_nj (by decide), sv_nj (by decide)]
      unfold stV
      rw [sv_same]
      rfl
    · rw [sv_same]
      rfl
  have hB : hoB V V1 := by
    rw [hV1]
    refine ⟨?_, ?_, fun r j a b => ?_⟩
    · rw [sv_nj (by decide), sv_nj (by decide)]
      unfold stV
      rw [sv_nj (by decide), sv_nj (by decide), sv_nj (by decide), sv_nj (by decide), sv_nj (by decide), sv_nj (by decide), sv_nj (by decide)]
      exact thr0_0
    · rw [sv_nj (by decide), sv_nj (by decide)]
      unfold stV
      rw [sv_nj (by decide), sv_nj (by decide), sv_nj (by decide), sv_nj (by decide), sv_nj (by decide), sv_nj (by decide), sv_same]
    · unfold rdX at a
      unfold stV thr0
      repeat rw [sv_at, if_neg (by omega)]
  refine g_aload_n (pc := 50) dX11_law_50 rfl ?_
  refine m_cX (pc := 51) (M' := mX11_sum) (as := []) i_X11_239_11 eX11_sum hI dX11_law_51 (((lw_all2 (5 * n + 3)).1 (d - 1) _ h 0 (bl t n 0) [] hI hs0).1 (by omega) (by omega)) (by omega) rfl rfl (Nat.le_of_ble_eq_true rfl) (fun r9 h9 q9 => ?_)
  obtain ⟨rfl, V2, hI, fr, rd2, q9⟩ := q9
  refine ⟨none, rfl, ?_⟩
  replace hF := mFr.tr hF fr
  unfold lawP
  cases ex : lw t n (5 * n + 3) 0 0 (bl t n 0) [] with
  | inl e =>
    rw [ex] at q9
    obtain ⟨f5, f6, fk, b, hpb⟩ := q9
    have hne : ¬ V2 0 5 = 0 := by rw [f5]; exact nI_ne0 (by omega) (by omega)
    refine g_aload_n (pc := 54) dX11_law_54 rfl ?_
    refine m_cVv (pc := 55) (M' := mX11_blanks) (as := []) i_X11_125_11 eX11_blanks hI dX11_law_55 (cP_blanks (by omega) hI hpb) (by omega) rfl rfl (Nat.le_of_ble_eq_true rfl) (fun h hI fr => ?_)
    replace hF := mFr.tr hF fr
    refine g_aload_n (pc := 58) dX11_law_58 rfl ?_
    refine g_getfield (pc := 59) f_X11_119_11 dX11_law_59 hI.1 mf_5 ?_
    refine g_if_ne (pc := 62) 85 dX11_law_62 (by decide) (fun c_62 => ?_) (fun c_62 => absurd c_62 hne)
    refine g_aload_n (pc := 85) dX11_law_85 rfl ?_
    refine g_getfield (pc := 86) f_X11_119_11 dX11_law_86 hI.1 mf_5 ?_
    refine g_if_eq (pc := 89) 97 dX11_law_89 (by decide) (fun c_89 => absurd c_89 hne) (fun c_89 => ?_)
    refine g_aload_n (pc := 92) dX11_law_92 rfl ?_
    refine m_cV (pc := 93) (M' := mX11_ends) (as := []) i_X11_193_11 eX11_ends hI dX11_law_93 (c_ends hI) (by omega) rfl rfl (Nat.le_of_ble_eq_true rfl) (fun h hI fr => ?_)
    replace hF := mFr.tr hF fr
    refine g_ireturn (pc := 96) dX11_law_96 rfl (by first | exact rfl | exact j_nb _) ?_
    refine ⟨_, hI, hF, ?_, ?_⟩
    · rw [sv_nj (by decide), f5]
    · rw [sv_nj (by decide), f6]
      exact ((hB.rd rd2).rd rdE.rf.a4).flt
  | inr q =>
    obtain ⟨p, c⟩ := q
    rw [ex] at q9
    obtain ⟨f5, fp, f8, fl⟩ := q9
    have fp : PS V2 t n p := fp
    change G _ _ _ _ _ _ _ _ _ (laQ am V _ (if bl t n p < n then .inl (1, bl t n p) else .inr (bl t n p, c)))
    obtain ⟨G1, G2, -⟩ := lw_ok _ 0 0 (bl t n 0) [] p c (by omega) hb0.2 ex
    have G3 := G2 (by omega)
    have hb2 := bl_le (t := t) fp.2.2.2.2
    have fp2 := fp.at hb2.2
    refine g_aload_n (pc := 54) dX11_law_54 rfl ?_
    refine m_cVv (pc := 55) (M' := mX11_blanks) (as := []) i_X11_125_11 eX11_blanks hI dX11_law_55 (cP_blanks (by omega) hI fp) (by omega) rfl rfl (Nat.le_of_ble_eq_true rfl) (fun h hI fr => ?_)
    replace hF := mFr.tr hF fr
    refine g_aload_n (pc := 58) dX11_law_58 rfl ?_
    refine g_getfield (pc := 59) f_X11_119_11 dX11_law_59 hI.1 mf_5 ?_
    refine g_if_ne (pc := 62) 85 dX11_law_62 (by decide) (fun c_62 => absurd ((sv_nj (by decide)).trans f5) c_62) (fun c_62 => ?_)
    refine g_aload_n (pc := 65) dX11_law_65 rfl ?_
    refine g_getfield (pc := 66) f_X11_112_11 dX11_law_66 hI.1 mf_4 ?_
    rw [fp2.2.2.2.1]
    refine g_aload_n (pc := 69) dX11_law_69 rfl ?_
    refine g_getfield (pc := 70) f_X11_109_11 dX11_law_70 hI.1 mf_2 ?_
    rw [fp2.2.1]
    refine g_icmp_ge (pc := 73) 85 dX11_law_73 (by decide) (fun c_73 => ?_) (fun c_73 => ?_)
    · have hge : ¬ bl t n p < n := fun w => absurd c_73 (nI_ge w (by omega))
      rw [if_neg hge]
      refine g_aload_n (pc := 85) dX11_law_85 rfl ?_
      refine g_getfield (pc := 86) f_X11_119_11 dX11_law_86 hI.1 mf_5 ?_
      refine g_if_eq (pc := 89) 97 dX11_law_89 (by decide) (fun c_89 => ?_) (fun c_89 => absurd ((sv_nj (by decide)).trans f5) c_89)
      refine g_aload_n (pc := 97) dX11_law_97 rfl ?_
      refine g_iconst (pc := 98) (v := -1) dX11_law_98 (by decide) ?_
      refine m_put (pc := 99) hI w_X11_9_11 rfl (by decide) dX11_law_99 (fun h hI fr => ?_)
      replace hF := mFr.tr hF fr
      refine g_aload_n (pc := 102) dX11_law_102 rfl ?_
      refine g_aload_n (pc := 103) dX11_law_103 rfl ?_
      refine g_getfield (pc := 104) f_X11_215_11 dX11_law_104 hI.1 mf_22 ?_
      rw [sv_nj (by decide), sv_nj (by decide), fl.1, List.nil_append]
      refine m_put (pc := 107) hI w_X11_200_11 rfl (by decide) dX11_law_107 (fun h hI fr => ?_)
      replace hF := mFr.tr hF fr
      refine g_aload_n (pc := 110) dX11_law_110 rfl ?_
      refine g_getfield (pc := 111) f_X11_55_11 dX11_law_111 hI.1 mf_24 ?_
      refine g_aload_n (pc := 114) dX11_law_114 rfl ?_
      refine g_getfield (pc := 115) f_X11_52_11 dX11_law_115 hI.1 mf_23 ?_
      refine g_aload_n (pc := 118) dX11_law_118 rfl ?_
      refine g_getfield (pc := 119) f_X11_200_11 dX11_law_119 hI.1 mf_21 ?_
      rw [sv_same]
      refine m_cSv (pc := 122) (M' := mX11_lays) (as := [_, _, _]) i_X11_196 eX11_lays dX11_law_122 (c_lay23 hI c.length (by omega)) (by omega) rfl rfl (Nat.le_of_ble_eq_true rfl) (fun h hI fr => ?_)
      replace hF := mFr.tr hF fr
      refine g_iconst (pc := 125) (v := 1) dX11_law_125 (by decide) ?_
      refine g_ireturn (pc := 126) dX11_law_126 rfl (by first | exact rfl | exact j_nb _) ?_
      refine ⟨_, hI, hF, rfl, ?_⟩
      have hB2 := hB.rd rd2
      have n24 : ∀ i, layP (sv (sv (sv V2 0 4 (nI (bl t n p))) 0 3 (-1)) 0 21 (nI c.length)) 24 23 2 c.length 0 0 i = sv (sv (sv V2 0 4 (nI (bl t n p))) 0 3 (-1)) 0 21 (nI c.length) 0 i := fun i => congrFun (layP_a (by omega)) i
      refine ⟨?_, ?_, ?_, ?_, fun i hi => ?_, fun r j a b e => ?_⟩
      · rw [n24, sv_nj (by decide), sv_nj (by decide), sv_nj (by decide)]; exact hB2.1
      · rw [n24, sv_nj (by decide), sv_nj (by decide), sv_nj (by decide)]; exact hB2.2.1
      · rw [n24, sv_nj (by decide), sv_same]
      · rw [n24, sv_same]
      · have hi : i < c.length := hi
        have hl := fl.2 i hi
        rw [List.nil_append] at hl
        unfold layP
        rw [if_pos (by omega), if_pos (by omega), Nat.add_sub_cancel_left, sv_ne (by omega), sv_ne (by omega), sv_ne (by omega)]
        exact hl
      · unfold layP
        rw [if_neg (by omega), sv_at, if_neg (by omega), sv_at, if_neg (by omega), sv_at, if_neg (by unfold rdX at a; omega)]
        exact hB2.2.2 r j a (by omega)
    · refine g_aload_n (pc := 76) dX11_law_76 rfl ?_
      refine g_iconst (pc := 77) (v := 1) dX11_law_77 (by decide) ?_
      refine g_aload_n (pc := 78) dX11_law_78 rfl ?_
      refine g_getfield (pc := 79) f_X11_112_11 dX11_law_79 hI.1 mf_4 ?_
      rw [fp2.2.2.2.1]
      refine m_cVv (pc := 82) (M' := mX11_wrong) (as := [_, _]) i_X11_132_11 eX11_wrong hI dX11_law_82 (c_wrong hI _ _) (by omega) rfl rfl (Nat.le_of_ble_eq_true rfl) (fun h hI fr => ?_)
      replace hF := mFr.tr hF fr
      rw [mWrong_0 ((sv_nj (by decide)).trans f5)] at hI
      have hlt : bl t n p < n := by
        rcases Nat.lt_or_ge (bl t n p) n with q | q
        · exact q
        · exact absurd (nI_le (a := n) (b := bl t n p) q (by omega)) c_73
      rw [if_pos hlt]
      refine g_aload_n (pc := 85) dX11_law_85 rfl ?_
      refine g_getfield (pc := 86) f_X11_119_11 dX11_law_86 hI.1 mf_5 ?_
      refine g_if_eq (pc := 89) 97 dX11_law_89 (by decide) (fun c_89 => absurd c_89 (by rw [sv_nj (by decide), sv_same]; decide)) (fun c_89 => ?_)
      refine g_aload_n (pc := 92) dX11_law_92 rfl ?_
      refine m_cV (pc := 93) (M' := mX11_ends) (as := []) i_X11_193_11 eX11_ends hI dX11_law_93 (c_ends hI) (by omega) rfl rfl (Nat.le_of_ble_eq_true rfl) (fun h hI fr => ?_)
      replace hF := mFr.tr hF fr
      refine g_ireturn (pc := 96) dX11_law_96 rfl (by first | exact rfl | exact j_nb _) ?_
      refine ⟨_, hI, hF, ?_, ?_⟩
      · rw [sv_nj (by decide), sv_same]
        rfl
      · rw [sv_same]
        exact ((hB.rd rd2).rd rdE.rf.a4.a5.a6).flt
end
