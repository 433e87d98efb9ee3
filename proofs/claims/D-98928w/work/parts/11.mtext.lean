/-! THE REFERENCE: small methods, the text. Printed by m_text.py -/
set_option maxRecDepth 100000
def inR (v lo hi : Int32) : Bool := !(decide (v < lo)) && !(decide (hi < v))
set_option maxHeartbeats 1000000 in
theorem c_in {E : jE} {d : Nat} {h : jH} (v lo hi : Int32) : Ct E d 0 0 mX11_in [vI v, vI lo, vI hi] h (qR (some (vI (bI (inR v lo hi)))) h) := by
  refine ct_of (by decide) (Nat.le_of_ble_eq_true rfl) rfl ?_
  refine g_iload_n (pc := 0) dX11_in_0 rfl ?_
  refine g_iload_n (pc := 1) dX11_in_1 rfl ?_
  refine g_icmp_lt (pc := 2) 14 dX11_in_2 (by decide) (fun c_2 => ?_) (fun c_2 => ?_)
  · refine g_iconst (pc := 14) (v := 0) dX11_in_14 (by decide) ?_
    refine g_ireturn (pc := 15) dX11_in_15 rfl (by first | exact rfl | exact j_nb _) ?_
    exact ⟨by simp [inR, bI, *], rfl⟩
  · refine g_iload_n (pc := 5) dX11_in_5 rfl ?_
    refine g_iload_n (pc := 6) dX11_in_6 rfl ?_
    refine g_icmp_gt (pc := 7) 14 dX11_in_7 (by decide) (fun c_7 => ?_) (fun c_7 => ?_)
    · refine g_iconst (pc := 14) (v := 0) dX11_in_14 (by decide) ?_
      refine g_ireturn (pc := 15) dX11_in_15 rfl (by first | exact rfl | exact j_nb _) ?_
      exact ⟨by simp [inR, bI, *], rfl⟩
    · refine g_iconst (pc := 10) (v := 1) dX11_in_10 (by decide) ?_
      refine g_goto (pc := 11) 15 dX11_in_11 (by decide) ?_
      refine g_ireturn (pc := 15) dX11_in_15 rfl (by first | exact rfl | exact j_nb _) ?_
      exact ⟨by simp [inR, bI, *], rfl⟩
def lessI (a b : Int32) : Int32 := if b ≤ a then b else a
set_option maxHeartbeats 1000000 in
theorem c_less {E : jE} {d : Nat} {h : jH} (a b : Int32) : Ct E d 0 0 mX11_less [vI a, vI b] h (qR (some (vI (lessI a b))) h) := by
  refine ct_of (by decide) (Nat.le_of_ble_eq_true rfl) rfl ?_
  refine g_iload_n (pc := 0) dX11_less_0 rfl ?_
  refine g_iload_n (pc := 1) dX11_less_1 rfl ?_
  refine g_icmp_ge (pc := 2) 9 dX11_less_2 (by decide) (fun c_2 => ?_) (fun c_2 => ?_)
  · refine g_iload_n (pc := 9) dX11_less_9 rfl ?_
    refine g_ireturn (pc := 10) dX11_less_10 rfl (by first | exact rfl | exact j_nb _) ?_
    exact ⟨by simp [lessI, bI, *], rfl⟩
  · refine g_iload_n (pc := 5) dX11_less_5 rfl ?_
    refine g_goto (pc := 6) 10 dX11_less_6 (by decide) ?_
    refine g_ireturn (pc := 10) dX11_less_10 rfl (by first | exact rfl | exact j_nb _) ?_
    exact ⟨by simp [lessI, bI, *], rfl⟩
def moreI (a b : Int32) : Int32 := if a ≤ b then b else a
set_option maxHeartbeats 1000000 in
theorem c_more {E : jE} {d : Nat} {h : jH} (a b : Int32) : Ct E d 0 0 mX11_more [vI a, vI b] h (qR (some (vI (moreI a b))) h) := by
  refine ct_of (by decide) (Nat.le_of_ble_eq_true rfl) rfl ?_
  refine g_iload_n (pc := 0) dX11_more_0 rfl ?_
  refine g_iload_n (pc := 1) dX11_more_1 rfl ?_
  refine g_icmp_le (pc := 2) 9 dX11_more_2 (by decide) (fun c_2 => ?_) (fun c_2 => ?_)
  · refine g_iload_n (pc := 9) dX11_more_9 rfl ?_
    refine g_ireturn (pc := 10) dX11_more_10 rfl (by first | exact rfl | exact j_nb _) ?_
    exact ⟨by simp [moreI, bI, *], rfl⟩
  · refine g_iload_n (pc := 5) dX11_more_5 rfl ?_
    refine g_goto (pc := 6) 10 dX11_more_6 (by decide) ?_
    refine g_ireturn (pc := 10) dX11_more_10 rfl (by first | exact rfl | exact j_nb _) ?_
    exact ⟨by simp [moreI, bI, *], rfl⟩
def hasI (b k : Int32) : Bool := decide ((b >>> (k &&& 31)) &&& 1 = 1)
set_option maxHeartbeats 1000000 in
theorem c_has {E : jE} {d : Nat} {h : jH} (b k : Int32) : Ct E d 0 0 mX11_has [vI b, vI k] h (qR (some (vI (bI (hasI b k)))) h) := by
  refine ct_of (by decide) (Nat.le_of_ble_eq_true rfl) rfl ?_
  refine g_iload_n (pc := 0) dX11_has_0 rfl ?_
  refine g_iload_n (pc := 1) dX11_has_1 rfl ?_
  refine g_ishr (pc := 2) dX11_has_2 ?_
  refine g_iconst (pc := 3) (v := 1) dX11_has_3 (by decide) ?_
  refine g_iand (pc := 4) dX11_has_4 ?_
  refine g_iconst (pc := 5) (v := 1) dX11_has_5 (by decide) ?_
  refine g_icmp_ne (pc := 6) 13 dX11_has_6 (by decide) (fun c_6 => ?_) (fun c_6 => ?_)
  · refine g_iconst (pc := 13) (v := 0) dX11_has_13 (by decide) ?_
    refine g_ireturn (pc := 14) dX11_has_14 rfl (by first | exact rfl | exact j_nb _) ?_
    exact ⟨by simp [hasI, bI, *], rfl⟩
  · refine g_iconst (pc := 9) (v := 1) dX11_has_9 (by decide) ?_
    refine g_goto (pc := 10) 14 dX11_has_10 (by decide) ?_
    refine g_ireturn (pc := 14) dX11_has_14 rfl (by first | exact rfl | exact j_nb _) ?_
    exact ⟨by simp [hasI, bI, *], rfl⟩
def dgI (c : Int32) : Bool := !(decide (c < 48)) && !(decide (57 < c))
set_option maxHeartbeats 1000000 in
theorem c_isDigit {E : jE} {d : Nat} {h : jH} (c : Int32) : Ct E d 0 0 mX11_isDigit [vI c] h (qR (some (vI (bI (dgI c)))) h) := by
  refine ct_of (by decide) (Nat.le_of_ble_eq_true rfl) rfl ?_
  refine g_iload_n (pc := 0) dX11_isDigit_0 rfl ?_
  refine g_bipush (pc := 1) (v := 48) dX11_isDigit_1 (by decide) ?_
  refine g_icmp_lt (pc := 3) 16 dX11_isDigit_3 (by decide) (fun c_3 => ?_) (fun c_3 => ?_)
  · refine g_iconst (pc := 16) (v := 0) dX11_isDigit_16 (by decide) ?_
    refine g_ireturn (pc := 17) dX11_isDigit_17 rfl (by first | exact rfl | exact j_nb _) ?_
    exact ⟨by simp [dgI, bI, *], rfl⟩
  · refine g_iload_n (pc := 6) dX11_isDigit_6 rfl ?_
    refine g_bipush (pc := 7) (v := 57) dX11_isDigit_7 (by decide) ?_
    refine g_icmp_gt (pc := 9) 16 dX11_isDigit_9 (by decide) (fun c_9 => ?_) (fun c_9 => ?_)
    · refine g_iconst (pc := 16) (v := 0) dX11_isDigit_16 (by decide) ?_
      refine g_ireturn (pc := 17) dX11_isDigit_17 rfl (by first | exact rfl | exact j_nb _) ?_
      exact ⟨by simp [dgI, bI, *], rfl⟩
    · refine g_iconst (pc := 12) (v := 1) dX11_isDigit_12 (by decide) ?_
      refine g_goto (pc := 13) 17 dX11_isDigit_13 (by decide) ?_
      refine g_ireturn (pc := 17) dX11_isDigit_17 rfl (by first | exact rfl | exact j_nb _) ?_
      exact ⟨by simp [dgI, bI, *], rfl⟩
def smI (c : Int32) : Bool := !(decide (c < 97)) && !(decide (122 < c))
set_option maxHeartbeats 1000000 in
theorem c_isSmall {E : jE} {d : Nat} {h : jH} (c : Int32) : Ct E d 0 0 mX11_isSmall [vI c] h (qR (some (vI (bI (smI c)))) h) := by
  refine ct_of (by decide) (Nat.le_of_ble_eq_true rfl) rfl ?_
  refine g_iload_n (pc := 0) dX11_isSmall_0 rfl ?_
  refine g_bipush (pc := 1) (v := 97) dX11_isSmall_1 (by decide) ?_
  refine g_icmp_lt (pc := 3) 16 dX11_isSmall_3 (by decide) (fun c_3 => ?_) (fun c_3 => ?_)
  · refine g_iconst (pc := 16) (v := 0) dX11_isSmall_16 (by decide) ?_
    refine g_ireturn (pc := 17) dX11_isSmall_17 rfl (by first | exact rfl | exact j_nb _) ?_
    exact ⟨by simp [smI, bI, *], rfl⟩
  · refine g_iload_n (pc := 6) dX11_isSmall_6 rfl ?_
    refine g_bipush (pc := 7) (v := 122) dX11_isSmall_7 (by decide) ?_
    refine g_icmp_gt (pc := 9) 16 dX11_isSmall_9 (by decide) (fun c_9 => ?_) (fun c_9 => ?_)
    · refine g_iconst (pc := 16) (v := 0) dX11_isSmall_16 (by decide) ?_
      refine g_ireturn (pc := 17) dX11_isSmall_17 rfl (by first | exact rfl | exact j_nb _) ?_
      exact ⟨by simp [smI, bI, *], rfl⟩
    · refine g_iconst (pc := 12) (v := 1) dX11_isSmall_12 (by decide) ?_
      refine g_goto (pc := 13) 17 dX11_isSmall_13 (by decide) ?_
      refine g_ireturn (pc := 17) dX11_isSmall_17 rfl (by first | exact rfl | exact j_nb _) ?_
      exact ⟨by simp [smI, bI, *], rfl⟩
def mostI (k : Int32) : Int32 := if k = 1 then 10 else 8
set_option maxHeartbeats 1000000 in
theorem c_mostOf {E : jE} {d : Nat} {h : jH} (k : Int32) : Ct E d 0 0 mX11_mostOf [vI k] h (qR (some (vI (mostI k))) h) := by
  refine ct_of (by decide) (Nat.le_of_ble_eq_true rfl) rfl ?_
  refine g_iload_n (pc := 0) dX11_mostOf_0 rfl ?_
  refine g_iconst (pc := 1) (v := 1) dX11_mostOf_1 (by decide) ?_
  refine g_icmp_ne (pc := 2) 10 dX11_mostOf_2 (by decide) (fun c_2 => ?_) (fun c_2 => ?_)
  · refine g_bipush (pc := 10) (v := 8) dX11_mostOf_10 (by decide) ?_
    refine g_ireturn (pc := 12) dX11_mostOf_12 rfl (by first | exact rfl | exact j_nb _) ?_
    exact ⟨by simp [mostI, bI, *], rfl⟩
  · refine g_bipush (pc := 5) (v := 10) dX11_mostOf_5 (by decide) ?_
    refine g_goto (pc := 7) 12 dX11_mostOf_7 (by decide) ?_
    refine g_ireturn (pc := 12) dX11_mostOf_12 rfl (by first | exact rfl | exact j_nb _) ?_
    exact ⟨by simp [mostI, bI, *], rfl⟩
def sixI (a b c e f g : Int32) : Int32 :=
  let v := 27 * (27 * a + b) + c
  let v := if e = 0 then v else 27 * v + e
  let v := if f = 0 then v else 27 * v + f
  if g = 0 then v else 27 * v + g
set_option maxHeartbeats 1000000 in
theorem c_six {E : jE} {d : Nat} {h : jH} (a b c e f g : Int32) : Ct E d 0 0 mX11_six [vI a, vI b, vI c, vI e, vI f, vI g] h (qR (some (vI (sixI a b c e f g))) h) := by
  refine ct_of (by decide) (Nat.le_of_ble_eq_true rfl) rfl ?_
  refine g_bipush (pc := 0) (v := 27) dX11_six_0 (by decide) ?_
  refine g_bipush (pc := 2) (v := 27) dX11_six_2 (by decide) ?_
  refine g_iload_n (pc := 4) dX11_six_4 rfl ?_
  refine g_imul (pc := 5) dX11_six_5 ?_
  refine g_iload_n (pc := 6) dX11_six_6 rfl ?_
  refine g_iadd (pc := 7) dX11_six_7 ?_
  refine g_imul (pc := 8) dX11_six_8 ?_
  refine g_iload_n (pc := 9) dX11_six_9 rfl ?_
  refine g_iadd (pc := 10) dX11_six_10 ?_
  refine g_istore (pc := 11) (ls' := [_, _, _, _, _, _, _]) dX11_six_11 (by decide) rfl rfl ?_
  refine g_iload_n (pc := 13) dX11_six_13 rfl ?_
  refine g_if_ne (pc := 14) 22 dX11_six_14 (by decide) (fun c_14 => ?_) (fun c_14 => ?_)
  · refine g_bipush (pc := 22) (v := 27) dX11_six_22 (by decide) ?_
    refine g_iload (pc := 24) dX11_six_24 rfl ?_
    refine g_imul (pc := 26) dX11_six_26 ?_
    refine g_iload_n (pc := 27) dX11_six_27 rfl ?_
    refine g_iadd (pc := 28) dX11_six_28 ?_
    refine g_istore (pc := 29) (ls' := [_, _, _, _, _, _, _]) dX11_six_29 (by decide) rfl rfl ?_
    refine g_iload (pc := 31) dX11_six_31 rfl ?_
    refine g_if_ne (pc := 33) 41 dX11_six_33 (by decide) (fun c_33 => ?_) (fun c_33 => ?_)
    · refine g_bipush (pc := 41) (v := 27) dX11_six_41 (by decide) ?_
      refine g_iload (pc := 43) dX11_six_43 rfl ?_
      refine g_imul (pc := 45) dX11_six_45 ?_
      refine g_iload (pc := 46) dX11_six_46 rfl ?_
      refine g_iadd (pc := 48) dX11_six_48 ?_
      refine g_istore (pc := 49) (ls' := [_, _, _, _, _, _, _]) dX11_six_49 (by decide) rfl rfl ?_
      refine g_iload (pc := 51) dX11_six_51 rfl ?_
      refine g_if_ne (pc := 53) 61 dX11_six_53 (by decide) (fun c_53 => ?_) (fun c_53 => ?_)
      · refine g_bipush (pc := 61) (v := 27) dX11_six_61 (by decide) ?_
        refine g_iload (pc := 63) dX11_six_63 rfl ?_
        refine g_imul (pc := 65) dX11_six_65 ?_
        refine g_iload (pc := 66) dX11_six_66 rfl ?_
        refine g_iadd (pc := 68) dX11_six_68 ?_
        refine g_ireturn (pc := 69) dX11_six_69 rfl (by first | exact rfl | exact j_nb _) ?_
        exact ⟨by simp [sixI, bI, *], rfl⟩
      · refine g_iload (pc := 56) dX11_six_56 rfl ?_
        refine g_goto (pc := 58) 69 dX11_six_58 (by decide) ?_
        refine g_ireturn (pc := 69) dX11_six_69 rfl (by first | exact rfl | exact j_nb _) ?_
        exact ⟨by simp [sixI, bI, *], rfl⟩
    · refine g_iload (pc := 36) dX11_six_36 rfl ?_
      refine g_goto (pc := 38) 49 dX11_six_38 (by decide) ?_
      refine g_istore (pc := 49) (ls' := [_, _, _, _, _, _, _]) dX11_six_49 (by decide) rfl rfl ?_
      refine g_iload (pc := 51) dX11_six_51 rfl ?_
      refine g_if_ne (pc := 53) 61 dX11_six_53 (by decide) (fun c_53 => ?_) (fun c_53 => ?_)
      · refine g_bipush (pc := 61) (v := 27) dX11_six_61 (by decide) ?_
        refine g_iload (pc := 63) dX11_six_63 rfl ?_
        refine g_imul (pc := 65) dX11_six_65 ?_
        refine g_iload (pc := 66) dX11_six_66 rfl ?_
        refine g_iadd (pc := 68) dX11_six_68 ?_
        refine g_ireturn (pc := 69) dX11_six_69 rfl (by first | exact rfl | exact j_nb _) ?_
        exact ⟨by simp [sixI, bI, *], rfl⟩
      · refine g_iload (pc := 56) dX11_six_56 rfl ?_
        refine g_goto (pc := 58) 69 dX11_six_58 (by decide) ?_
        refine g_ireturn (pc := 69) dX11_six_69 rfl (by first | exact rfl | exact j_nb _) ?_
        exact ⟨by simp [sixI, bI, *], rfl⟩
  · refine g_iload (pc := 17) dX11_six_17 rfl ?_
    refine g_goto (pc := 19) 29 dX11_six_19 (by decide) ?_
    refine g_istore (pc := 29) (ls' := [_, _, _, _, _, _, _]) dX11_six_29 (by decide) rfl rfl ?_
    refine g_iload (pc := 31) dX11_six_31 rfl ?_
    refine g_if_ne (pc := 33) 41 dX11_six_33 (by decide) (fun c_33 => ?_) (fun c_33 => ?_)
    · refine g_bipush (pc := 41) (v := 27) dX11_six_41 (by decide) ?_
      refine g_iload (pc := 43) dX11_six_43 rfl ?_
      refine g_imul (pc := 45) dX11_six_45 ?_
      refine g_iload (pc := 46) dX11_six_46 rfl ?_
      refine g_iadd (pc := 48) dX11_six_48 ?_
      refine g_istore (pc := 49) (ls' := [_, _, _, _, _, _, _]) dX11_six_49 (by decide) rfl rfl ?_
      refine g_iload (pc := 51) dX11_six_51 rfl ?_
      refine g_if_ne (pc := 53) 61 dX11_six_53 (by decide) (fun c_53 => ?_) (fun c_53 => ?_)
      · refine g_bipush (pc := 61) (v := 27) dX11_six_61 (by decide) ?_
        refine g_iload (pc := 63) dX11_six_63 rfl ?_
        refine g_imul (pc := 65) dX11_six_65 ?_
        refine g_iload (pc := 66) dX11_six_66 rfl ?_
        refine g_iadd (pc := 68) dX11_six_68 ?_
        refine g_ireturn (pc := 69) dX11_six_69 rfl (by first | exact rfl | exact j_nb _) ?_
        exact ⟨by simp [sixI, bI, *], rfl⟩
      · refine g_iload (pc := 56) dX11_six_56 rfl ?_
        refine g_goto (pc := 58) 69 dX11_six_58 (by decide) ?_
        refine g_ireturn (pc := 69) dX11_six_69 rfl (by first | exact rfl | exact j_nb _) ?_
        exact ⟨by simp [sixI, bI, *], rfl⟩
    · refine g_iload (pc := 36) dX11_six_36 rfl ?_
      refine g_goto (pc := 38) 49 dX11_six_38 (by decide) ?_
      refine g_istore (pc := 49) (ls' := [_, _, _, _, _, _, _]) dX11_six_49 (by decide) rfl rfl ?_
      refine g_iload (pc := 51) dX11_six_51 rfl ?_
      refine g_if_ne (pc := 53) 61 dX11_six_53 (by decide) (fun c_53 => ?_) (fun c_53 => ?_)
      · refine g_bipush (pc := 61) (v := 27) dX11_six_61 (by decide) ?_
        refine g_iload (pc := 63) dX11_six_63 rfl ?_
        refine g_imul (pc := 65) dX11_six_65 ?_
        refine g_iload (pc := 66) dX11_six_66 rfl ?_
        refine g_iadd (pc := 68) dX11_six_68 ?_
        refine g_ireturn (pc := 69) dX11_six_69 rfl (by first | exact rfl | exact j_nb _) ?_
        exact ⟨by simp [sixI, bI, *], rfl⟩
      · refine g_iload (pc := 56) dX11_six_56 rfl ?_
        refine g_goto (pc := 58) 69 dX11_six_58 (by decide) ?_
        refine g_ireturn (pc := 69) dX11_six_69 rfl (by first | exact rfl | exact j_nb _) ?_
        exact ⟨by simp [sixI, bI, *], rfl⟩
section
variable {E : jE} {d : Nat} {h : jH} {am : Nat → Nat} {V : mV}
theorem c_thrown (hI : InvM am V h) : Ct E d 0 0 mX11_thrown [vR (nMo am)] h (qR (some (vI (V 0 0))) h) := by
  refine ct_of (by decide) (Nat.le_of_ble_eq_true rfl) rfl ?_
  refine g_aload_n (pc := 0) dX11_thrown_0 rfl ?_
  refine g_getfield (pc := 1) f_X11_103_11 dX11_thrown_1 hI.1 mf_0 ?_
  refine g_ireturn (pc := 4) dX11_thrown_4 rfl (by first | exact rfl | exact j_nb _) ?_
  exact ⟨rfl, rfl⟩
def mWrong (V : mV) (a b : Int32) : mV := if V 0 5 = 0 then sv (sv V 0 5 a) 0 6 b else V
theorem c_wrong (hI : InvM am V h) (a b : Int32) : Ct E d 0 0 mX11_wrong [vR (nMo am), vI a, vI b] h (mQ am (mWrong V a b) h none) := by
  refine ct_of (by decide) (Nat.le_of_ble_eq_true rfl) rfl ?_
  have hF : mFr h h := mFr.rf
  refine g_aload_n (pc := 0) dX11_wrong_0 rfl ?_
  refine g_getfield (pc := 1) f_X11_119_11 dX11_wrong_1 hI.1 mf_5 ?_
  refine g_if_ne (pc := 4) 17 dX11_wrong_4 (by decide) (fun c_4 => ?_) (fun c_4 => ?_)
  · refine g_return (pc := 17) dX11_wrong_17 rfl ?_
    refine ⟨rfl, ?_, hF⟩
    first | (rw [show mWrong V a b = sv (sv V 0 5 a) 0 6 b by unfold mWrong; rw [if_pos (by assumption)]]; exact hI) | (rw [show mWrong V a b = V by unfold mWrong; rw [if_neg (by assumption)]]; exact hI)
  · refine g_aload_n (pc := 7) dX11_wrong_7 rfl ?_
    refine g_iload_n (pc := 8) dX11_wrong_8 rfl ?_
    refine m_put (pc := 9) hI w_X11_119_11 rfl (by decide) dX11_wrong_9 (fun h hI fr => ?_)
    replace hF := mFr.tr hF fr
    refine g_aload_n (pc := 12) dX11_wrong_12 rfl ?_
    refine g_iload_n (pc := 13) dX11_wrong_13 rfl ?_
    refine m_put (pc := 14) hI w_X11_122_11 rfl (by decide) dX11_wrong_14 (fun h hI fr => ?_)
    replace hF := mFr.tr hF fr
    refine g_return (pc := 17) dX11_wrong_17 rfl ?_
    refine ⟨rfl, ?_, hF⟩
    first | (rw [show mWrong V a b = sv (sv V 0 5 a) 0 6 b by unfold mWrong; rw [if_pos (by assumption)]]; exact hI) | (rw [show mWrong V a b = V by unfold mWrong; rw [if_neg (by assumption)]]; exact hI)
def mBad (V : mV) (q : Bool) (w : Int32) (r : Nat) : mV := if q = true ∧ V 0 0 = 0 then sv (sv V 0 0 w) 10 r (sv V 0 0 w 10 r + 1) else V
theorem c_bad (hI : InvM am V h) (q : Bool) (w : Int32) (r : Nat) (hr : r < 2) : Ct E d 0 0 mX11_bad [vR (nMo am), vI (bI q), vI w, vI (nI r)] h (mQ am (mBad V q w r) h (some (vI (bI (decide (mBad V q w r 0 0 ≠ 0)))))) := by
  refine ct_of (by decide) (Nat.le_of_ble_eq_true rfl) rfl ?_
  have hF : mFr h h := mFr.rf
  refine g_iload_n (pc := 0) dX11_bad_0 rfl ?_
  refine g_ifB_eq (pc := 1) 26 dX11_bad_1 (by decide) (fun c_1 => ?_) (fun c_1 => ?_)
  · refine g_aload_n (pc := 26) dX11_bad_26 rfl ?_
    refine g_getfield (pc := 27) f_X11_103_11 dX11_bad_27 hI.1 mf_0 ?_
    refine g_if_eq (pc := 30) 37 dX11_bad_30 (by decide) (fun c_30 => ?_) (fun c_30 => ?_)
    · refine g_iconst (pc := 37) (v := 0) dX11_bad_37 (by decide) ?_
      refine g_ireturn (pc := 38) dX11_bad_38 rfl (by first | exact rfl | exact j_nb _) ?_
      first
        | exact absurd c_30 c_8
        | (have e : mBad V q w r = V := by unfold mBad; rw [if_neg (by simp [*])]
           exact ⟨by rw [e]; simp [bI, c_30], by rw [e]; exact hI, hF⟩)
        | (have e : mBad V q w r = sv (sv V 0 0 w) 10 r (sv V 0 0 w 10 r + 1) := by unfold mBad; rw [if_pos ⟨by assumption, by assumption⟩]
           exact ⟨by rw [e]; simp [bI, c_30], by rw [e]; exact hI, hF⟩)
    · refine g_iconst (pc := 33) (v := 1) dX11_bad_33 (by decide) ?_
      refine g_goto (pc := 34) 38 dX11_bad_34 (by decide) ?_
      refine g_ireturn (pc := 38) dX11_bad_38 rfl (by first | exact rfl | exact j_nb _) ?_
      first
        | exact absurd c_30 c_8
        | (have e : mBad V q w r = V := by unfold mBad; rw [if_neg (by simp [*])]
           exact ⟨by rw [e]; simp [bI, c_30], by rw [e]; exact hI, hF⟩)
        | (have e : mBad V q w r = sv (sv V 0 0 w) 10 r (sv V 0 0 w 10 r + 1) := by unfold mBad; rw [if_pos ⟨by assumption, by assumption⟩]
           exact ⟨by rw [e]; simp [bI, c_30], by rw [e]; exact hI, hF⟩)
  · refine g_aload_n (pc := 4) dX11_bad_4 rfl ?_
    refine g_getfield (pc := 5) f_X11_103_11 dX11_bad_5 hI.1 mf_0 ?_
    refine g_if_ne (pc := 8) 26 dX11_bad_8 (by decide) (fun c_8 => ?_) (fun c_8 => ?_)
    · refine g_aload_n (pc := 26) dX11_bad_26 rfl ?_
      refine g_getfield (pc := 27) f_X11_103_11 dX11_bad_27 hI.1 mf_0 ?_
      refine g_if_eq (pc := 30) 37 dX11_bad_30 (by decide) (fun c_30 => ?_) (fun c_30 => ?_)
      · refine g_iconst (pc := 37) (v := 0) dX11_bad_37 (by decide) ?_
        refine g_ireturn (pc := 38) dX11_bad_38 rfl (by first | exact rfl | exact j_nb _) ?_
        first
          | exact absurd c_30 c_8
          | (have e : mBad V q w r = V := by unfold mBad; rw [if_neg (by simp [*])]
             exact ⟨by rw [e]; simp [bI, c_30], by rw [e]; exact hI, hF⟩)
          | (have e : mBad V q w r = sv (sv V 0 0 w) 10 r (sv V 0 0 w 10 r + 1) := by unfold mBad; rw [if_pos ⟨by assumption, by assumption⟩]
             exact ⟨by rw [e]; simp [bI, c_30], by rw [e]; exact hI, hF⟩)
      · refine g_iconst (pc := 33) (v := 1) dX11_bad_33 (by decide) ?_
        refine g_goto (pc := 34) 38 dX11_bad_34 (by decide) ?_
        refine g_ireturn (pc := 38) dX11_bad_38 rfl (by first | exact rfl | exact j_nb _) ?_
        first
          | exact absurd c_30 c_8
          | (have e : mBad V q w r = V := by unfold mBad; rw [if_neg (by simp [*])]
             exact ⟨by rw [e]; simp [bI, c_30], by rw [e]; exact hI, hF⟩)
          | (have e : mBad V q w r = sv (sv V 0 0 w) 10 r (sv V 0 0 w 10 r + 1) := by unfold mBad; rw [if_pos ⟨by assumption, by assumption⟩]
             exact ⟨by rw [e]; simp [bI, c_30], by rw [e]; exact hI, hF⟩)
    · refine g_aload_n (pc := 11) dX11_bad_11 rfl ?_
      refine g_iload_n (pc := 12) dX11_bad_12 rfl ?_
      refine m_put (pc := 13) hI w_X11_103_11 rfl (by decide) dX11_bad_13 (fun h hI fr => ?_)
      replace hF := mFr.tr hF fr
      refine g_aload_n (pc := 16) dX11_bad_16 rfl ?_
      refine g_getfield (pc := 17) f_X11_17_11 dX11_bad_17 hI.1 mf_10 ?_
      refine g_iload_n (pc := 20) dX11_bad_20 rfl ?_
      refine g_dup2 (pc := 21) dX11_bad_21 rfl rfl ?_
      refine g_iaload (pc := 22) dX11_bad_22 (mA hI 10 2 rfl (by decide)) rfl (by omega) (by decide) rfl ?_
      refine g_iconst (pc := 23) (v := 1) dX11_bad_23 (by decide) ?_
      refine g_iadd (pc := 24) dX11_bad_24 ?_
      refine m_iast (pc := 25) (k := 10) (n := 2) hI rfl (by decide) dX11_bad_25 rfl (by omega) (by decide) (fun h hI fr => ?_)
      replace hF := mFr.tr hF fr
      refine g_aload_n (pc := 26) dX11_bad_26 rfl ?_
      refine g_getfield (pc := 27) f_X11_103_11 dX11_bad_27 hI.1 mf_0 ?_
      refine g_if_eq (pc := 30) 37 dX11_bad_30 (by decide) (fun c_30 => ?_) (fun c_30 => ?_)
      · refine g_iconst (pc := 37) (v := 0) dX11_bad_37 (by decide) ?_
        refine g_ireturn (pc := 38) dX11_bad_38 rfl (by first | exact rfl | exact j_nb _) ?_
        first
          | exact absurd c_30 c_8
          | (have e : mBad V q w r = V := by unfold mBad; rw [if_neg (by simp [*])]
             exact ⟨by rw [e]; simp [bI, c_30], by rw [e]; exact hI, hF⟩)
          | (have e : mBad V q w r = sv (sv V 0 0 w) 10 r (sv V 0 0 w 10 r + 1) := by unfold mBad; rw [if_pos ⟨by assumption, by assumption⟩]
             exact ⟨by rw [e]; simp [bI, c_30], by rw [e]; exact hI, hF⟩)
      · refine g_iconst (pc := 33) (v := 1) dX11_bad_33 (by decide) ?_
        refine g_goto (pc := 34) 38 dX11_bad_34 (by decide) ?_
        refine g_ireturn (pc := 38) dX11_bad_38 rfl (by first | exact rfl | exact j_nb _) ?_
        first
          | exact absurd c_30 c_8
          | (have e : mBad V q w r = V := by unfold mBad; rw [if_neg (by simp [*])]
             exact ⟨by rw [e]; simp [bI, c_30], by rw [e]; exact hI, hF⟩)
          | (have e : mBad V q w r = sv (sv V 0 0 w) 10 r (sv V 0 0 w 10 r + 1) := by unfold mBad; rw [if_pos ⟨by assumption, by assumption⟩]
             exact ⟨by rw [e]; simp [bI, c_30], by rw [e]; exact hI, hF⟩)
def TX (V : mV) (t : Nat → Nat) : Prop := ∀ k, k < 600 → V 9 k = nI (t k) ∧ t k < 256
def bN (t : Nat → Nat) (n k : Nat) : Int32 := if k < n then nI (t k) else -1
theorem c_byteAt (hI : InvM am V h) {t : Nat → Nat} {n k : Nat} (hT : TX V t) (hs : V 0 2 = nI n) (hn : n ≤ 600) (hk : k < 2 ^ 30) : Ct E d 0 0 mX11_byteAt [vR (nMo am), vI (nI k)] h (qR (some (vI (bN t n k))) h) := by
  refine ct_of (by decide) (Nat.le_of_ble_eq_true rfl) rfl ?_
  refine g_iload_n (pc := 0) dX11_byteAt_0 rfl ?_
  refine g_aload_n (pc := 1) dX11_byteAt_1 rfl ?_
  refine g_getfield (pc := 2) f_X11_109_11 dX11_byteAt_2 hI.1 mf_2 ?_
  refine g_icmp_lt (pc := 5) 12 dX11_byteAt_5 (by decide) (fun c_5 => ?_) (fun c_5 => ?_)
  · have hkn : k < n := (nI_ltI (by omega) (by omega)).mp (by rw [← hs]; exact c_5)
    refine g_aload_n (pc := 12) dX11_byteAt_12 rfl ?_
    refine g_getfield (pc := 13) f_X11_13_11 dX11_byteAt_13 hI.1 mf_9 ?_
    refine g_iload_n (pc := 16) dX11_byteAt_16 rfl ?_
    refine g_iaload (pc := 17) dX11_byteAt_17 (mA hI 9 600 rfl (by decide)) rfl (by omega) (by decide) rfl ?_
    refine g_ireturn (pc := 18) dX11_byteAt_18 rfl (by first | exact rfl | exact j_nb _) ?_
    exact ⟨by first | (unfold bN; rw [if_pos hkn, (hT k (by omega)).1]; done) | (unfold bN; rw [if_neg hkn]), rfl⟩
  · have hkn : ¬ k < n := fun q => c_5 (by rw [hs]; exact nI_lt q (by omega))
    refine g_iconst (pc := 8) (v := -1) dX11_byteAt_8 (by decide) ?_
    refine g_goto (pc := 9) 18 dX11_byteAt_9 (by decide) ?_
    refine g_ireturn (pc := 18) dX11_byteAt_18 rfl (by first | exact rfl | exact j_nb _) ?_
    exact ⟨by first | (unfold bN; rw [if_pos hkn, (hT k (by omega)).1]; done) | (unfold bN; rw [if_neg hkn]), rfl⟩
def blF (t : Nat → Nat) : Nat → Nat → Nat
  | 0, a => a
  | m + 1, a => if t a = 32 then blF t m (a + 1) else a
def bl (t : Nat → Nat) (n a : Nat) : Nat := blF t (n - a) a
theorem sv_self {V : mV} {r j : Nat} : sv V r j (V r j) = V := by
  funext q i
  by_cases e : q = r
  · subst e
    by_cases e2 : i = j
    · subst e2; rw [sv_same]
    · rw [sv_nj e2]
  · rw [sv_ne e]
theorem sv_sv {V : mV} {r j : Nat} {x y : Int32} : sv (sv V r j x) r j y = sv V r j y := by
  funext q i
  by_cases e : q = r
  · subst e
    by_cases e2 : i = j
    · subst e2; rw [sv_same, sv_same]
    · rw [sv_nj e2, sv_nj e2, sv_nj e2]
  · rw [sv_ne e, sv_ne e, sv_ne e]
theorem TX.sv {V : mV} {t : Nat → Nat} {r j : Nat} {y : Int32} (h : TX V t) (hr : r ≠ 9) : TX (sv V r j y) t := fun k hk => by rw [sv_ne (fun e => hr e.symm)]; exact h k hk
theorem bN_32 {t : Nat → Nat} {n k : Nat} (h : bN t n k = 32) (hb : k < n → t k < 256) : k < n ∧ t k = 32 := by
  unfold bN at h
  by_cases q : k < n
  · rw [if_pos q] at h
    exact ⟨q, (nI_eq (by have := hb q; omega) (by decide)).mp (h.trans rfl)⟩
  · rw [if_neg q] at h
    exact absurd h (by decide)
set_option maxHeartbeats 1000000 in
theorem l_blanks {t : Nat → Nat} {n : Nat} {h0 : jH} {bc bs : Nat} (hd : 1 ≤ d) (hn : n ≤ 600) : ∀ (m a : Nat) (V : mV) (h : jH), n - a = m → a < 2 ^ 29 → InvM am V h → TX V t → V 0 2 = nI n → V 0 4 = nI a → mFr h0 h → G E d bc bs mX11_blanks 0 [some (vR (nMo am))] [] h (mQ am (sv V 0 4 (nI (blF t m a))) h0 none) := by
  intro m
  induction m with
  | zero =>
    intro a V h hm ha hI hT hs hat hF
    refine g_aload_n (pc := 0) dX11_blanks_0 rfl ?_
    refine g_aload_n (pc := 1) dX11_blanks_1 rfl ?_
    refine g_getfield (pc := 2) f_X11_112_11 dX11_blanks_2 hI.1 mf_4 ?_
    rw [hat]
    refine m_cP (pc := 5) (M' := mX11_byteAt) (as := [_]) i_X11_115_11 eX11_byteAt hI dX11_blanks_5 (c_byteAt hI hT hs hn (by omega)) (by omega) rfl rfl (Nat.le_of_ble_eq_true rfl) ?_
    refine g_bipush (pc := 8) (v := 32) dX11_blanks_8 (by decide) ?_
    refine g_icmp_ne (pc := 10) 26 dX11_blanks_10 (by decide) (fun c_10 => ?_) (fun c_10 => absurd (bN_32 c_10 (fun q => (hT _ (by omega)).2)).1 (by omega))
    refine g_return (pc := 26) dX11_blanks_26 rfl ?_
    refine ⟨rfl, ?_, hF⟩
    show InvM am (sv V 0 4 (nI a)) h
    rw [← hat, sv_self]
    exact hI
  | succ m ih =>
    intro a V h hm ha hI hT hs hat hF
    refine g_aload_n (pc := 0) dX11_blanks_0 rfl ?_
    refine g_aload_n (pc := 1) dX11_blanks_1 rfl ?_
    refine g_getfield (pc := 2) f_X11_112_11 dX11_blanks_2 hI.1 mf_4 ?_
    rw [hat]
    refine m_cP (pc := 5) (M' := mX11_byteAt) (as := [_]) i_X11_115_11 eX11_byteAt hI dX11_blanks_5 (c_byteAt hI hT hs hn (by omega)) (by omega) rfl rfl (Nat.le_of_ble_eq_true rfl) ?_
    refine g_bipush (pc := 8) (v := 32) dX11_blanks_8 (by decide) ?_
    refine g_icmp_ne (pc := 10) 26 dX11_blanks_10 (by decide) (fun c_10 => ?_) (fun c_10 => ?_)
    · refine g_return (pc := 26) dX11_blanks_26 rfl ?_
      refine ⟨rfl, ?_, hF⟩
      have q : blF t (m + 1) a = a := by
        show (if t a = 32 then _ else _) = _
        rw [if_neg]
        intro q
        exact c_10 (by unfold bN; rw [if_pos (by omega), q]; rfl)
      rw [q, ← hat, sv_self]
      exact hI
    · have q := (bN_32 c_10 (fun q => (hT _ (by omega)).2)).2
      refine g_aload_n (pc := 13) dX11_blanks_13 rfl ?_
      refine g_dup (pc := 14) dX11_blanks_14 rfl ?_
      refine g_getfield (pc := 15) f_X11_112_11 dX11_blanks_15 hI.1 mf_4 ?_
      refine g_iconst (pc := 18) (v := 1) dX11_blanks_18 (by decide) ?_
      refine g_iadd (pc := 19) dX11_blanks_19 ?_
      refine m_put (pc := 20) hI w_X11_112_11 rfl (by decide) dX11_blanks_20 (fun h hI fr => ?_)
      replace hF := mFr.tr hF fr
      refine g_goto (pc := 23) 0 dX11_blanks_23 (by decide) ?_
      have hV := ih (a + 1) _ h (by omega) (by omega) hI (hT.sv (by decide)) (by rw [sv_nj (by decide)]; exact hs) (by rw [sv_same, hat]; exact nI_1 a) hF
      rw [sv_sv] at hV
      rw [show blF t (m + 1) a = blF t m (a + 1) by show (if t a = 32 then _ else _) = _; rw [if_pos q]]
      exact hV
theorem c_blanks {t : Nat → Nat} {n a : Nat} (hd : 1 ≤ d) (hI : InvM am V h) (hT : TX V t) (hs : V 0 2 = nI n) (hn : n ≤ 600) (hat : V 0 4 = nI a) (ha : a < 2 ^ 29) : Ct E d 0 0 mX11_blanks [vR (nMo am)] h (mQ am (sv V 0 4 (nI (bl t n a))) h none) := ct_of (by decide) (Nat.le_of_ble_eq_true rfl) rfl (l_blanks hd hn (n - a) a V h rfl ha hI hT hs hat mFr.rf)
/-- reading: the text t of n bytes, at a -/
def PS (V : mV) (t : Nat → Nat) (n a : Nat) : Prop := TX V t ∧ V 0 2 = nI n ∧ n ≤ 600 ∧ V 0 4 = nI a ∧ a ≤ n
theorem PS.at {V : mV} {t : Nat → Nat} {n a b : Nat} (h : PS V t n a) (hb : b ≤ n) : PS (sv V 0 4 (nI b)) t n b := ⟨h.1.sv (by decide), by rw [sv_nj (by decide)]; exact h.2.1, h.2.2.1, sv_same, hb⟩
theorem PS.out {V : mV} {t : Nat → Nat} {n a r j : Nat} {y : Int32} (h : PS V t n a) (hr : r ≠ 9) (hj : r = 0 → j ≠ 2 ∧ j ≠ 4) : PS (sv V r j y) t n a := by
  refine ⟨h.1.sv hr, ?_, h.2.2.1, ?_, h.2.2.2.2⟩
  · by_cases e : r = 0
    · subst e; rw [sv_nj (fun q => (hj rfl).1 q.symm)]; exact h.2.1
    · rw [sv_ne (fun q => e q.symm)]; exact h.2.1
  · by_cases e : r = 0
    · subst e; rw [sv_nj (fun q => (hj rfl).2 q.symm)]; exact h.2.2.2.1
    · rw [sv_ne (fun q => e q.symm)]; exact h.2.2.2.1
theorem PS.byte {V : mV} {t : Nat → Nat} {n a k : Nat} (h : PS V t n a) (hk : k < n) : t k < 256 := (h.1 k (by have := h.2.2.1; omega)).2
theorem blF_le (t : Nat → Nat) : ∀ m a, a ≤ blF t m a ∧ blF t m a ≤ a + m
  | 0, a => ⟨Nat.le_refl _, Nat.le_refl _⟩
  | m + 1, a => by
    show a ≤ (if t a = 32 then blF t m (a + 1) else a) ∧ (if t a = 32 then blF t m (a + 1) else a) ≤ a + (m + 1)
    by_cases q : t a = 32
    · rw [if_pos q]
      have := blF_le t m (a + 1)
      omega
    · rw [if_neg q]
      omega
theorem bl_le {t : Nat → Nat} {n a : Nat} (h : a ≤ n) : a ≤ bl t n a ∧ bl t n a ≤ n := by
  have := blF_le t (n - a) a
  unfold bl
  omega
theorem cP_byteAt (hI : InvM am V h) {t : Nat → Nat} {n a k : Nat} (hp : PS V t n a) (hk : k < 2 ^ 30) : Ct E d 0 0 mX11_byteAt [vR (nMo am), vI (nI k)] h (qR (some (vI (bN t n k))) h) := c_byteAt hI hp.1 hp.2.1 hp.2.2.1 hk
theorem cP_blanks {t : Nat → Nat} {n a : Nat} (hd : 1 ≤ d) (hI : InvM am V h) (hp : PS V t n a) : Ct E d 0 0 mX11_blanks [vR (nMo am)] h (mQ am (sv V 0 4 (nI (bl t n a))) h none) := c_blanks hd hI hp.1 hp.2.1 hp.2.2.1 hp.2.2.2.1 (by have := hp.2.2; omega)
def isD (t : Nat → Nat) (n a : Nat) : Bool := decide (a < n ∧ 48 ≤ t a ∧ t a ≤ 57)
theorem dg_bN {t : Nat → Nat} {n k : Nat} (hb : k < n → t k < 256) : dgI (bN t n k) = isD t n k := by
  unfold dgI bN isD
  by_cases q : k < n
  · have hb := hb q
    rw [if_pos q, show (48 : Int32) = nI 48 from rfl, show (57 : Int32) = nI 57 from rfl]
    simp only [nI_ltI (show t k < 2 ^ 31 by omega) (show 48 < 2 ^ 31 by decide), nI_ltI (show 57 < 2 ^ 31 by decide) (show t k < 2 ^ 31 by omega)]
    simp [q]
    by_cases q1 : t k < 48 <;> by_cases q2 : 57 < t k <;> simp [q1, q2] <;> omega
  · rw [if_neg q]
    simp [q]
def isL (t : Nat → Nat) (n a : Nat) : Bool := decide (a < n ∧ 97 ≤ t a ∧ t a ≤ 122)
theorem sm_bN {t : Nat → Nat} {n k : Nat} (hb : k < n → t k < 256) : smI (bN t n k) = isL t n k := by
  unfold smI bN isL
  by_cases q : k < n
  · have hb := hb q
    rw [if_pos q, show (97 : Int32) = nI 97 from rfl, show (122 : Int32) = nI 122 from rfl]
    simp only [nI_ltI (show t k < 2 ^ 31 by omega) (show 97 < 2 ^ 31 by decide), nI_ltI (show 122 < 2 ^ 31 by decide) (show t k < 2 ^ 31 by omega)]
    simp [q]
    by_cases q1 : t k < 97 <;> by_cases q2 : 122 < t k <;> simp [q1, q2] <;> omega
  · rw [if_neg q]
    simp [q]
def nuF (t : Nat → Nat) : Nat → Nat → Nat → Nat × Nat
  | 0, a, v => (a, v)
  | m + 1, a, v => if 48 ≤ t a ∧ t a ≤ 57 then nuF t m (a + 1) (min (10 * v + (t a - 48)) 100000) else (a, v)
theorem nuF_le (t : Nat → Nat) : ∀ m a v, v ≤ 100000 → a ≤ (nuF t m a v).1 ∧ (nuF t m a v).1 ≤ a + m ∧ (nuF t m a v).2 ≤ 100000
  | 0, a, v, h => ⟨Nat.le_refl _, Nat.le_refl _, h⟩
  | m + 1, a, v, h => by
    unfold nuF
    by_cases q : 48 ≤ t a ∧ t a ≤ 57
    · rw [if_pos q]
      have := nuF_le t m (a + 1) (min (10 * v + (t a - 48)) 100000) (by omega)
      omega
    · rw [if_neg q]
      exact ⟨Nat.le_refl _, by show a ≤ a + (m + 1); omega, h⟩
theorem num_step {v c : Nat} (hc : 48 ≤ c) : (10 : Int32) * nI v + nI c - 48 = nI (10 * v + (c - 48)) := by
  rw [show (10 : Int32) = nI 10 from rfl, show (48 : Int32) = nI 48 from rfl, pk_mul, nI_add, pk_sub (by omega)]
  congr 1
  omega
set_option maxHeartbeats 2000000 in
theorem l_number {t : Nat → Nat} {n : Nat} {h0 : jH} {bc bs : Nat} {lo hi b : Int32} {Q : jR → jH → Prop} (hd : 1 ≤ d) : ∀ (m a v : Nat) (V : mV) (h : jH), n - a = m → PS V t n a → v ≤ 100000 → InvM am V h → mFr h0 h → (∀ h', InvM am (sv V 0 4 (nI (nuF t m a v).1)) h' → mFr h0 h' → G E d bc bs mX11_number 106 [some (vR (nMo am)), some (vI lo), some (vI hi), some (vI b), some (vI (nI (nuF t m a v).2))] [] h' Q) → G E d bc bs mX11_number 44 [some (vR (nMo am)), some (vI lo), some (vI hi), some (vI b), some (vI (nI v))] [] h Q := by
  intro m
  induction m with
  | zero =>
    intro a v V h hm hp hv hI hF k
    refine g_aload_n (pc := 44) dX11_number_44 rfl ?_
    refine g_aload_n (pc := 45) dX11_number_45 rfl ?_
    refine g_getfield (pc := 46) f_X11_112_11 dX11_number_46 hI.1 mf_4 ?_
    rw [hp.2.2.2.1]
    refine m_cP (pc := 49) (M' := mX11_byteAt) (as := [_]) i_X11_115_11 eX11_byteAt hI dX11_number_49 (cP_byteAt hI hp (by have := hp.2.2; omega)) (by omega) rfl rfl (Nat.le_of_ble_eq_true rfl) ?_
    refine g_cS (pc := 52) (M' := mX11_isDigit) (as := [_]) i_X11_128 eX11_isDigit dX11_number_52 (c_isDigit _) (by omega) rfl rfl (Nat.le_of_ble_eq_true rfl) ?_
    refine g_ifB_eq (pc := 55) 106 dX11_number_55 (by decide) (fun c_55 => ?_) (fun c_55 => absurd c_55 (by rw [dg_bN (fun q => hp.byte q)]; unfold isD; simp; omega))
    refine k h ?_ hF
    show InvM am (sv V 0 4 (nI a)) h
    rw [← hp.2.2.2.1, sv_self]
    exact hI
  | succ m ih =>
    intro a v V h hm hp hv hI hF k
    refine g_aload_n (pc := 44) dX11_number_44 rfl ?_
    refine g_aload_n (pc := 45) dX11_number_45 rfl ?_
    refine g_getfield (pc := 46) f_X11_112_11 dX11_number_46 hI.1 mf_4 ?_
    rw [hp.2.2.2.1]
    refine m_cP (pc := 49) (M' := mX11_byteAt) (as := [_]) i_X11_115_11 eX11_byteAt hI dX11_number_49 (cP_byteAt hI hp (by have := hp.2.2; omega)) (by omega) rfl rfl (Nat.le_of_ble_eq_true rfl) ?_
    refine g_cS (pc := 52) (M' := mX11_isDigit) (as := [_]) i_X11_128 eX11_isDigit dX11_number_52 (c_isDigit _) (by omega) rfl rfl (Nat.le_of_ble_eq_true rfl) ?_
    refine g_ifB_eq (pc := 55) 106 dX11_number_55 (by decide) (fun c_55 => ?_) (fun c_55 => ?_)
    · have q := c_55
      rw [dg_bN (fun q => hp.byte q)] at q
      have e2 : nuF t (m + 1) a v = (a, v) := by
        show (if _ then _ else _) = _
        rw [if_neg]
        intro w
        have : isD t n a = true := by unfold isD; exact decide_eq_true ⟨by omega, w⟩
        rw [this] at q
        cases q
      rw [e2] at k
      refine k h ?_ hF
      rw [← hp.2.2.2.1, sv_self]
      exact hI
    · have q := c_55
      rw [dg_bN (fun q => hp.byte q)] at q
      have q' : a < n ∧ 48 ≤ t a ∧ t a ≤ 57 := by simpa [isD] using q
      have hbt : t a < 256 := hp.byte q'.1
      refine g_bipush (pc := 58) (v := 10) dX11_number_58 (by decide) ?_
      refine g_iload (pc := 60) dX11_number_60 rfl ?_
      refine g_imul (pc := 62) dX11_number_62 ?_
      refine g_aload_n (pc := 63) dX11_number_63 rfl ?_
      refine g_aload_n (pc := 64) dX11_number_64 rfl ?_
      refine g_getfield (pc := 65) f_X11_112_11 dX11_number_65 hI.1 mf_4 ?_
      rw [hp.2.2.2.1]
      refine m_cP (pc := 68) (M' := mX11_byteAt) (as := [_]) i_X11_115_11 eX11_byteAt hI dX11_number_68 (cP_byteAt hI hp (by have := hp.2.2; omega)) (by omega) rfl rfl (Nat.le_of_ble_eq_true rfl) ?_
      refine g_iadd (pc := 71) dX11_number_71 ?_
      rw [show bN t n a = nI (t a) by unfold bN; rw [if_pos q'.1]]
      refine g_bipush (pc := 72) (v := 48) dX11_number_72 (by decide) ?_
      refine g_isub (pc := 74) dX11_number_74 ?_
      rw [num_step q'.2.1]
      refine g_istore (pc := 75) (ls' := [_, _, _, _, _]) dX11_number_75 (by decide) rfl rfl ?_
      refine g_iload (pc := 77) dX11_number_77 rfl ?_
      refine g_ldc (pc := 79) (v := 100000) dX11_number_79 q2219 ?_
      refine g_icmp_le (pc := 81) 89 dX11_number_81 (by decide) (fun c_81 => ?_) (fun c_81 => ?_)
      · have qv : 10 * v + (t a - 48) ≤ 100000 := (nI_leI (b := 100000) (by omega) (by decide)).mp c_81
        refine (fun (e : min (10 * v + (t a - 48)) 100000 = 10 * v + (t a - 48)) => ?_) (by omega)
        refine g_iload (pc := 89) dX11_number_89 rfl ?_
        refine g_istore (pc := 91) (ls' := [_, _, _, _, _]) dX11_number_91 (by decide) rfl rfl ?_
        refine g_aload_n (pc := 93) dX11_number_93 rfl ?_
        refine g_dup (pc := 94) dX11_number_94 rfl ?_
        refine g_getfield (pc := 95) f_X11_112_11 dX11_number_95 hI.1 mf_4 ?_
        refine g_iconst (pc := 98) (v := 1) dX11_number_98 (by decide) ?_
        refine g_iadd (pc := 99) dX11_number_99 ?_
        refine m_put (pc := 100) hI w_X11_112_11 rfl (by decide) dX11_number_100 (fun h hI fr => ?_)
        replace hF := mFr.tr hF fr
        refine g_goto (pc := 103) 44 dX11_number_103 (by decide) ?_
        refine ih (a + 1) (min (10 * v + (t a - 48)) 100000) _ h (by omega) ⟨hp.1.sv (by decide), by rw [sv_nj (by decide)]; exact hp.2.1, hp.2.2.1, by rw [sv_same, hp.2.2.2.1]; exact nI_1 a, by omega⟩ (by omega) hI hF (fun h' hI' hF' => ?_) |> (fun w => by rw [e] at w; exact w)
        rw [sv_sv] at hI'
        have e2 : nuF t (m + 1) a v = nuF t m (a + 1) (min (10 * v + (t a - 48)) 100000) := by
          show (if _ then _ else _) = _
          rw [if_pos q'.2]
        rw [e2] at k
        exact k h' hI' hF'
      · have qv : ¬ 10 * v + (t a - 48) ≤ 100000 := fun w => c_81 (nI_le (b := 100000) w (by decide))
        refine (fun (e : min (10 * v + (t a - 48)) 100000 = 100000) => ?_) (by omega)
        refine g_ldc (pc := 84) (v := 100000) dX11_number_84 q2219 ?_
        refine g_goto (pc := 86) 91 dX11_number_86 (by decide) ?_
        refine g_istore (pc := 91) (ls' := [_, _, _, _, _]) dX11_number_91 (by decide) rfl rfl ?_
        refine g_aload_n (pc := 93) dX11_number_93 rfl ?_
        refine g_dup (pc := 94) dX11_number_94 rfl ?_
        refine g_getfield (pc := 95) f_X11_112_11 dX11_number_95 hI.1 mf_4 ?_
        refine g_iconst (pc := 98) (v := 1) dX11_number_98 (by decide) ?_
        refine g_iadd (pc := 99) dX11_number_99 ?_
        refine m_put (pc := 100) hI w_X11_112_11 rfl (by decide) dX11_number_100 (fun h hI fr => ?_)
        replace hF := mFr.tr hF fr
        refine g_goto (pc := 103) 44 dX11_number_103 (by decide) ?_
        refine ih (a + 1) (min (10 * v + (t a - 48)) 100000) _ h (by omega) ⟨hp.1.sv (by decide), by rw [sv_nj (by decide)]; exact hp.2.1, hp.2.2.1, by rw [sv_same, hp.2.2.2.1]; exact nI_1 a, by omega⟩ (by omega) hI hF (fun h' hI' hF' => ?_) |> (fun w => by rw [e] at w; exact w)
        rw [sv_sv] at hI'
        have e2 : nuF t (m + 1) a v = nuF t m (a + 1) (min (10 * v + (t a - 48)) 100000) := by
          show (if _ then _ else _) = _
          rw [if_pos q'.2]
        rw [e2] at k
        exact k h' hI' hF'
end
