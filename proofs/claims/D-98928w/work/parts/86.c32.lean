/-! THE COMPONENT: the words read are the model's words. Printed by m_c32.py -/
set_option maxRecDepth 100000
theorem wd_sister {t : Nat → Nat} {n b : Nat} (ht : ∀ k, k < wL t n b → t (b + k) < 128) : eqN (fun k => t (b + k)) (wL t n b) 6 [115, 105, 115, 116, 101, 114] = wdB t n b W_sister := wd_eq rfl (by decide) (by decide +kernel) ht
theorem wd_relic {t : Nat → Nat} {n b : Nat} (ht : ∀ k, k < wL t n b → t (b + k) < 128) : eqN (fun k => t (b + k)) (wL t n b) 5 [114, 101, 108, 105, 99] = wdB t n b W_relic := wd_eq rfl (by decide) (by decide +kernel) ht
theorem wd_pilgrim {t : Nat → Nat} {n b : Nat} (ht : ∀ k, k < wL t n b → t (b + k) < 128) : eqN (fun k => t (b + k)) (wL t n b) 7 [112, 105, 108, 103, 114, 105, 109] = wdB t n b W_pilgrim := wd_eq rfl (by decide) (by decide +kernel) ht
theorem wd_vow {t : Nat → Nat} {n b : Nat} (ht : ∀ k, k < wL t n b → t (b + k) < 128) : eqN (fun k => t (b + k)) (wL t n b) 3 [118, 111, 119] = wdB t n b W_vow := wd_eq rfl (by decide) (by decide +kernel) ht
theorem wd_worth {t : Nat → Nat} {n b : Nat} (ht : ∀ k, k < wL t n b → t (b + k) < 128) : eqN (fun k => t (b + k)) (wL t n b) 5 [119, 111, 114, 116, 104] = wdB t n b W_worth := wd_eq rfl (by decide) (by decide +kernel) ht
theorem wd_days {t : Nat → Nat} {n b : Nat} (ht : ∀ k, k < wL t n b → t (b + k) < 128) : eqN (fun k => t (b + k)) (wL t n b) 4 [100, 97, 121, 115] = wdB t n b W_days := wd_eq rfl (by decide) (by decide +kernel) ht
theorem wd_lapses {t : Nat → Nat} {n b : Nat} (ht : ∀ k, k < wL t n b → t (b + k) < 128) : eqN (fun k => t (b + k)) (wL t n b) 6 [108, 97, 112, 115, 101, 115] = wdB t n b W_lapses := wd_eq rfl (by decide) (by decide +kernel) ht
theorem wd_tempted {t : Nat → Nat} {n b : Nat} (ht : ∀ k, k < wL t n b → t (b + k) < 128) : eqN (fun k => t (b + k)) (wL t n b) 7 [116, 101, 109, 112, 116, 101, 100] = wdB t n b W_tempted := wd_eq rfl (by decide) (by decide +kernel) ht
theorem wd_ill {t : Nat → Nat} {n b : Nat} (ht : ∀ k, k < wL t n b → t (b + k) < 128) : eqN (fun k => t (b + k)) (wL t n b) 3 [105, 108, 108] = wdB t n b W_ill := wd_eq rfl (by decide) (by decide +kernel) ht
theorem wd_others {t : Nat → Nat} {n b : Nat} (ht : ∀ k, k < wL t n b → t (b + k) < 128) : eqN (fun k => t (b + k)) (wL t n b) 6 [111, 116, 104, 101, 114, 115] = wdB t n b W_others := wd_eq rfl (by decide) (by decide +kernel) ht
theorem wd_day {t : Nat → Nat} {n b : Nat} (ht : ∀ k, k < wL t n b → t (b + k) < 128) : eqN (fun k => t (b + k)) (wL t n b) 3 [100, 97, 121] = wdB t n b W_day := wd_eq rfl (by decide) (by decide +kernel) ht
theorem wd_least {t : Nat → Nat} {n b : Nat} (ht : ∀ k, k < wL t n b → t (b + k) < 128) : eqN (fun k => t (b + k)) (wL t n b) 5 [108, 101, 97, 115, 116] = wdB t n b W_least := wd_eq rfl (by decide) (by decide +kernel) ht
theorem wd_most {t : Nat → Nat} {n b : Nat} (ht : ∀ k, k < wL t n b → t (b + k) < 128) : eqN (fun k => t (b + k)) (wL t n b) 4 [109, 111, 115, 116] = wdB t n b W_most := wd_eq rfl (by decide) (by decide +kernel) ht
theorem wd_give {t : Nat → Nat} {n b : Nat} (ht : ∀ k, k < wL t n b → t (b + k) < 128) : eqN (fun k => t (b + k)) (wL t n b) 4 [103, 105, 118, 101] = wdB t n b W_give := wd_eq rfl (by decide) (by decide +kernel) ht
theorem wd_back {t : Nat → Nat} {n b : Nat} (ht : ∀ k, k < wL t n b → t (b + k) < 128) : eqN (fun k => t (b + k)) (wL t n b) 4 [98, 97, 99, 107] = wdB t n b W_back := wd_eq rfl (by decide) (by decide +kernel) ht
theorem wd_lapse {t : Nat → Nat} {n b : Nat} (ht : ∀ k, k < wL t n b → t (b + k) < 128) : eqN (fun k => t (b + k)) (wL t n b) 5 [108, 97, 112, 115, 101] = wdB t n b W_lapse := wd_eq rfl (by decide) (by decide +kernel) ht
theorem wd_cure {t : Nat → Nat} {n b : Nat} (ht : ∀ k, k < wL t n b → t (b + k) < 128) : eqN (fun k => t (b + k)) (wL t n b) 4 [99, 117, 114, 101] = wdB t n b W_cure := wd_eq rfl (by decide) (by decide +kernel) ht
theorem wd_die {t : Nat → Nat} {n b : Nat} (ht : ∀ k, k < wL t n b → t (b + k) < 128) : eqN (fun k => t (b + k)) (wL t n b) 3 [100, 105, 101] = wdB t n b W_die := wd_eq rfl (by decide) (by decide +kernel) ht
theorem wd_again {t : Nat → Nat} {n b : Nat} (ht : ∀ k, k < wL t n b → t (b + k) < 128) : eqN (fun k => t (b + k)) (wL t n b) 5 [97, 103, 97, 105, 110] = wdB t n b W_again := wd_eq rfl (by decide) (by decide +kernel) ht
theorem kd_0 {t : Nat → Nat} {n b : Nat} (h : wdB t n b W_sister = true) : kdN t n b = 0 := if_pos h
theorem wdB_wl {t : Nat → Nat} {n b : Nat} {L : List Nat} (h : wdB t n b L = true) : wl t n b = L.length := (of_decide_eq_true h).1
