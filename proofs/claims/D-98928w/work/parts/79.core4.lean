/-! CORE, fourth part: getClass of a row of references, a class constant -/
set_option maxRecDepth 100000
theorem mi_obj {E : jE} (K : jOK E) : ∃ mi : Nat, va_Mi "[Ljava/lang/Object;" mi (eS E) := va_Mi.of (nw_of K [false, true, true, false, true, true, false, true, false, false] rfl)
section
variable {E : jE} {d bc bs : Nat} {M : jM} {pc i : Nat} {ls : List (Option jV)} {st : List jV} {h : jH} {Q : jR → jH → Prop}
theorem g_getClass {x : jN} {n mi : Nat} {f : Nat → jV} (hM : jOK E → va_Mi "[Ljava/lang/Object;" mi (eS E)) (hl : Cond.methodLink M.1.cls i ⟨"java/lang/Object", "getClass", "()Ljava/lang/Class;"⟩ ∈ lw_all) (hd : decode M.2.1 pc = .ok (.invokevirtual i, 3)) (hx : h x = some (oA 3 n f)) (hdp : 1 ≤ d) (hw : jW st ≤ 8) (k : G E d bc bs M (pc + 3) ls (vR (0, mi) :: st) h Q) : G E d bc bs M pc ls (vR x :: st) h Q := by
  intro p e s m args below meth c R H locs cells slots A F r z l lo hc hs
  have hR1 := F.2.2.2.2.2.2.2.2.2.2.2.1
  have hR2 := F.2.2.2.2.2.2.2.2.2.2.2.2.1
  have hc0 : H[x.2]? = some (arrV (eA E 3) n (fun j => j_v (f j))) := r.1 _ _ hx
  have hW := jW_eq st
  exact va_getC F.2.2.1 F.2.2.2.1 (F.2.2.2.2.2.2.1.trans l.1.symm) F.2.2.2.2.2.2.2.1 (j_w F.1 F.2.1 hl args) (va_Dc.use (va_Dc.moved F.2.1.alike (va_Dc.of (F.1.2.1 _ q2642)))) (j_w F.1 F.2.1 q2641 args) (j_w F.1 F.2.1 q1221 args) (j_w F.1 F.2.1 q1256 args) (va_Mi.moved F.2.1.alike (hM F.1)) ⟨_, hc0, rfl, va_nmO (j_ar F.1 F.2.1 (t := 3) (ty := .object "java/lang/Object") rfl).2 rfl⟩ (by omega) (by rw [hW]; omega) hd (k p e s m args below meth c R H locs cells slots A F r z l lo hc hs)
theorem g_ldcM {mi : Nat} (hM : jOK E → va_Mi "[Ljava/lang/Object;" mi (eS E)) (hl : Cond.classLink M.1.cls i "[Ljava/lang/Object;" ∈ lw_all) (hd : decode M.2.1 pc = .ok (.ldc i, 2)) (k : G E d bc bs M (pc + 2) ls (vR (0, mi) :: st) h Q) : G E d bc bs M pc ls st h Q := by
  intro p e s m args below meth c R H locs cells slots A F r z l lo hc hs
  exact va_ldcM F.2.2.1 F.2.2.2.1 F.2.2.2.2.2.2.2.1 (j_w F.1 F.2.1 hl args) (va_Mi.moved F.2.1.alike (hM F.1)) hd (k p e s m args below meth c R H locs cells slots A F r z l lo hc hs)
end
