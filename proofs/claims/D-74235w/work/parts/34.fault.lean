/-! Fault: made (gen/fault.py) -/
set_option maxRecDepth 100000
abbrev mm_J9_init_2 : EM := (yJ9_init_2, cJ9_init_2, 5, (Option.none : Option Jvm.ClassFile.FieldType), [])
theorem me_J9_init_2 : e_mth mm_J9_init_2 4 := ⟨rfl, q636, q125, by decide +kernel, by decide⟩

abbrev mm_J10_init : EM := (yJ10_init, cJ10_init, 5, (Option.none : Option Jvm.ClassFile.FieldType), [])
theorem me_J10_init : e_mth mm_J10_init 4 := ⟨rfl, q633, q126, by decide +kernel, by decide⟩

abbrev mm_X9_init : EM := (yX9_init, cX9_init, 3, (Option.none : Option Jvm.ClassFile.FieldType), [])
theorem me_X9_init : e_mth mm_X9_init 2 := ⟨rfl, q630, q127, by decide +kernel, by decide⟩

theorem e_fitR {C : String} {v : Option EId} : e_fit (.object C) (aR v) := by cases v <;> trivial
theorem e_fitA {t : FieldType} {v : Option EId} : e_fit (.array t) (aR v) := by cases v <;> trivial
theorem A_thr {d : Nat} {h : AH} {i : EId} {fs : Nat → AV} (hi : h i = some (kO 7 fs)) : Sp mm_J9_init_2 (d + 1) 0 0 [aR (some i), aR none, aR none, aI 0, aI 0] h (fun o h' => o = Sum.inl none ∧ ∃ fs', h' = hup h i (kO 7 fs') ∧ ∀ k, 6 ≤ k → fs' k = fs k) := by
  refine ew_sp rfl (Nat.le_of_ble_eq_true rfl) ?_
  refine ew_aload_n dJ9_init_2_0 rfl lm0 ?_
  refine ew_objInit (d := d) dJ9_init_2_1 q613 q147 q148 (Nat.le_of_ble_eq_true rfl) ?_
  refine ew_aload_n dJ9_init_2_4 rfl lm0 ?_
  refine ew_aload_n dJ9_init_2_5 rfl lm0 ?_
  refine ew_put dJ9_init_2_6 (e_fl.a q643) vf_0 hi lm0 (ty := .object "java/lang/Throwable") (by decide +kernel) e_fitR ?_
  refine ew_aload_n dJ9_init_2_9 rfl lm0 ?_
  refine ew_getsQ (k := 1) dJ9_init_2_10 rfl q614 (fun v1 _ => ?_)
  refine ew_put dJ9_init_2_13 (e_fl.a q644) vf_1 (hup_self _ _ _) lm0 (ty := .array (.object "java/lang/StackTraceElement")) (by decide +kernel) e_fitA ?_
  rw [hup_hup]
  refine ew_aload_n dJ9_init_2_16 rfl lm0 ?_
  refine ew_getsQ (k := 2) dJ9_init_2_17 rfl q616 (fun v2 _ => ?_)
  refine ew_put dJ9_init_2_20 (e_fl.a q645) vf_2 (hup_self _ _ _) lm0 (ty := .object "java/util/List") (by decide +kernel) e_fitR ?_
  rw [hup_hup]
  refine ew_iload dJ9_init_2_23 lm4 ?_
  refine ew_if_eq (tgt := 36) dJ9_init_2_25 (by decide) (fun _ => ?_) (fun c => absurd rfl c)
  refine ew_aload_n dJ9_init_2_36 rfl lm0 ?_
  refine ew_null dJ9_init_2_37 ?_
  refine ew_put dJ9_init_2_38 (e_fl.a q644) vf_1 (hup_self _ _ _) lm0 (ty := .array (.object "java/lang/StackTraceElement")) (by decide +kernel) e_fitA ?_
  rw [hup_hup]
  refine ew_aload_n dJ9_init_2_41 rfl lm0 ?_
  refine ew_aload_n dJ9_init_2_42 rfl lm1 ?_
  refine ew_put dJ9_init_2_43 (e_fl.a q642) vf_3 (hup_self _ _ _) lm0 (ty := .object "java/lang/String") (by decide +kernel) e_fitR ?_
  rw [hup_hup]
  refine ew_aload_n dJ9_init_2_46 rfl lm0 ?_
  refine ew_aload_n dJ9_init_2_47 rfl lm2 ?_
  refine ew_put dJ9_init_2_48 (e_fl.a q643) vf_0 (hup_self _ _ _) lm0 (ty := .object "java/lang/Throwable") (by decide +kernel) e_fitR ?_
  rw [hup_hup]
  refine ew_iload_n dJ9_init_2_51 rfl lm3 ?_
  refine ew_if_ne (tgt := 60) dJ9_init_2_52 (by decide) (fun c => absurd rfl c) (fun _ => ?_)
  refine ew_aload_n dJ9_init_2_55 rfl lm0 ?_
  refine ew_null dJ9_init_2_56 ?_
  refine ew_put dJ9_init_2_57 (e_fl.a q645) vf_2 (hup_self _ _ _) lm0 (ty := .object "java/util/List") (by decide +kernel) e_fitR ?_
  rw [hup_hup]
  refine ew_ret (o := none) rfl ⟨rfl, _, rfl, fun k hk => ?_⟩ ⟨rfl, dJ9_init_2_60⟩
  unfold fup
  simp only [show ¬ k = 0 by omega, show ¬ k = 1 by omega, show ¬ k = 2 by omega, show ¬ k = 3 by omega, if_false]
theorem A_exc {d : Nat} {h : AH} {i : EId} {fs : Nat → AV} (hi : h i = some (kO 7 fs)) : Sp mm_J10_init (d + 2) 0 0 [aR (some i), aR none, aR none, aI 0, aI 0] h (fun o h' => o = Sum.inl none ∧ ∃ fs', h' = hup h i (kO 7 fs') ∧ ∀ k, 6 ≤ k → fs' k = fs k) := by
  refine ew_sp rfl (Nat.le_of_ble_eq_true rfl) ?_
  refine ew_aload_n dJ10_init_0 rfl lm0 ?_
  refine ew_aload_n dJ10_init_1 rfl lm1 ?_
  refine ew_aload_n dJ10_init_2 rfl lm2 ?_
  refine ew_iload_n dJ10_init_3 rfl lm3 ?_
  refine ew_iload dJ10_init_4 lm4 ?_
  refine ew_callI (d := d + 1) (as := [aR none, aR none, aI 0, aI 0]) rfl dJ10_init_6 me_J9_init_2 rfl rfl rfl (Or.inl q634) q635 (Nat.le_of_ble_eq_true rfl) (Nat.le_refl 0) (Nat.le_refl 0) (A_thr (d := d) hi) (fun o h' hq _ => ?_) (fun E i h' q _ => by cases q.1)
  obtain ⟨E1, fs', rfl, hf⟩ := hq
  cases E1
  exact ew_ret (o := none) rfl ⟨rfl, fs', rfl, hf⟩ ⟨rfl, dJ10_init_9⟩
theorem A_fault {d : Nat} {h : AH} {i : EId} {fs : Nat → AV} {a b : Int} (hi : h i = some (kO 7 fs)) : Sp mm_X9_init (d + 3) 0 0 [aR (some i), aI a, aI b] h (fun o h' => o = Sum.inl none ∧ ∃ fs', h' = hup h i (kO 7 fs') ∧ vFk fs' a b) := by
  refine ew_sp rfl (Nat.le_of_ble_eq_true rfl) ?_
  refine ew_aload_n dX9_init_0 rfl lm0 ?_
  refine ew_null dX9_init_1 ?_
  refine ew_null dX9_init_2 ?_
  refine ew_iconst dX9_init_3 (inI_of rfl) ?_
  refine ew_iconst dX9_init_4 (inI_of rfl) ?_
  refine ew_callI (d := d + 2) (as := [aR none, aR none, aI 0, aI 0]) rfl dX9_init_5 me_J10_init rfl rfl rfl (Or.inl q631) q632 (Nat.le_of_ble_eq_true rfl) (Nat.le_refl 0) (Nat.le_refl 0) (A_exc (d := d) hi) (fun o h' hq _ => ?_) (fun E i h' q _ => by cases q.1)
  obtain ⟨E1, fs', rfl, hf⟩ := hq
  cases E1
  refine ew_aload_n dX9_init_8 rfl lm0 ?_
  refine ew_iload_n dX9_init_9 rfl lm1 ?_
  refine ew_putF dX9_init_10 q637 vf_6 rfl (hup_self _ _ _) lm0 (ty := .int) (by decide +kernel) trivial ?_
  rw [hup_hup]
  refine ew_aload_n dX9_init_13 rfl lm0 ?_
  refine ew_iload_n dX9_init_14 rfl lm2 ?_
  refine ew_putF dX9_init_15 q639 vf_7 rfl (hup_self _ _ _) lm0 (ty := .int) (by decide +kernel) trivial ?_
  rw [hup_hup]
  exact ew_ret (o := none) rfl ⟨rfl, _, rfl, rfl, rfl⟩ ⟨rfl, dX9_init_18⟩

