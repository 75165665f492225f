set_option maxRecDepth 100000
abbrev mm_unites : EM := (yX7_unites, cX7_unites, 8, none, [])
theorem me_unites : e_mth mm_unites 3 := ⟨rfl, q1715, q117, by decide +kernel, by decide⟩
def B_unites_29 (X29 : Nat → Int → Int → Int → Int → MS → Prop) (K : MS → Prop) (x1 : Nat) (x4 : Int) (x5 : Int) (x6 : Int) (x7 : Int) (s0 : MS) : Prop :=
  (((s0.1 27) ≤ x7 → K s0) ∧ (¬ (s0.1 27) ≤ x7 → ((mK x1 = 1 ∧ 0 ≤ x7 ∧ x7 < (mL x1 : Int)) ∧ (((s0.2 x1 x7) = x4 → ((mK x1 = 1 ∧ 0 ≤ x7 ∧ x7 < (mL x1 : Int)) ∧ ∀ s4 : MS, s4 = ma s0 x1 x7 x6 → (inI (x7 + 1) ∧ X29 x1 x4 x5 x6 (x7 + 1) s4))) ∧ (¬ (s0.2 x1 x7) = x4 → ((mK x1 = 1 ∧ 0 ≤ x7 ∧ x7 < (mL x1 : Int)) ∧ (((s0.2 x1 x7) = x5 → ((mK x1 = 1 ∧ 0 ≤ x7 ∧ x7 < (mL x1 : Int)) ∧ ∀ s15 : MS, s15 = ma s0 x1 x7 x6 → (inI (x7 + 1) ∧ X29 x1 x4 x5 x6 (x7 + 1) s15))) ∧ (¬ (s0.2 x1 x7) = x5 → ((mK x1 = 1 ∧ 0 ≤ x7 ∧ x7 < (mL x1 : Int)) ∧ ((mK x1 = 1 ∧ 0 ≤ x7 ∧ x7 < (mL x1 : Int)) ∧ ∀ s11 : MS, s11 = ma s0 x1 x7 (s0.2 x1 x7) → (inI (x7 + 1) ∧ X29 x1 x4 x5 x6 (x7 + 1) s11)))))))))))
def B_unites_E (X29 : Nat → Int → Int → Int → Int → MS → Prop) (K : MS → Prop) (a : Nat) (b : Int) (c : Int) (s0 : MS) : Prop :=
  ((mK a = 1 ∧ 0 ≤ b ∧ b < (mL a : Int)) ∧ ((mK a = 1 ∧ 0 ≤ c ∧ c < (mL a : Int)) ∧ (((s0.2 a c) ≤ (s0.2 a b) → X29 a (s0.2 a b) (s0.2 a c) (s0.2 a c) 0 s0) ∧ (¬ (s0.2 a c) ≤ (s0.2 a b) → X29 a (s0.2 a b) (s0.2 a c) (s0.2 a b) 0 s0))))
def W_unites_29 (d : Nat) (g : AH) (K : MS → Prop) (x1 : Nat) (x4 : Int) (x5 : Int) (x6 : Int) (x7 : Int) (s0 : MS) : Prop := EW mm_unites (d + 0) 0 0 (mQ g K) 29 [(0, aR (some mT)), (1, aR (some (0, 1, x1))), (4, aI x4), (5, aI x5), (6, aI x6), (7, aI x7)] [] (mh s0 g)
set_option maxHeartbeats 4000000 in
theorem T_unites_29 (d : Nat) (g : AH) (K : MS → Prop) (x1 : Nat) (x4 : Int) (x5 : Int) (x6 : Int) (x7 : Int) (s0 : MS) (H : B_unites_29 (W_unites_29 d g K) K x1 x4 x5 x6 x7 s0) : EW mm_unites (d + 0) 0 0 (mQ g K) 29 [(0, aR (some mT)), (1, aR (some (0, 1, x1))), (4, aI x4), (5, aI x5), (6, aI x6), (7, aI x7)] [] (mh s0 g) := by
  refine ew_iload dX7_unites_29 lm5 ?_
  refine ew_aload_n dX7_unites_31 rfl lm0 ?_
  refine mw_gI dX7_unites_32 (e_fl.a q1433) mf_27 rfl ?_
  refine ew_icmp_ge (tgt := 75) dX7_unites_35 (by decide) (fun c1 => ?_) (fun c1 => ?_)
  · replace H := H.1 c1
    exact ew_ret (o := none) rfl ⟨_, rfl, rfl, H⟩ ⟨rfl, dX7_unites_75⟩
  · replace H := H.2 c1
    refine ew_aload_n dX7_unites_38 rfl lm1 ?_
    refine ew_iload dX7_unites_39 lm5 ?_
    refine ew_aload_n dX7_unites_41 rfl lm1 ?_
    refine ew_iload dX7_unites_42 lm5 ?_
    obtain ⟨v2, H⟩ := H
    refine mw_iald dX7_unites_44 v2.1 v2.2.1 v2.2.2 ?_
    refine ew_iload dX7_unites_45 lm2 ?_
    refine ew_icmp_eq (tgt := 59) dX7_unites_47 (by decide) (fun c3 => ?_) (fun c3 => ?_)
    · replace H := H.1 c3
      refine ew_iload dX7_unites_59 lm4 ?_
      refine ew_goto (tgt := 68) dX7_unites_61 (by decide) ?_
      obtain ⟨v6, H⟩ := H
      refine mw_iast dX7_unites_68 v6.1 v6.2.1 v6.2.2 (fun s4 e5 => ?_)
      replace H := H s4 e5
      obtain ⟨v7, H⟩ := H
      refine ew_iinc dX7_unites_69 lm5 (by decide) v7 (lv' := [(7, aI (x7 + 1)), (0, aR (some mT)), (1, aR (some (0, 1, x1))), (4, aI x4), (5, aI x5), (6, aI x6)]) rfl ?_
      refine ew_sub (List.forall_mem_cons.mpr ⟨lm1, (List.forall_mem_cons.mpr ⟨lm2, (List.forall_mem_cons.mpr ⟨lm3, (List.forall_mem_cons.mpr ⟨lm4, (List.forall_mem_cons.mpr ⟨lm5, (List.forall_mem_cons.mpr ⟨lm0, e_nm⟩)⟩)⟩)⟩)⟩)⟩) ?_
      refine ew_goto (tgt := 29) dX7_unites_72 (by decide) ?_
      exact ew_sub (List.forall_mem_cons.mpr ⟨lm0, (List.forall_mem_cons.mpr ⟨lm1, (List.forall_mem_cons.mpr ⟨lm2, (List.forall_mem_cons.mpr ⟨lm3, (List.forall_mem_cons.mpr ⟨lm4, (List.forall_mem_cons.mpr ⟨lm5, e_nm⟩)⟩)⟩)⟩)⟩)⟩) H
    · replace H := H.2 c3
      refine ew_aload_n dX7_unites_50 rfl lm1 ?_
      refine ew_iload dX7_unites_51 lm5 ?_
      obtain ⟨v8, H⟩ := H
      refine mw_iald dX7_unites_53 v8.1 v8.2.1 v8.2.2 ?_
      refine ew_iload dX7_unites_54 lm3 ?_
      refine ew_icmp_ne (tgt := 64) dX7_unites_56 (by decide) (fun c9 => ?_) (fun c9 => ?_)
      · replace H := H.2 c9
        refine ew_aload_n dX7_unites_64 rfl lm1 ?_
        refine ew_iload dX7_unites_65 lm5 ?_
        obtain ⟨v10, H⟩ := H
        refine mw_iald dX7_unites_67 v10.1 v10.2.1 v10.2.2 ?_
        obtain ⟨v13, H⟩ := H
        refine mw_iast dX7_unites_68 v13.1 v13.2.1 v13.2.2 (fun s11 e12 => ?_)
        replace H := H s11 e12
        obtain ⟨v14, H⟩ := H
        refine ew_iinc dX7_unites_69 lm5 (by decide) v14 (lv' := [(7, aI (x7 + 1)), (0, aR (some mT)), (1, aR (some (0, 1, x1))), (4, aI x4), (5, aI x5), (6, aI x6)]) rfl ?_
        refine ew_sub (List.forall_mem_cons.mpr ⟨lm1, (List.forall_mem_cons.mpr ⟨lm2, (List.forall_mem_cons.mpr ⟨lm3, (List.forall_mem_cons.mpr ⟨lm4, (List.forall_mem_cons.mpr ⟨lm5, (List.forall_mem_cons.mpr ⟨lm0, e_nm⟩)⟩)⟩)⟩)⟩)⟩) ?_
        refine ew_goto (tgt := 29) dX7_unites_72 (by decide) ?_
        exact ew_sub (List.forall_mem_cons.mpr ⟨lm0, (List.forall_mem_cons.mpr ⟨lm1, (List.forall_mem_cons.mpr ⟨lm2, (List.forall_mem_cons.mpr ⟨lm3, (List.forall_mem_cons.mpr ⟨lm4, (List.forall_mem_cons.mpr ⟨lm5, e_nm⟩)⟩)⟩)⟩)⟩)⟩) H
      · replace H := H.1 c9
        refine ew_iload dX7_unites_59 lm4 ?_
        refine ew_goto (tgt := 68) dX7_unites_61 (by decide) ?_
        obtain ⟨v17, H⟩ := H
        refine mw_iast dX7_unites_68 v17.1 v17.2.1 v17.2.2 (fun s15 e16 => ?_)
        replace H := H s15 e16
        obtain ⟨v18, H⟩ := H
        refine ew_iinc dX7_unites_69 lm5 (by decide) v18 (lv' := [(7, aI (x7 + 1)), (0, aR (some mT)), (1, aR (some (0, 1, x1))), (4, aI x4), (5, aI x5), (6, aI x6)]) rfl ?_
        refine ew_sub (List.forall_mem_cons.mpr ⟨lm1, (List.forall_mem_cons.mpr ⟨lm2, (List.forall_mem_cons.mpr ⟨lm3, (List.forall_mem_cons.mpr ⟨lm4, (List.forall_mem_cons.mpr ⟨lm5, (List.forall_mem_cons.mpr ⟨lm0, e_nm⟩)⟩)⟩)⟩)⟩)⟩) ?_
        refine ew_goto (tgt := 29) dX7_unites_72 (by decide) ?_
        exact ew_sub (List.forall_mem_cons.mpr ⟨lm0, (List.forall_mem_cons.mpr ⟨lm1, (List.forall_mem_cons.mpr ⟨lm2, (List.forall_mem_cons.mpr ⟨lm3, (List.forall_mem_cons.mpr ⟨lm4, (List.forall_mem_cons.mpr ⟨lm5, e_nm⟩)⟩)⟩)⟩)⟩)⟩) H
set_option maxHeartbeats 4000000 in
theorem T_unites_E (d : Nat) (g : AH) (K : MS → Prop) (a : Nat) (b : Int) (c : Int) (s0 : MS) (H : B_unites_E (W_unites_29 d g K) K a b c s0) : EW mm_unites (d + 0) 0 0 (mQ g K) 0 [(0, aR (some mT)), (1, aR (some (0, 1, a))), (2, aI b), (3, aI c)] [] (mh s0 g) := by
  refine ew_aload_n dX7_unites_0 rfl lm1 ?_
  refine ew_iload_n dX7_unites_1 rfl lm2 ?_
  obtain ⟨v1, H⟩ := H
  refine mw_iald dX7_unites_2 v1.1 v1.2.1 v1.2.2 ?_
  refine ew_istore dX7_unites_3 (by decide) (lv' := [(4, aI (s0.2 a b)), (0, aR (some mT)), (1, aR (some (0, 1, a))), (2, aI b), (3, aI c)]) rfl ?_
  refine ew_sub (List.forall_mem_cons.mpr ⟨lm1, (List.forall_mem_cons.mpr ⟨lm2, (List.forall_mem_cons.mpr ⟨lm3, (List.forall_mem_cons.mpr ⟨lm4, (List.forall_mem_cons.mpr ⟨lm0, e_nm⟩)⟩)⟩)⟩)⟩) ?_
  refine ew_aload_n dX7_unites_5 rfl lm1 ?_
  refine ew_iload_n dX7_unites_6 rfl lm3 ?_
  obtain ⟨v2, H⟩ := H
  refine mw_iald dX7_unites_7 v2.1 v2.2.1 v2.2.2 ?_
  refine ew_istore dX7_unites_8 (by decide) (lv' := [(5, aI (s0.2 a c)), (0, aR (some mT)), (1, aR (some (0, 1, a))), (2, aI b), (3, aI c), (4, aI (s0.2 a b))]) rfl ?_
  refine ew_sub (List.forall_mem_cons.mpr ⟨lm1, (List.forall_mem_cons.mpr ⟨lm2, (List.forall_mem_cons.mpr ⟨lm3, (List.forall_mem_cons.mpr ⟨lm4, (List.forall_mem_cons.mpr ⟨lm5, (List.forall_mem_cons.mpr ⟨lm0, e_nm⟩)⟩)⟩)⟩)⟩)⟩) ?_
  refine ew_iload dX7_unites_10 lm4 ?_
  refine ew_iload dX7_unites_12 lm5 ?_
  refine ew_icmp_ge (tgt := 22) dX7_unites_14 (by decide) (fun c3 => ?_) (fun c3 => ?_)
  · replace H := H.1 c3
    refine ew_iload dX7_unites_22 lm5 ?_
    refine ew_istore dX7_unites_24 (by decide) (lv' := [(6, aI (s0.2 a c)), (0, aR (some mT)), (1, aR (some (0, 1, a))), (2, aI b), (3, aI c), (4, aI (s0.2 a b)), (5, aI (s0.2 a c))]) rfl ?_
    refine ew_sub (List.forall_mem_cons.mpr ⟨lm1, (List.forall_mem_cons.mpr ⟨lm2, (List.forall_mem_cons.mpr ⟨lm3, (List.forall_mem_cons.mpr ⟨lm4, (List.forall_mem_cons.mpr ⟨lm5, (List.forall_mem_cons.mpr ⟨lm6, (List.forall_mem_cons.mpr ⟨lm0, e_nm⟩)⟩)⟩)⟩)⟩)⟩)⟩) ?_
    refine ew_iconst dX7_unites_26 (inI_of rfl) ?_
    refine ew_istore dX7_unites_27 (by decide) (lv' := [(7, aI 0), (0, aR (some mT)), (1, aR (some (0, 1, a))), (2, aI b), (3, aI c), (4, aI (s0.2 a b)), (5, aI (s0.2 a c)), (6, aI (s0.2 a c))]) rfl ?_
    refine ew_sub (List.forall_mem_cons.mpr ⟨lm1, (List.forall_mem_cons.mpr ⟨lm2, (List.forall_mem_cons.mpr ⟨lm3, (List.forall_mem_cons.mpr ⟨lm4, (List.forall_mem_cons.mpr ⟨lm5, (List.forall_mem_cons.mpr ⟨lm6, (List.forall_mem_cons.mpr ⟨lm7, (List.forall_mem_cons.mpr ⟨lm0, e_nm⟩)⟩)⟩)⟩)⟩)⟩)⟩)⟩) ?_
    exact ew_sub (List.forall_mem_cons.mpr ⟨lm0, (List.forall_mem_cons.mpr ⟨lm1, (List.forall_mem_cons.mpr ⟨lm4, (List.forall_mem_cons.mpr ⟨lm5, (List.forall_mem_cons.mpr ⟨lm6, (List.forall_mem_cons.mpr ⟨lm7, e_nm⟩)⟩)⟩)⟩)⟩)⟩) H
  · replace H := H.2 c3
    refine ew_iload dX7_unites_17 lm4 ?_
    refine ew_goto (tgt := 24) dX7_unites_19 (by decide) ?_
    refine ew_istore dX7_unites_24 (by decide) (lv' := [(6, aI (s0.2 a b)), (0, aR (some mT)), (1, aR (some (0, 1, a))), (2, aI b), (3, aI c), (4, aI (s0.2 a b)), (5, aI (s0.2 a c))]) rfl ?_
    refine ew_sub (List.forall_mem_cons.mpr ⟨lm1, (List.forall_mem_cons.mpr ⟨lm2, (List.forall_mem_cons.mpr ⟨lm3, (List.forall_mem_cons.mpr ⟨lm4, (List.forall_mem_cons.mpr ⟨lm5, (List.forall_mem_cons.mpr ⟨lm6, (List.forall_mem_cons.mpr ⟨lm0, e_nm⟩)⟩)⟩)⟩)⟩)⟩)⟩) ?_
    refine ew_iconst dX7_unites_26 (inI_of rfl) ?_
    refine ew_istore dX7_unites_27 (by decide) (lv' := [(7, aI 0), (0, aR (some mT)), (1, aR (some (0, 1, a))), (2, aI b), (3, aI c), (4, aI (s0.2 a b)), (5, aI (s0.2 a c)), (6, aI (s0.2 a b))]) rfl ?_
    refine ew_sub (List.forall_mem_cons.mpr ⟨lm1, (List.forall_mem_cons.mpr ⟨lm2, (List.forall_mem_cons.mpr ⟨lm3, (List.forall_mem_cons.mpr ⟨lm4, (List.forall_mem_cons.mpr ⟨lm5, (List.forall_mem_cons.mpr ⟨lm6, (List.forall_mem_cons.mpr ⟨lm7, (List.forall_mem_cons.mpr ⟨lm0, e_nm⟩)⟩)⟩)⟩)⟩)⟩)⟩)⟩) ?_
    exact ew_sub (List.forall_mem_cons.mpr ⟨lm0, (List.forall_mem_cons.mpr ⟨lm1, (List.forall_mem_cons.mpr ⟨lm4, (List.forall_mem_cons.mpr ⟨lm5, (List.forall_mem_cons.mpr ⟨lm6, (List.forall_mem_cons.mpr ⟨lm7, e_nm⟩)⟩)⟩)⟩)⟩)⟩) H
def C_unites (a : Nat) (b : Int) (c : Int) (s0 : MS) (K : MS → Prop) : Prop := ∀ (X29 : Nat → Int → Int → Int → Int → MS → Prop), (∀ (x1 : Nat) (x4 : Int) (x5 : Int) (x6 : Int) (x7 : Int) (s0 : MS), B_unites_29 X29 K x1 x4 x5 x6 x7 s0 → X29 x1 x4 x5 x6 x7 s0) → B_unites_E X29 K a b c s0
theorem S_unites {d : Nat} {g : AH} {K : MS → Prop} {a : Nat} {b : Int} {c : Int} {s0 : MS} (H : C_unites a b c s0 K) : Sp mm_unites (d + 0) 0 0 [aR (some mT), aR (some (0, 1, a)), aI b, aI c] (mh s0 g) (mQ g K) :=
  ew_sp rfl (Nat.le_of_ble_eq_true rfl) (T_unites_E d g K a b c s0 (H _ (fun x1 x4 x5 x6 x7 s0 H => T_unites_29 d g K x1 x4 x5 x6 x7 s0 H)))
abbrev mm_joinsTwo : EM := (yX7_joinsTwo, cX7_joinsTwo, 5, none, [])
theorem me_joinsTwo : e_mth mm_joinsTwo 3 := ⟨rfl, q1699, q117, by decide +kernel, by decide⟩
def B_joinsTwo_55 (X55 : Int → Int → Int → Int → MS → Prop) (K : MS → Prop) (x1 : Int) (x2 : Int) (x3 : Int) (x4 : Int) (s0 : MS) : Prop :=
  ((x3 = (-2) → (C_takesOf x1 s0 (fun r20 s17 => ((r20 ≤ x4 → (C_turns x2 s17 (fun s22 => ((0 ≤ x2 ∧ x2 < 24) ∧ ∀ s25 : MS, s25 = ma s22 37 x2 x1 → ((0 ≤ x2 ∧ x2 < 24) ∧ ∀ s28 : MS, s28 = ma s25 38 x2 (s25.1 39) → ((inI ((s28.1 39) + 1)) ∧ (∀ s32 : MS, s32 = ms s28 39 ((s28.1 39) + 1) → (C_unites 36 x1 x2 s32 (fun s34 => K s34))))))))) ∧ (¬ r20 ≤ x4 → ((0 ≤ (s17.1 39) ∧ (s17.1 39) < 24) ∧ ((inI (3 * x1)) ∧ ((inI ((3 * x1) + x4)) ∧ ((0 ≤ ((3 * x1) + x4) ∧ ((3 * x1) + x4) < 72) ∧ ((inI (3 * x2)) ∧ ((inI ((3 * x2) + x4)) ∧ ((0 ≤ ((3 * x2) + x4) ∧ ((3 * x2) + x4) < 72) ∧ (C_reasonsOf (s17.2 29 ((3 * x1) + x4)) (s17.2 29 ((3 * x2) + x4)) s17 (fun r47 s44 => ((0 ≤ (s17.1 39) ∧ (s17.1 39) < 24) ∧ ∀ s48 : MS, s48 = ma s44 43 (s17.1 39) (jor (s17.2 43 (s17.1 39)) r47) → (inI (x4 + 1) ∧ X55 x1 x2 x3 (x4 + 1) s48)))))))))))))))) ∧ (¬ x3 = (-2) → (C_turns x2 s0 (fun s2 => ((0 ≤ x2 ∧ x2 < 24) ∧ ∀ s5 : MS, s5 = ma s2 37 x2 x1 → ((0 ≤ x2 ∧ x2 < 24) ∧ ∀ s8 : MS, s8 = ma s5 38 x2 (s5.1 39) → ((inI ((s8.1 39) + 1)) ∧ (∀ s12 : MS, s12 = ms s8 39 ((s8.1 39) + 1) → (C_unites 36 x1 x2 s12 (fun s14 => K s14))))))))))
def B_joinsTwo_E (X55 : Int → Int → Int → Int → MS → Prop) (K : MS → Prop) (a : Int) (b : Int) (c : Int) (s0 : MS) : Prop :=
  ((0 ≤ (s0.1 39) ∧ (s0.1 39) < 24) ∧ ∀ s1 : MS, s1 = ma s0 40 (s0.1 39) a → ((0 ≤ (s1.1 39) ∧ (s1.1 39) < 24) ∧ ∀ s4 : MS, s4 = ma s1 41 (s1.1 39) b → ((0 ≤ (s4.1 39) ∧ (s4.1 39) < 24) ∧ ∀ s7 : MS, s7 = ma s4 42 (s4.1 39) c → ((c = (-2) → ((0 ≤ (s7.1 39) ∧ (s7.1 39) < 24) ∧ ∀ s11 : MS, s11 = ma s7 43 (s7.1 39) 0 → X55 a b c 0 s11)) ∧ (¬ c = (-2) → ((0 ≤ (s7.1 39) ∧ (s7.1 39) < 24) ∧ ∀ s14 : MS, s14 = ma s7 43 (s7.1 39) (jshl 1 c) → X55 a b c 0 s14))))))
def W_joinsTwo_55 (d : Nat) (g : AH) (K : MS → Prop) (x1 : Int) (x2 : Int) (x3 : Int) (x4 : Int) (s0 : MS) : Prop := EW mm_joinsTwo (d + 2) 0 0 (mQ g K) 55 [(0, aR (some mT)), (1, aI x1), (2, aI x2), (3, aI x3), (4, aI x4)] [] (mh s0 g)
set_option maxHeartbeats 4000000 in
theorem T_joinsTwo_55 (d : Nat) (g : AH) (K : MS → Prop) (x1 : Int) (x2 : Int) (x3 : Int) (x4 : Int) (s0 : MS) (H : B_joinsTwo_55 (W_joinsTwo_55 d g K) K x1 x2 x3 x4 s0) : EW mm_joinsTwo (d + 2) 0 0 (mQ g K) 55 [(0, aR (some mT)), (1, aI x1), (2, aI x2), (3, aI x3), (4, aI x4)] [] (mh s0 g) := by
  refine ew_iload_n dX7_joinsTwo_55 rfl lm3 ?_
  refine ew_bipush dX7_joinsTwo_56 (inI_of rfl) (by decide) ?_
  refine ew_icmp_ne (tgt := 115) dX7_joinsTwo_58 (by decide) (fun c1 => ?_) (fun c1 => ?_)
  · replace H := H.2 c1
    refine ew_aload_n dX7_joinsTwo_115 rfl lm0 ?_
    refine ew_iload_n dX7_joinsTwo_116 rfl lm2 ?_
    refine ew_callV (d := d + 1) (as := [aI x2]) rfl dX7_joinsTwo_117 me_turns rfl (ci := 1) rfl rfl (mh_o _ _) (Or.inl q1708) q1710 qs83 (Nat.le_of_ble_eq_true rfl) (Nat.le_refl 0) (Nat.le_refl 0) (S_turns (d := d + 1) H) (fun o h' hq3 _ => ?_) (fun E i h' q _ => (mQ_no q).elim)
    obtain ⟨s2, E4, rfl, H⟩ := hq3
    cases E4
    refine ew_aload_n dX7_joinsTwo_120 rfl lm0 ?_
    refine mw_gA dX7_joinsTwo_121 (e_fl.a q1443) mf_37 rfl ?_
    refine ew_iload_n dX7_joinsTwo_124 rfl lm2 ?_
    refine ew_iload_n dX7_joinsTwo_125 rfl lm1 ?_
    obtain ⟨v7, H⟩ := H
    refine mw_iast dX7_joinsTwo_126 rfl v7.1 v7.2 (fun s5 e6 => ?_)
    replace H := H s5 e6
    refine ew_aload_n dX7_joinsTwo_127 rfl lm0 ?_
    refine mw_gA dX7_joinsTwo_128 (e_fl.a q1444) mf_38 rfl ?_
    refine ew_iload_n dX7_joinsTwo_131 rfl lm2 ?_
    refine ew_aload_n dX7_joinsTwo_132 rfl lm0 ?_
    refine mw_gI dX7_joinsTwo_133 (e_fl.a q1445) mf_39 rfl ?_
    obtain ⟨v10, H⟩ := H
    refine mw_iast dX7_joinsTwo_136 rfl v10.1 v10.2 (fun s8 e9 => ?_)
    replace H := H s8 e9
    refine ew_aload_n dX7_joinsTwo_137 rfl lm0 ?_
    refine ew_dup dX7_joinsTwo_138 rfl ?_
    refine mw_gI dX7_joinsTwo_139 (e_fl.a q1445) mf_39 rfl ?_
    refine ew_iconst dX7_joinsTwo_142 (inI_of rfl) ?_
    obtain ⟨v11, H⟩ := H
    refine ew_iadd dX7_joinsTwo_143 v11 ?_
    refine mw_pI dX7_joinsTwo_144 (e_fl.a q1445) mf_39 (Or.inl rfl) (ty := .int) (by decide +kernel) trivial (fun s12 e13 => ?_)
    replace H := H s12 e13
    refine ew_aload_n dX7_joinsTwo_147 rfl lm0 ?_
    refine ew_aload_n dX7_joinsTwo_148 rfl lm0 ?_
    refine mw_gA dX7_joinsTwo_149 (e_fl.a q1442) mf_36 rfl ?_
    refine ew_iload_n dX7_joinsTwo_152 rfl lm1 ?_
    refine ew_iload_n dX7_joinsTwo_153 rfl lm2 ?_
    refine ew_callV (d := d + 1) (as := [aR (some (0, 1, 36)), aI x1, aI x2]) rfl dX7_joinsTwo_154 me_unites rfl (ci := 1) rfl rfl (mh_o _ _) (Or.inl q1712) q1714 qs84 (Nat.le_of_ble_eq_true rfl) (Nat.le_refl 0) (Nat.le_refl 0) (S_unites (d := d + 1) H) (fun o h' hq15 _ => ?_) (fun E i h' q _ => (mQ_no q).elim)
    obtain ⟨s14, E16, rfl, H⟩ := hq15
    cases E16
    exact ew_ret (o := none) rfl ⟨_, rfl, rfl, H⟩ ⟨rfl, dX7_joinsTwo_157⟩
  · replace H := H.1 c1
    refine ew_iload dX7_joinsTwo_61 lm4 ?_
    refine ew_aload_n dX7_joinsTwo_63 rfl lm0 ?_
    refine ew_iload_n dX7_joinsTwo_64 rfl lm1 ?_
    refine ew_callV (d := d + 1) (as := [aI x1]) rfl dX7_joinsTwo_65 me_takesOf rfl (ci := 1) rfl rfl (mh_o _ _) (Or.inl q1692) q1694 qs79 (Nat.le_of_ble_eq_true rfl) (Nat.le_refl 0) (Nat.le_refl 0) (S_takesOf (d := d + 1) H) (fun o h' hq18 _ => ?_) (fun E i h' q _ => (mQi_no q).elim)
    obtain ⟨r20, s17, E19, rfl, H⟩ := hq18
    cases E19
    refine ew_icmp_ge (tgt := 115) dX7_joinsTwo_68 (by decide) (fun c21 => ?_) (fun c21 => ?_)
    · replace H := H.1 c21
      refine ew_aload_n dX7_joinsTwo_115 rfl lm0 ?_
      refine ew_iload_n dX7_joinsTwo_116 rfl lm2 ?_
      refine ew_callV (d := d + 1) (as := [aI x2]) rfl dX7_joinsTwo_117 me_turns rfl (ci := 1) rfl rfl (mh_o _ _) (Or.inl q1708) q1710 qs83 (Nat.le_of_ble_eq_true rfl) (Nat.le_refl 0) (Nat.le_refl 0) (S_turns (d := d + 1) H) (fun o h' hq23 _ => ?_) (fun E i h' q _ => (mQ_no q).elim)
      obtain ⟨s22, E24, rfl, H⟩ := hq23
      cases E24
      refine ew_aload_n dX7_joinsTwo_120 rfl lm0 ?_
      refine mw_gA dX7_joinsTwo_121 (e_fl.a q1443) mf_37 rfl ?_
      refine ew_iload_n dX7_joinsTwo_124 rfl lm2 ?_
      refine ew_iload_n dX7_joinsTwo_125 rfl lm1 ?_
      obtain ⟨v27, H⟩ := H
      refine mw_iast dX7_joinsTwo_126 rfl v27.1 v27.2 (fun s25 e26 => ?_)
      replace H := H s25 e26
      refine ew_aload_n dX7_joinsTwo_127 rfl lm0 ?_
      refine mw_gA dX7_joinsTwo_128 (e_fl.a q1444) mf_38 rfl ?_
      refine ew_iload_n dX7_joinsTwo_131 rfl lm2 ?_
      refine ew_aload_n dX7_joinsTwo_132 rfl lm0 ?_
      refine mw_gI dX7_joinsTwo_133 (e_fl.a q1445) mf_39 rfl ?_
      obtain ⟨v30, H⟩ := H
      refine mw_iast dX7_joinsTwo_136 rfl v30.1 v30.2 (fun s28 e29 => ?_)
      replace H := H s28 e29
      refine ew_aload_n dX7_joinsTwo_137 rfl lm0 ?_
      refine ew_dup dX7_joinsTwo_138 rfl ?_
      refine mw_gI dX7_joinsTwo_139 (e_fl.a q1445) mf_39 rfl ?_
      refine ew_iconst dX7_joinsTwo_142 (inI_of rfl) ?_
      obtain ⟨v31, H⟩ := H
      refine ew_iadd dX7_joinsTwo_143 v31 ?_
      refine mw_pI dX7_joinsTwo_144 (e_fl.a q1445) mf_39 (Or.inl rfl) (ty := .int) (by decide +kernel) trivial (fun s32 e33 => ?_)
      replace H := H s32 e33
      refine ew_aload_n dX7_joinsTwo_147 rfl lm0 ?_
      refine ew_aload_n dX7_joinsTwo_148 rfl lm0 ?_
      refine mw_gA dX7_joinsTwo_149 (e_fl.a q1442) mf_36 rfl ?_
      refine ew_iload_n dX7_joinsTwo_152 rfl lm1 ?_
      refine ew_iload_n dX7_joinsTwo_153 rfl lm2 ?_
      refine ew_callV (d := d + 1) (as := [aR (some (0, 1, 36)), aI x1, aI x2]) rfl dX7_joinsTwo_154 me_unites rfl (ci := 1) rfl rfl (mh_o _ _) (Or.inl q1712) q1714 qs84 (Nat.le_of_ble_eq_true rfl) (Nat.le_refl 0) (Nat.le_refl 0) (S_unites (d := d + 1) H) (fun o h' hq35 _ => ?_) (fun E i h' q _ => (mQ_no q).elim)
      obtain ⟨s34, E36, rfl, H⟩ := hq35
      cases E36
      exact ew_ret (o := none) rfl ⟨_, rfl, rfl, H⟩ ⟨rfl, dX7_joinsTwo_157⟩
    · replace H := H.2 c21
      refine ew_aload_n dX7_joinsTwo_71 rfl lm0 ?_
      refine mw_gA dX7_joinsTwo_72 (e_fl.a q1449) mf_43 rfl ?_
      refine ew_aload_n dX7_joinsTwo_75 rfl lm0 ?_
      refine mw_gI dX7_joinsTwo_76 (e_fl.a q1445) mf_39 rfl ?_
      refine ew_dup2 dX7_joinsTwo_79 rfl rfl ?_
      obtain ⟨v37, H⟩ := H
      refine mw_iald dX7_joinsTwo_80 rfl v37.1 v37.2 ?_
      refine ew_aload_n dX7_joinsTwo_81 rfl lm0 ?_
      refine ew_aload_n dX7_joinsTwo_82 rfl lm0 ?_
      refine mw_gA dX7_joinsTwo_83 (e_fl.a q1435) mf_29 rfl ?_
      refine ew_iconst dX7_joinsTwo_86 (inI_of rfl) ?_
      refine ew_iload_n dX7_joinsTwo_87 rfl lm1 ?_
      obtain ⟨v38, H⟩ := H
      refine ew_imul dX7_joinsTwo_88 v38 ?_
      refine ew_iload dX7_joinsTwo_89 lm4 ?_
      obtain ⟨v39, H⟩ := H
      refine ew_iadd dX7_joinsTwo_91 v39 ?_
      obtain ⟨v40, H⟩ := H
      refine mw_iald dX7_joinsTwo_92 rfl v40.1 v40.2 ?_
      refine ew_aload_n dX7_joinsTwo_93 rfl lm0 ?_
      refine mw_gA dX7_joinsTwo_94 (e_fl.a q1435) mf_29 rfl ?_
      refine ew_iconst dX7_joinsTwo_97 (inI_of rfl) ?_
      refine ew_iload_n dX7_joinsTwo_98 rfl lm2 ?_
      obtain ⟨v41, H⟩ := H
      refine ew_imul dX7_joinsTwo_99 v41 ?_
      refine ew_iload dX7_joinsTwo_100 lm4 ?_
      obtain ⟨v42, H⟩ := H
      refine ew_iadd dX7_joinsTwo_102 v42 ?_
      obtain ⟨v43, H⟩ := H
      refine mw_iald dX7_joinsTwo_103 rfl v43.1 v43.2 ?_
      refine ew_callV (d := d + 1) (as := [aI (s17.2 29 ((3 * x1) + x4)), aI (s17.2 29 ((3 * x2) + x4))]) rfl dX7_joinsTwo_104 me_reasonsOf rfl (ci := 1) rfl rfl (mh_o _ _) (Or.inl q1700) q1702 qs81 (Nat.le_of_ble_eq_true rfl) (Nat.le_refl 0) (Nat.le_refl 0) (S_reasonsOf (d := d + 0) H) (fun o h' hq45 _ => ?_) (fun E i h' q _ => (mQi_no q).elim)
      obtain ⟨r47, s44, E46, rfl, H⟩ := hq45
      cases E46
      refine ew_ior dX7_joinsTwo_107 ?_
      obtain ⟨v50, H⟩ := H
      refine mw_iast dX7_joinsTwo_108 rfl v50.1 v50.2 (fun s48 e49 => ?_)
      replace H := H s48 e49
      obtain ⟨v51, H⟩ := H
      refine ew_iinc dX7_joinsTwo_109 lm4 (by decide) v51 (lv' := [(4, aI (x4 + 1)), (0, aR (some mT)), (1, aI x1), (2, aI x2), (3, aI x3)]) rfl ?_
      refine ew_sub (List.forall_mem_cons.mpr ⟨lm1, (List.forall_mem_cons.mpr ⟨lm2, (List.forall_mem_cons.mpr ⟨lm3, (List.forall_mem_cons.mpr ⟨lm4, (List.forall_mem_cons.mpr ⟨lm0, e_nm⟩)⟩)⟩)⟩)⟩) ?_
      refine ew_goto (tgt := 55) dX7_joinsTwo_112 (by decide) ?_
      exact ew_sub (List.forall_mem_cons.mpr ⟨lm0, (List.forall_mem_cons.mpr ⟨lm1, (List.forall_mem_cons.mpr ⟨lm2, (List.forall_mem_cons.mpr ⟨lm3, (List.forall_mem_cons.mpr ⟨lm4, e_nm⟩)⟩)⟩)⟩)⟩) H
set_option maxHeartbeats 4000000 in
theorem T_joinsTwo_E (d : Nat) (g : AH) (K : MS → Prop) (a : Int) (b : Int) (c : Int) (s0 : MS) (H : B_joinsTwo_E (W_joinsTwo_55 d g K) K a b c s0) : EW mm_joinsTwo (d + 2) 0 0 (mQ g K) 0 [(0, aR (some mT)), (1, aI a), (2, aI b), (3, aI c)] [] (mh s0 g) := by
  refine ew_aload_n dX7_joinsTwo_0 rfl lm0 ?_
  refine mw_gA dX7_joinsTwo_1 (e_fl.a q1446) mf_40 rfl ?_
  refine ew_aload_n dX7_joinsTwo_4 rfl lm0 ?_
  refine mw_gI dX7_joinsTwo_5 (e_fl.a q1445) mf_39 rfl ?_
  refine ew_iload_n dX7_joinsTwo_8 rfl lm1 ?_
  obtain ⟨v3, H⟩ := H
  refine mw_iast dX7_joinsTwo_9 rfl v3.1 v3.2 (fun s1 e2 => ?_)
  replace H := H s1 e2
  refine ew_aload_n dX7_joinsTwo_10 rfl lm0 ?_
  refine mw_gA dX7_joinsTwo_11 (e_fl.a q1447) mf_41 rfl ?_
  refine ew_aload_n dX7_joinsTwo_14 rfl lm0 ?_
  refine mw_gI dX7_joinsTwo_15 (e_fl.a q1445) mf_39 rfl ?_
  refine ew_iload_n dX7_joinsTwo_18 rfl lm2 ?_
  obtain ⟨v6, H⟩ := H
  refine mw_iast dX7_joinsTwo_19 rfl v6.1 v6.2 (fun s4 e5 => ?_)
  replace H := H s4 e5
  refine ew_aload_n dX7_joinsTwo_20 rfl lm0 ?_
  refine mw_gA dX7_joinsTwo_21 (e_fl.a q1448) mf_42 rfl ?_
  refine ew_aload_n dX7_joinsTwo_24 rfl lm0 ?_
  refine mw_gI dX7_joinsTwo_25 (e_fl.a q1445) mf_39 rfl ?_
  refine ew_iload_n dX7_joinsTwo_28 rfl lm3 ?_
  obtain ⟨v9, H⟩ := H
  refine mw_iast dX7_joinsTwo_29 rfl v9.1 v9.2 (fun s7 e8 => ?_)
  replace H := H s7 e8
  refine ew_aload_n dX7_joinsTwo_30 rfl lm0 ?_
  refine mw_gA dX7_joinsTwo_31 (e_fl.a q1449) mf_43 rfl ?_
  refine ew_aload_n dX7_joinsTwo_34 rfl lm0 ?_
  refine mw_gI dX7_joinsTwo_35 (e_fl.a q1445) mf_39 rfl ?_
  refine ew_iload_n dX7_joinsTwo_38 rfl lm3 ?_
  refine ew_bipush dX7_joinsTwo_39 (inI_of rfl) (by decide) ?_
  refine ew_icmp_eq (tgt := 50) dX7_joinsTwo_41 (by decide) (fun c10 => ?_) (fun c10 => ?_)
  · replace H := H.1 c10
    refine ew_iconst dX7_joinsTwo_50 (inI_of rfl) ?_
    obtain ⟨v13, H⟩ := H
    refine mw_iast dX7_joinsTwo_51 rfl v13.1 v13.2 (fun s11 e12 => ?_)
    replace H := H s11 e12
    refine ew_iconst dX7_joinsTwo_52 (inI_of rfl) ?_
    refine ew_istore dX7_joinsTwo_53 (by decide) (lv' := [(4, aI 0), (0, aR (some mT)), (1, aI a), (2, aI b), (3, aI c)]) rfl ?_
    refine ew_sub (List.forall_mem_cons.mpr ⟨lm1, (List.forall_mem_cons.mpr ⟨lm2, (List.forall_mem_cons.mpr ⟨lm3, (List.forall_mem_cons.mpr ⟨lm4, (List.forall_mem_cons.mpr ⟨lm0, e_nm⟩)⟩)⟩)⟩)⟩) ?_
    exact ew_sub (List.forall_mem_cons.mpr ⟨lm0, (List.forall_mem_cons.mpr ⟨lm1, (List.forall_mem_cons.mpr ⟨lm2, (List.forall_mem_cons.mpr ⟨lm3, (List.forall_mem_cons.mpr ⟨lm4, e_nm⟩)⟩)⟩)⟩)⟩) H
  · replace H := H.2 c10
    refine ew_iconst dX7_joinsTwo_44 (inI_of rfl) ?_
    refine ew_iload_n dX7_joinsTwo_45 rfl lm3 ?_
    refine ew_ishl dX7_joinsTwo_46 ?_
    refine ew_goto (tgt := 51) dX7_joinsTwo_47 (by decide) ?_
    obtain ⟨v16, H⟩ := H
    refine mw_iast dX7_joinsTwo_51 rfl v16.1 v16.2 (fun s14 e15 => ?_)
    replace H := H s14 e15
    refine ew_iconst dX7_joinsTwo_52 (inI_of rfl) ?_
    refine ew_istore dX7_joinsTwo_53 (by decide) (lv' := [(4, aI 0), (0, aR (some mT)), (1, aI a), (2, aI b), (3, aI c)]) rfl ?_
    refine ew_sub (List.forall_mem_cons.mpr ⟨lm1, (List.forall_mem_cons.mpr ⟨lm2, (List.forall_mem_cons.mpr ⟨lm3, (List.forall_mem_cons.mpr ⟨lm4, (List.forall_mem_cons.mpr ⟨lm0, e_nm⟩)⟩)⟩)⟩)⟩) ?_
    exact ew_sub (List.forall_mem_cons.mpr ⟨lm0, (List.forall_mem_cons.mpr ⟨lm1, (List.forall_mem_cons.mpr ⟨lm2, (List.forall_mem_cons.mpr ⟨lm3, (List.forall_mem_cons.mpr ⟨lm4, e_nm⟩)⟩)⟩)⟩)⟩) H
def C_joinsTwo (a : Int) (b : Int) (c : Int) (s0 : MS) (K : MS → Prop) : Prop := ∀ (X55 : Int → Int → Int → Int → MS → Prop), (∀ (x1 : Int) (x2 : Int) (x3 : Int) (x4 : Int) (s0 : MS), B_joinsTwo_55 X55 K x1 x2 x3 x4 s0 → X55 x1 x2 x3 x4 s0) → B_joinsTwo_E X55 K a b c s0
theorem S_joinsTwo {d : Nat} {g : AH} {K : MS → Prop} {a : Int} {b : Int} {c : Int} {s0 : MS} (H : C_joinsTwo a b c s0 K) : Sp mm_joinsTwo (d + 2) 0 0 [aR (some mT), aI a, aI b, aI c] (mh s0 g) (mQ g K) :=
  ew_sp rfl (Nat.le_of_ble_eq_true rfl) (T_joinsTwo_E d g K a b c s0 (H _ (fun x1 x2 x3 x4 s0 H => T_joinsTwo_55 d g K x1 x2 x3 x4 s0 H)))
abbrev mm_joinsNext : EM := (yX7_joinsNext, cX7_joinsNext, 3, some .boolean, [])
theorem me_joinsNext : e_mth mm_joinsNext 0 := ⟨rfl, q1687, q117, by decide +kernel, by decide⟩
def B_joinsNext_2 (X2 : Int → MS → Prop) (X14 : Int → Int → MS → Prop) (K : Int → MS → Prop) (x1 : Int) (s0 : MS) : Prop :=
  (((s0.1 27) ≤ x1 → K 0 s0) ∧ (¬ (s0.1 27) ≤ x1 → ((inI (x1 + 1)) ∧ X14 x1 (x1 + 1) s0)))
def B_joinsNext_14 (X2 : Int → MS → Prop) (X14 : Int → Int → MS → Prop) (K : Int → MS → Prop) (x1 : Int) (x2 : Int) (s0 : MS) : Prop :=
  (((s0.1 27) ≤ x2 → (inI (x1 + 1) ∧ X2 (x1 + 1) s0)) ∧ (¬ (s0.1 27) ≤ x2 → ((0 ≤ x1 ∧ x1 < 24) ∧ ((0 ≤ x2 ∧ x2 < 24) ∧ (((s0.2 36 x1) = (s0.2 36 x2) → (inI (x2 + 1) ∧ X14 x1 (x2 + 1) s0)) ∧ (¬ (s0.2 36 x1) = (s0.2 36 x2) → (C_isAlike 36 x1 x2 s0 (fun r10 s7 => ((r10 = 0 → (inI (x2 + 1) ∧ X14 x1 (x2 + 1) s7)) ∧ (¬ r10 = 0 → (C_joinsTwo x1 x2 (-2) s7 (fun s13 => K 1 s13))))))))))))
def B_joinsNext_E (X2 : Int → MS → Prop) (X14 : Int → Int → MS → Prop) (K : Int → MS → Prop)  (s0 : MS) : Prop :=
  X2 0 s0
def W_joinsNext_2 (d : Nat) (g : AH) (K : Int → MS → Prop) (x1 : Int) (s0 : MS) : Prop := EW mm_joinsNext (d + 3) 0 0 (mQi g K) 2 [(0, aR (some mT)), (1, aI x1)] [] (mh s0 g)
def W_joinsNext_14 (d : Nat) (g : AH) (K : Int → MS → Prop) (x1 : Int) (x2 : Int) (s0 : MS) : Prop := EW mm_joinsNext (d + 3) 0 0 (mQi g K) 14 [(0, aR (some mT)), (1, aI x1), (2, aI x2)] [] (mh s0 g)
set_option maxHeartbeats 4000000 in
theorem T_joinsNext_2 (d : Nat) (g : AH) (K : Int → MS → Prop) (x1 : Int) (s0 : MS) (H : B_joinsNext_2 (W_joinsNext_2 d g K) (W_joinsNext_14 d g K) K x1 s0) : EW mm_joinsNext (d + 3) 0 0 (mQi g K) 2 [(0, aR (some mT)), (1, aI x1)] [] (mh s0 g) := by
  refine ew_iload_n dX7_joinsNext_2 rfl lm1 ?_
  refine ew_aload_n dX7_joinsNext_3 rfl lm0 ?_
  refine mw_gI dX7_joinsNext_4 (e_fl.a q1433) mf_27 rfl ?_
  refine ew_icmp_ge (tgt := 72) dX7_joinsNext_7 (by decide) (fun c1 => ?_) (fun c1 => ?_)
  · replace H := H.1 c1
    refine ew_iconst dX7_joinsNext_72 (inI_of rfl) ?_
    exact ew_ret (o := some (aI 0)) rfl ⟨_, _, rfl, rfl, H⟩ ⟨dX7_joinsNext_73, .boolean, rfl, Or.inr (Or.inl rfl), by decide⟩
  · replace H := H.2 c1
    refine ew_iload_n dX7_joinsNext_10 rfl lm1 ?_
    refine ew_iconst dX7_joinsNext_11 (inI_of rfl) ?_
    obtain ⟨v2, H⟩ := H
    refine ew_iadd dX7_joinsNext_12 v2 ?_
    refine ew_istore_n dX7_joinsNext_13 rfl (by decide) (lv' := [(2, aI (x1 + 1)), (0, aR (some mT)), (1, aI x1)]) rfl ?_
    refine ew_sub (List.forall_mem_cons.mpr ⟨lm1, (List.forall_mem_cons.mpr ⟨lm2, (List.forall_mem_cons.mpr ⟨lm0, e_nm⟩)⟩)⟩) ?_
    exact ew_sub (List.forall_mem_cons.mpr ⟨lm0, (List.forall_mem_cons.mpr ⟨lm1, (List.forall_mem_cons.mpr ⟨lm2, e_nm⟩)⟩)⟩) H
set_option maxHeartbeats 4000000 in
theorem T_joinsNext_14 (d : Nat) (g : AH) (K : Int → MS → Prop) (x1 : Int) (x2 : Int) (s0 : MS) (H : B_joinsNext_14 (W_joinsNext_2 d g K) (W_joinsNext_14 d g K) K x1 x2 s0) : EW mm_joinsNext (d + 3) 0 0 (mQi g K) 14 [(0, aR (some mT)), (1, aI x1), (2, aI x2)] [] (mh s0 g) := by
  refine ew_iload_n dX7_joinsNext_14 rfl lm2 ?_
  refine ew_aload_n dX7_joinsNext_15 rfl lm0 ?_
  refine mw_gI dX7_joinsNext_16 (e_fl.a q1433) mf_27 rfl ?_
  refine ew_icmp_ge (tgt := 66) dX7_joinsNext_19 (by decide) (fun c1 => ?_) (fun c1 => ?_)
  · replace H := H.1 c1
    obtain ⟨v2, H⟩ := H
    refine ew_iinc dX7_joinsNext_66 lm1 (by decide) v2 (lv' := [(1, aI (x1 + 1)), (0, aR (some mT)), (2, aI x2)]) rfl ?_
    refine ew_sub (List.forall_mem_cons.mpr ⟨lm1, (List.forall_mem_cons.mpr ⟨lm0, (List.forall_mem_cons.mpr ⟨lm2, e_nm⟩)⟩)⟩) ?_
    refine ew_goto (tgt := 2) dX7_joinsNext_69 (by decide) ?_
    exact ew_sub (List.forall_mem_cons.mpr ⟨lm0, (List.forall_mem_cons.mpr ⟨lm1, e_nm⟩)⟩) H
  · replace H := H.2 c1
    refine ew_aload_n dX7_joinsNext_22 rfl lm0 ?_
    refine mw_gA dX7_joinsNext_23 (e_fl.a q1442) mf_36 rfl ?_
    refine ew_iload_n dX7_joinsNext_26 rfl lm1 ?_
    obtain ⟨v3, H⟩ := H
    refine mw_iald dX7_joinsNext_27 rfl v3.1 v3.2 ?_
    refine ew_aload_n dX7_joinsNext_28 rfl lm0 ?_
    refine mw_gA dX7_joinsNext_29 (e_fl.a q1442) mf_36 rfl ?_
    refine ew_iload_n dX7_joinsNext_32 rfl lm2 ?_
    obtain ⟨v4, H⟩ := H
    refine mw_iald dX7_joinsNext_33 rfl v4.1 v4.2 ?_
    refine ew_icmp_eq (tgt := 60) dX7_joinsNext_34 (by decide) (fun c5 => ?_) (fun c5 => ?_)
    · replace H := H.1 c5
      obtain ⟨v6, H⟩ := H
      refine ew_iinc dX7_joinsNext_60 lm2 (by decide) v6 (lv' := [(2, aI (x2 + 1)), (0, aR (some mT)), (1, aI x1)]) rfl ?_
      refine ew_sub (List.forall_mem_cons.mpr ⟨lm1, (List.forall_mem_cons.mpr ⟨lm2, (List.forall_mem_cons.mpr ⟨lm0, e_nm⟩)⟩)⟩) ?_
      refine ew_goto (tgt := 14) dX7_joinsNext_63 (by decide) ?_
      exact ew_sub (List.forall_mem_cons.mpr ⟨lm0, (List.forall_mem_cons.mpr ⟨lm1, (List.forall_mem_cons.mpr ⟨lm2, e_nm⟩)⟩)⟩) H
    · replace H := H.2 c5
      refine ew_aload_n dX7_joinsNext_37 rfl lm0 ?_
      refine ew_aload_n dX7_joinsNext_38 rfl lm0 ?_
      refine mw_gA dX7_joinsNext_39 (e_fl.a q1442) mf_36 rfl ?_
      refine ew_iload_n dX7_joinsNext_42 rfl lm1 ?_
      refine ew_iload_n dX7_joinsNext_43 rfl lm2 ?_
      refine ew_callV (d := d + 2) (as := [aR (some (0, 1, 36)), aI x1, aI x2]) rfl dX7_joinsNext_44 me_isAlike rfl (ci := 1) rfl rfl (mh_o _ _) (Or.inl q1688) q1690 qs78 (Nat.le_of_ble_eq_true rfl) (Nat.le_refl 0) (Nat.le_refl 0) (S_isAlike (d := d + 1) H) (fun o h' hq8 _ => ?_) (fun E i h' q _ => (mQi_no q).elim)
      obtain ⟨r10, s7, E9, rfl, H⟩ := hq8
      cases E9
      refine ew_if_eq (tgt := 60) dX7_joinsNext_47 (by decide) (fun c11 => ?_) (fun c11 => ?_)
      · replace H := H.1 c11
        obtain ⟨v12, H⟩ := H
        refine ew_iinc dX7_joinsNext_60 lm2 (by decide) v12 (lv' := [(2, aI (x2 + 1)), (0, aR (some mT)), (1, aI x1)]) rfl ?_
        refine ew_sub (List.forall_mem_cons.mpr ⟨lm1, (List.forall_mem_cons.mpr ⟨lm2, (List.forall_mem_cons.mpr ⟨lm0, e_nm⟩)⟩)⟩) ?_
        refine ew_goto (tgt := 14) dX7_joinsNext_63 (by decide) ?_
        exact ew_sub (List.forall_mem_cons.mpr ⟨lm0, (List.forall_mem_cons.mpr ⟨lm1, (List.forall_mem_cons.mpr ⟨lm2, e_nm⟩)⟩)⟩) H
      · replace H := H.2 c11
        refine ew_aload_n dX7_joinsNext_50 rfl lm0 ?_
        refine ew_iload_n dX7_joinsNext_51 rfl lm1 ?_
        refine ew_iload_n dX7_joinsNext_52 rfl lm2 ?_
        refine ew_bipush dX7_joinsNext_53 (inI_of rfl) (by decide) ?_
        refine ew_callV (d := d + 2) (as := [aI x1, aI x2, aI (-2)]) rfl dX7_joinsNext_55 me_joinsTwo rfl (ci := 1) rfl rfl (mh_o _ _) (Or.inl q1696) q1698 qs80 (Nat.le_of_ble_eq_true rfl) (Nat.le_refl 0) (Nat.le_refl 0) (S_joinsTwo (d := d + 0) H) (fun o h' hq14 _ => ?_) (fun E i h' q _ => (mQ_no q).elim)
        obtain ⟨s13, E15, rfl, H⟩ := hq14
        cases E15
        refine ew_iconst dX7_joinsNext_58 (inI_of rfl) ?_
        exact ew_ret (o := some (aI 1)) rfl ⟨_, _, rfl, rfl, H⟩ ⟨dX7_joinsNext_59, .boolean, rfl, Or.inr (Or.inl rfl), by decide⟩
set_option maxHeartbeats 4000000 in
theorem T_joinsNext_E (d : Nat) (g : AH) (K : Int → MS → Prop)  (s0 : MS) (H : B_joinsNext_E (W_joinsNext_2 d g K) (W_joinsNext_14 d g K) K  s0) : EW mm_joinsNext (d + 3) 0 0 (mQi g K) 0 [(0, aR (some mT))] [] (mh s0 g) := by
  refine ew_iconst dX7_joinsNext_0 (inI_of rfl) ?_
  refine ew_istore_n dX7_joinsNext_1 rfl (by decide) (lv' := [(1, aI 0), (0, aR (some mT))]) rfl ?_
  refine ew_sub (List.forall_mem_cons.mpr ⟨lm1, (List.forall_mem_cons.mpr ⟨lm0, e_nm⟩)⟩) ?_
  exact ew_sub (List.forall_mem_cons.mpr ⟨lm0, (List.forall_mem_cons.mpr ⟨lm1, e_nm⟩)⟩) H
def C_joinsNext  (s0 : MS) (K : Int → MS → Prop) : Prop := ∀ (X2 : Int → MS → Prop) (X14 : Int → Int → MS → Prop), (∀ (x1 : Int) (s0 : MS), B_joinsNext_2 X2 X14 K x1 s0 → X2 x1 s0) → (∀ (x1 : Int) (x2 : Int) (s0 : MS), B_joinsNext_14 X2 X14 K x1 x2 s0 → X14 x1 x2 s0) → B_joinsNext_E X2 X14 K  s0
theorem S_joinsNext {d : Nat} {g : AH} {K : Int → MS → Prop}  {s0 : MS} (H : C_joinsNext  s0 K) : Sp mm_joinsNext (d + 3) 0 0 [aR (some mT)] (mh s0 g) (mQi g K) :=
  ew_sp rfl (Nat.le_of_ble_eq_true rfl) (T_joinsNext_E d g K  s0 (H _ _ (fun x1 s0 H => T_joinsNext_2 d g K x1 s0 H) (fun x1 x2 s0 H => T_joinsNext_14 d g K x1 x2 s0 H)))
abbrev mm_closes : EM := (yX7_closes, cX7_closes, 1, none, [])
theorem me_closes : e_mth mm_closes 0 := ⟨rfl, q1683, q117, by decide +kernel, by decide⟩
def B_closes_0 (X0 : MS → Prop) (K : MS → Prop)  (s0 : MS) : Prop :=
  (C_joinsNext s0 (fun r4 s1 => ((r4 = 0 → K s1) ∧ (¬ r4 = 0 → (∀ s6 : MS, s6 = ms s1 0 0 → X0 s6)))))
def B_closes_E (X0 : MS → Prop) (K : MS → Prop)  (s0 : MS) : Prop :=
  (C_joinsNext s0 (fun r4 s1 => ((r4 = 0 → K s1) ∧ (¬ r4 = 0 → (∀ s6 : MS, s6 = ms s1 0 0 → X0 s6)))))
def W_closes_0 (d : Nat) (g : AH) (K : MS → Prop)  (s0 : MS) : Prop := EW mm_closes (d + 4) 0 0 (mQ g K) 0 [(0, aR (some mT))] [] (mh s0 g)
set_option maxHeartbeats 4000000 in
theorem T_closes_0 (d : Nat) (g : AH) (K : MS → Prop)  (s0 : MS) (H : B_closes_0 (W_closes_0 d g K) K  s0) : EW mm_closes (d + 4) 0 0 (mQ g K) 0 [(0, aR (some mT))] [] (mh s0 g) := by
  refine ew_aload_n dX7_closes_0 rfl lm0 ?_
  refine ew_callV (d := d + 3) (as := []) rfl dX7_closes_1 me_joinsNext rfl (ci := 1) rfl rfl (mh_o _ _) (Or.inl q1684) q1686 qs77 (Nat.le_of_ble_eq_true rfl) (Nat.le_refl 0) (Nat.le_refl 0) (S_joinsNext (d := d + 0) H) (fun o h' hq2 _ => ?_) (fun E i h' q _ => (mQi_no q).elim)
  obtain ⟨r4, s1, E3, rfl, H⟩ := hq2
  cases E3
  refine ew_if_eq (tgt := 15) dX7_closes_4 (by decide) (fun c5 => ?_) (fun c5 => ?_)
  · replace H := H.1 c5
    exact ew_ret (o := none) rfl ⟨_, rfl, rfl, H⟩ ⟨rfl, dX7_closes_15⟩
  · replace H := H.2 c5
    refine ew_aload_n dX7_closes_7 rfl lm0 ?_
    refine ew_iconst dX7_closes_8 (inI_of rfl) ?_
    refine mw_pI dX7_closes_9 (e_fl.a q1406) mf_0 (Or.inl rfl) (ty := .int) (by decide +kernel) trivial (fun s6 e7 => ?_)
    replace H := H s6 e7
    refine ew_goto (tgt := 0) dX7_closes_12 (by decide) ?_
    exact ew_sub (List.forall_mem_cons.mpr ⟨lm0, e_nm⟩) H
set_option maxHeartbeats 4000000 in
theorem T_closes_E (d : Nat) (g : AH) (K : MS → Prop)  (s0 : MS) (H : B_closes_E (W_closes_0 d g K) K  s0) : EW mm_closes (d + 4) 0 0 (mQ g K) 0 [(0, aR (some mT))] [] (mh s0 g) := by
  refine ew_aload_n dX7_closes_0 rfl lm0 ?_
  refine ew_callV (d := d + 3) (as := []) rfl dX7_closes_1 me_joinsNext rfl (ci := 1) rfl rfl (mh_o _ _) (Or.inl q1684) q1686 qs77 (Nat.le_of_ble_eq_true rfl) (Nat.le_refl 0) (Nat.le_refl 0) (S_joinsNext (d := d + 0) H) (fun o h' hq2 _ => ?_) (fun E i h' q _ => (mQi_no q).elim)
  obtain ⟨r4, s1, E3, rfl, H⟩ := hq2
  cases E3
  refine ew_if_eq (tgt := 15) dX7_closes_4 (by decide) (fun c5 => ?_) (fun c5 => ?_)
  · replace H := H.1 c5
    exact ew_ret (o := none) rfl ⟨_, rfl, rfl, H⟩ ⟨rfl, dX7_closes_15⟩
  · replace H := H.2 c5
    refine ew_aload_n dX7_closes_7 rfl lm0 ?_
    refine ew_iconst dX7_closes_8 (inI_of rfl) ?_
    refine mw_pI dX7_closes_9 (e_fl.a q1406) mf_0 (Or.inl rfl) (ty := .int) (by decide +kernel) trivial (fun s6 e7 => ?_)
    replace H := H s6 e7
    refine ew_goto (tgt := 0) dX7_closes_12 (by decide) ?_
    exact ew_sub (List.forall_mem_cons.mpr ⟨lm0, e_nm⟩) H
def C_closes  (s0 : MS) (K : MS → Prop) : Prop := ∀ (X0 : MS → Prop), (∀  (s0 : MS), B_closes_0 X0 K  s0 → X0  s0) → B_closes_E X0 K  s0
theorem S_closes {d : Nat} {g : AH} {K : MS → Prop}  {s0 : MS} (H : C_closes  s0 K) : Sp mm_closes (d + 4) 0 0 [aR (some mT)] (mh s0 g) (mQ g K) :=
  ew_sp rfl (Nat.le_of_ble_eq_true rfl) (T_closes_E d g K  s0 (H _ (fun  s0 H => T_closes_0 d g K  s0 H)))
abbrev mm_comesTerm : EM := (yX7_comesTerm, cX7_comesTerm, 3, none, [])
theorem me_comesTerm : e_mth mm_comesTerm 1 := ⟨rfl, q1679, q117, by decide +kernel, by decide⟩
def B_comesTerm_17 (X17 : Int → Int → MS → Prop) (K : MS → Prop) (x1 : Int) (x2 : Int) (s0 : MS) : Prop :=
  ((3 ≤ x2 → ((0 ≤ (s0.1 27) ∧ (s0.1 27) < 24) ∧ ∀ s2 : MS, s2 = ma s0 36 (s0.1 27) (s0.1 27) → ((0 ≤ (s2.1 27) ∧ (s2.1 27) < 24) ∧ ∀ s5 : MS, s5 = ma s2 37 (s2.1 27) (-2) → ((0 ≤ (s5.1 27) ∧ (s5.1 27) < 24) ∧ ∀ s8 : MS, s8 = ma s5 38 (s5.1 27) (-1) → ((inI ((s8.1 27) + 1)) ∧ (∀ s12 : MS, s12 = ms s8 27 ((s8.1 27) + 1) → (C_closes s12 (fun s14 => K s14)))))))) ∧ (¬ 3 ≤ x2 → ((inI (3 * (s0.1 27))) ∧ ((inI ((3 * (s0.1 27)) + x2)) ∧ ((0 ≤ x1 ∧ x1 < 384) ∧ ((0 ≤ (s0.2 11 x1) ∧ (s0.2 11 x1) < 16) ∧ (((s0.2 7 (s0.2 11 x1)) ≤ x2 → ((0 ≤ ((3 * (s0.1 27)) + x2) ∧ ((3 * (s0.1 27)) + x2) < 72) ∧ ∀ s22 : MS, s22 = ma s0 29 ((3 * (s0.1 27)) + x2) 0 → (inI (x2 + 1) ∧ X17 x1 (x2 + 1) s22))) ∧ (¬ (s0.2 7 (s0.2 11 x1)) ≤ x2 → ((inI (x1 + 1)) ∧ ((inI ((x1 + 1) + x2)) ∧ ((0 ≤ ((x1 + 1) + x2) ∧ ((x1 + 1) + x2) < 384) ∧ ((0 ≤ ((3 * (s0.1 27)) + x2) ∧ ((3 * (s0.1 27)) + x2) < 72) ∧ ∀ s29 : MS, s29 = ma s0 29 ((3 * (s0.1 27)) + x2) (s0.2 11 ((x1 + 1) + x2)) → (inI (x2 + 1) ∧ X17 x1 (x2 + 1) s29)))))))))))))
def B_comesTerm_E (X17 : Int → Int → MS → Prop) (K : MS → Prop) (a : Int) (s0 : MS) : Prop :=
  ((0 ≤ a ∧ a < 384) ∧ ((0 ≤ (s0.1 27) ∧ (s0.1 27) < 24) ∧ ∀ s2 : MS, s2 = ma s0 28 (s0.1 27) (s0.2 11 a) → X17 a 0 s2))
def W_comesTerm_17 (d : Nat) (g : AH) (K : MS → Prop) (x1 : Int) (x2 : Int) (s0 : MS) : Prop := EW mm_comesTerm (d + 5) 0 0 (mQ g K) 17 [(0, aR (some mT)), (1, aI x1), (2, aI x2)] [] (mh s0 g)
set_option maxHeartbeats 4000000 in
theorem T_comesTerm_17 (d : Nat) (g : AH) (K : MS → Prop) (x1 : Int) (x2 : Int) (s0 : MS) (H : B_comesTerm_17 (W_comesTerm_17 d g K) K x1 x2 s0) : EW mm_comesTerm (d + 5) 0 0 (mQ g K) 17 [(0, aR (some mT)), (1, aI x1), (2, aI x2)] [] (mh s0 g) := by
  refine ew_iload_n dX7_comesTerm_17 rfl lm2 ?_
  refine ew_iconst dX7_comesTerm_18 (inI_of rfl) ?_
  refine ew_icmp_ge (tgt := 70) dX7_comesTerm_19 (by decide) (fun c1 => ?_) (fun c1 => ?_)
  · replace H := H.1 c1
    refine ew_aload_n dX7_comesTerm_70 rfl lm0 ?_
    refine mw_gA dX7_comesTerm_71 (e_fl.a q1442) mf_36 rfl ?_
    refine ew_aload_n dX7_comesTerm_74 rfl lm0 ?_
    refine mw_gI dX7_comesTerm_75 (e_fl.a q1433) mf_27 rfl ?_
    refine ew_aload_n dX7_comesTerm_78 rfl lm0 ?_
    refine mw_gI dX7_comesTerm_79 (e_fl.a q1433) mf_27 rfl ?_
    obtain ⟨v4, H⟩ := H
    refine mw_iast dX7_comesTerm_82 rfl v4.1 v4.2 (fun s2 e3 => ?_)
    replace H := H s2 e3
    refine ew_aload_n dX7_comesTerm_83 rfl lm0 ?_
    refine mw_gA dX7_comesTerm_84 (e_fl.a q1443) mf_37 rfl ?_
    refine ew_aload_n dX7_comesTerm_87 rfl lm0 ?_
    refine mw_gI dX7_comesTerm_88 (e_fl.a q1433) mf_27 rfl ?_
    refine ew_bipush dX7_comesTerm_91 (inI_of rfl) (by decide) ?_
    obtain ⟨v7, H⟩ := H
    refine mw_iast dX7_comesTerm_93 rfl v7.1 v7.2 (fun s5 e6 => ?_)
    replace H := H s5 e6
    refine ew_aload_n dX7_comesTerm_94 rfl lm0 ?_
    refine mw_gA dX7_comesTerm_95 (e_fl.a q1444) mf_38 rfl ?_
    refine ew_aload_n dX7_comesTerm_98 rfl lm0 ?_
    refine mw_gI dX7_comesTerm_99 (e_fl.a q1433) mf_27 rfl ?_
    refine ew_iconst dX7_comesTerm_102 (inI_of rfl) ?_
    obtain ⟨v10, H⟩ := H
    refine mw_iast dX7_comesTerm_103 rfl v10.1 v10.2 (fun s8 e9 => ?_)
    replace H := H s8 e9
    refine ew_aload_n dX7_comesTerm_104 rfl lm0 ?_
    refine ew_dup dX7_comesTerm_105 rfl ?_
    refine mw_gI dX7_comesTerm_106 (e_fl.a q1433) mf_27 rfl ?_
    refine ew_iconst dX7_comesTerm_109 (inI_of rfl) ?_
    obtain ⟨v11, H⟩ := H
    refine ew_iadd dX7_comesTerm_110 v11 ?_
    refine mw_pI dX7_comesTerm_111 (e_fl.a q1433) mf_27 (Or.inl rfl) (ty := .int) (by decide +kernel) trivial (fun s12 e13 => ?_)
    replace H := H s12 e13
    refine ew_aload_n dX7_comesTerm_114 rfl lm0 ?_
    refine ew_callV (d := d + 4) (as := []) rfl dX7_comesTerm_115 me_closes rfl (ci := 1) rfl rfl (mh_o _ _) (Or.inl q1680) q1682 qs76 (Nat.le_of_ble_eq_true rfl) (Nat.le_refl 0) (Nat.le_refl 0) (S_closes (d := d + 0) H) (fun o h' hq15 _ => ?_) (fun E i h' q _ => (mQ_no q).elim)
    obtain ⟨s14, E16, rfl, H⟩ := hq15
    cases E16
    exact ew_ret (o := none) rfl ⟨_, rfl, rfl, H⟩ ⟨rfl, dX7_comesTerm_118⟩
  · replace H := H.2 c1
    refine ew_aload_n dX7_comesTerm_22 rfl lm0 ?_
    refine mw_gA dX7_comesTerm_23 (e_fl.a q1435) mf_29 rfl ?_
    refine ew_iconst dX7_comesTerm_26 (inI_of rfl) ?_
    refine ew_aload_n dX7_comesTerm_27 rfl lm0 ?_
    refine mw_gI dX7_comesTerm_28 (e_fl.a q1433) mf_27 rfl ?_
    obtain ⟨v17, H⟩ := H
    refine ew_imul dX7_comesTerm_31 v17 ?_
    refine ew_iload_n dX7_comesTerm_32 rfl lm2 ?_
    obtain ⟨v18, H⟩ := H
    refine ew_iadd dX7_comesTerm_33 v18 ?_
    refine ew_iload_n dX7_comesTerm_34 rfl lm2 ?_
    refine ew_aload_n dX7_comesTerm_35 rfl lm0 ?_
    refine mw_gA dX7_comesTerm_36 (e_fl.a q1413) mf_7 rfl ?_
    refine ew_aload_n dX7_comesTerm_39 rfl lm0 ?_
    refine mw_gA dX7_comesTerm_40 (e_fl.a q1417) mf_11 rfl ?_
    refine ew_iload_n dX7_comesTerm_43 rfl lm1 ?_
    obtain ⟨v19, H⟩ := H
    refine mw_iald dX7_comesTerm_44 rfl v19.1 v19.2 ?_
    obtain ⟨v20, H⟩ := H
    refine mw_iald dX7_comesTerm_45 rfl v20.1 v20.2 ?_
    refine ew_icmp_ge (tgt := 62) dX7_comesTerm_46 (by decide) (fun c21 => ?_) (fun c21 => ?_)
    · replace H := H.1 c21
      refine ew_iconst dX7_comesTerm_62 (inI_of rfl) ?_
      obtain ⟨v24, H⟩ := H
      refine mw_iast dX7_comesTerm_63 rfl v24.1 v24.2 (fun s22 e23 => ?_)
      replace H := H s22 e23
      obtain ⟨v25, H⟩ := H
      refine ew_iinc dX7_comesTerm_64 lm2 (by decide) v25 (lv' := [(2, aI (x2 + 1)), (0, aR (some mT)), (1, aI x1)]) rfl ?_
      refine ew_sub (List.forall_mem_cons.mpr ⟨lm1, (List.forall_mem_cons.mpr ⟨lm2, (List.forall_mem_cons.mpr ⟨lm0, e_nm⟩)⟩)⟩) ?_
      refine ew_goto (tgt := 17) dX7_comesTerm_67 (by decide) ?_
      exact ew_sub (List.forall_mem_cons.mpr ⟨lm0, (List.forall_mem_cons.mpr ⟨lm1, (List.forall_mem_cons.mpr ⟨lm2, e_nm⟩)⟩)⟩) H
    · replace H := H.2 c21
      refine ew_aload_n dX7_comesTerm_49 rfl lm0 ?_
      refine mw_gA dX7_comesTerm_50 (e_fl.a q1417) mf_11 rfl ?_
      refine ew_iload_n dX7_comesTerm_53 rfl lm1 ?_
      refine ew_iconst dX7_comesTerm_54 (inI_of rfl) ?_
      obtain ⟨v26, H⟩ := H
      refine ew_iadd dX7_comesTerm_55 v26 ?_
      refine ew_iload_n dX7_comesTerm_56 rfl lm2 ?_
      obtain ⟨v27, H⟩ := H
      refine ew_iadd dX7_comesTerm_57 v27 ?_
      obtain ⟨v28, H⟩ := H
      refine mw_iald dX7_comesTerm_58 rfl v28.1 v28.2 ?_
      refine ew_goto (tgt := 63) dX7_comesTerm_59 (by decide) ?_
      obtain ⟨v31, H⟩ := H
      refine mw_iast dX7_comesTerm_63 rfl v31.1 v31.2 (fun s29 e30 => ?_)
      replace H := H s29 e30
      obtain ⟨v32, H⟩ := H
      refine ew_iinc dX7_comesTerm_64 lm2 (by decide) v32 (lv' := [(2, aI (x2 + 1)), (0, aR (some mT)), (1, aI x1)]) rfl ?_
      refine ew_sub (List.forall_mem_cons.mpr ⟨lm1, (List.forall_mem_cons.mpr ⟨lm2, (List.forall_mem_cons.mpr ⟨lm0, e_nm⟩)⟩)⟩) ?_
      refine ew_goto (tgt := 17) dX7_comesTerm_67 (by decide) ?_
      exact ew_sub (List.forall_mem_cons.mpr ⟨lm0, (List.forall_mem_cons.mpr ⟨lm1, (List.forall_mem_cons.mpr ⟨lm2, e_nm⟩)⟩)⟩) H
set_option maxHeartbeats 4000000 in
theorem T_comesTerm_E (d : Nat) (g : AH) (K : MS → Prop) (a : Int) (s0 : MS) (H : B_comesTerm_E (W_comesTerm_17 d g K) K a s0) : EW mm_comesTerm (d + 5) 0 0 (mQ g K) 0 [(0, aR (some mT)), (1, aI a)] [] (mh s0 g) := by
  refine ew_aload_n dX7_comesTerm_0 rfl lm0 ?_
  refine mw_gA dX7_comesTerm_1 (e_fl.a q1434) mf_28 rfl ?_
  refine ew_aload_n dX7_comesTerm_4 rfl lm0 ?_
  refine mw_gI dX7_comesTerm_5 (e_fl.a q1433) mf_27 rfl ?_
  refine ew_aload_n dX7_comesTerm_8 rfl lm0 ?_
  refine mw_gA dX7_comesTerm_9 (e_fl.a q1417) mf_11 rfl ?_
  refine ew_iload_n dX7_comesTerm_12 rfl lm1 ?_
  obtain ⟨v1, H⟩ := H
  refine mw_iald dX7_comesTerm_13 rfl v1.1 v1.2 ?_
  obtain ⟨v4, H⟩ := H
  refine mw_iast dX7_comesTerm_14 rfl v4.1 v4.2 (fun s2 e3 => ?_)
  replace H := H s2 e3
  refine ew_iconst dX7_comesTerm_15 (inI_of rfl) ?_
  refine ew_istore_n dX7_comesTerm_16 rfl (by decide) (lv' := [(2, aI 0), (0, aR (some mT)), (1, aI a)]) rfl ?_
  refine ew_sub (List.forall_mem_cons.mpr ⟨lm1, (List.forall_mem_cons.mpr ⟨lm2, (List.forall_mem_cons.mpr ⟨lm0, e_nm⟩)⟩)⟩) ?_
  exact ew_sub (List.forall_mem_cons.mpr ⟨lm0, (List.forall_mem_cons.mpr ⟨lm1, (List.forall_mem_cons.mpr ⟨lm2, e_nm⟩)⟩)⟩) H
def C_comesTerm (a : Int) (s0 : MS) (K : MS → Prop) : Prop := ∀ (X17 : Int → Int → MS → Prop), (∀ (x1 : Int) (x2 : Int) (s0 : MS), B_comesTerm_17 X17 K x1 x2 s0 → X17 x1 x2 s0) → B_comesTerm_E X17 K a s0
theorem S_comesTerm {d : Nat} {g : AH} {K : MS → Prop} {a : Int} {s0 : MS} (H : C_comesTerm a s0 K) : Sp mm_comesTerm (d + 5) 0 0 [aR (some mT), aI a] (mh s0 g) (mQ g K) :=
  ew_sp rfl (Nat.le_of_ble_eq_true rfl) (T_comesTerm_E d g K a s0 (H _ (fun x1 x2 s0 H => T_comesTerm_17 d g K x1 x2 s0 H)))
