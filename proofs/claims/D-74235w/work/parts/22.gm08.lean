set_option maxRecDepth 100000
abbrev mm_groupMany : EM := (yX7_groupMany, cX7_groupMany, 4, some .int, [])
theorem me_groupMany : e_mth mm_groupMany 1 := ⟨rfl, q1758, q117, by decide +kernel, by decide⟩
def B_groupMany_4 (X4 : Int → Int → Int → MS → Prop) (K : Int → MS → Prop) (x1 : Int) (x2 : Int) (x3 : Int) (s0 : MS) : Prop :=
  (((s0.1 27) ≤ x3 → K x2 s0) ∧ (¬ (s0.1 27) ≤ x3 → ((0 ≤ x3 ∧ x3 < 24) ∧ ((0 ≤ x1 ∧ x1 < 24) ∧ (((s0.2 36 x3) = (s0.2 36 x1) → ((inI (x2 + 1)) ∧ (inI (x3 + 1) ∧ X4 x1 (x2 + 1) (x3 + 1) s0))) ∧ (¬ (s0.2 36 x3) = (s0.2 36 x1) → ((inI (x2 + 0)) ∧ (inI (x3 + 1) ∧ X4 x1 (x2 + 0) (x3 + 1) s0))))))))
def B_groupMany_E (X4 : Int → Int → Int → MS → Prop) (K : Int → MS → Prop) (a : Int) (s0 : MS) : Prop :=
  X4 a 0 0 s0
def W_groupMany_4 (d : Nat) (g : AH) (K : Int → MS → Prop) (x1 : Int) (x2 : Int) (x3 : Int) (s0 : MS) : Prop := EW mm_groupMany (d + 0) 0 0 (mQi g K) 4 [(0, aR (some mT)), (1, aI x1), (2, aI x2), (3, aI x3)] [] (mh s0 g)
set_option maxHeartbeats 4000000 in
theorem T_groupMany_4 (d : Nat) (g : AH) (K : Int → MS → Prop) (x1 : Int) (x2 : Int) (x3 : Int) (s0 : MS) (H : B_groupMany_4 (W_groupMany_4 d g K) K x1 x2 x3 s0) : EW mm_groupMany (d + 0) 0 0 (mQi g K) 4 [(0, aR (some mT)), (1, aI x1), (2, aI x2), (3, aI x3)] [] (mh s0 g) := by
  refine ew_iload_n dX7_groupMany_4 rfl lm3 ?_
  refine ew_aload_n dX7_groupMany_5 rfl lm0 ?_
  refine mw_gI dX7_groupMany_6 (e_fl.a q1433) mf_27 rfl ?_
  refine ew_icmp_ge (tgt := 41) dX7_groupMany_9 (by decide) (fun c1 => ?_) (fun c1 => ?_)
  · replace H := H.1 c1
    refine ew_iload_n dX7_groupMany_41 rfl lm2 ?_
    exact ew_ret (o := some (aI x2)) rfl ⟨_, _, rfl, rfl, H⟩ ⟨dX7_groupMany_42, .int, rfl, Or.inl rfl, rfl⟩
  · replace H := H.2 c1
    refine ew_iload_n dX7_groupMany_12 rfl lm2 ?_
    refine ew_aload_n dX7_groupMany_13 rfl lm0 ?_
    refine mw_gA dX7_groupMany_14 (e_fl.a q1442) mf_36 rfl ?_
    refine ew_iload_n dX7_groupMany_17 rfl lm3 ?_
    obtain ⟨v2, H⟩ := H
    refine mw_iald dX7_groupMany_18 rfl v2.1 v2.2 ?_
    refine ew_aload_n dX7_groupMany_19 rfl lm0 ?_
    refine mw_gA dX7_groupMany_20 (e_fl.a q1442) mf_36 rfl ?_
    refine ew_iload_n dX7_groupMany_23 rfl lm1 ?_
    obtain ⟨v3, H⟩ := H
    refine mw_iald dX7_groupMany_24 rfl v3.1 v3.2 ?_
    refine ew_icmp_ne (tgt := 32) dX7_groupMany_25 (by decide) (fun c4 => ?_) (fun c4 => ?_)
    · replace H := H.2 c4
      refine ew_iconst dX7_groupMany_32 (inI_of rfl) ?_
      obtain ⟨v5, H⟩ := H
      refine ew_iadd dX7_groupMany_33 v5 ?_
      refine ew_istore_n dX7_groupMany_34 rfl (by decide) (lv' := [(2, aI (x2 + 0)), (0, aR (some mT)), (1, aI x1), (3, aI x3)]) rfl ?_
      refine ew_sub (List.forall_mem_cons.mpr ⟨lm1, (List.forall_mem_cons.mpr ⟨lm2, (List.forall_mem_cons.mpr ⟨lm0, (List.forall_mem_cons.mpr ⟨lm3, e_nm⟩)⟩)⟩)⟩) ?_
      obtain ⟨v6, H⟩ := H
      refine ew_iinc dX7_groupMany_35 lm3 (by decide) v6 (lv' := [(3, aI (x3 + 1)), (0, aR (some mT)), (1, aI x1), (2, aI (x2 + 0))]) rfl ?_
      refine ew_sub (List.forall_mem_cons.mpr ⟨lm1, (List.forall_mem_cons.mpr ⟨lm2, (List.forall_mem_cons.mpr ⟨lm3, (List.forall_mem_cons.mpr ⟨lm0, e_nm⟩)⟩)⟩)⟩) ?_
      refine ew_goto (tgt := 4) dX7_groupMany_38 (by decide) ?_
      exact ew_sub (List.forall_mem_cons.mpr ⟨lm0, (List.forall_mem_cons.mpr ⟨lm1, (List.forall_mem_cons.mpr ⟨lm2, (List.forall_mem_cons.mpr ⟨lm3, e_nm⟩)⟩)⟩)⟩) H
    · replace H := H.1 c4
      refine ew_iconst dX7_groupMany_28 (inI_of rfl) ?_
      refine ew_goto (tgt := 33) dX7_groupMany_29 (by decide) ?_
      obtain ⟨v7, H⟩ := H
      refine ew_iadd dX7_groupMany_33 v7 ?_
      refine ew_istore_n dX7_groupMany_34 rfl (by decide) (lv' := [(2, aI (x2 + 1)), (0, aR (some mT)), (1, aI x1), (3, aI x3)]) rfl ?_
      refine ew_sub (List.forall_mem_cons.mpr ⟨lm1, (List.forall_mem_cons.mpr ⟨lm2, (List.forall_mem_cons.mpr ⟨lm0, (List.forall_mem_cons.mpr ⟨lm3, e_nm⟩)⟩)⟩)⟩) ?_
      obtain ⟨v8, H⟩ := H
      refine ew_iinc dX7_groupMany_35 lm3 (by decide) v8 (lv' := [(3, aI (x3 + 1)), (0, aR (some mT)), (1, aI x1), (2, aI (x2 + 1))]) rfl ?_
      refine ew_sub (List.forall_mem_cons.mpr ⟨lm1, (List.forall_mem_cons.mpr ⟨lm2, (List.forall_mem_cons.mpr ⟨lm3, (List.forall_mem_cons.mpr ⟨lm0, e_nm⟩)⟩)⟩)⟩) ?_
      refine ew_goto (tgt := 4) dX7_groupMany_38 (by decide) ?_
      exact ew_sub (List.forall_mem_cons.mpr ⟨lm0, (List.forall_mem_cons.mpr ⟨lm1, (List.forall_mem_cons.mpr ⟨lm2, (List.forall_mem_cons.mpr ⟨lm3, e_nm⟩)⟩)⟩)⟩) H
set_option maxHeartbeats 4000000 in
theorem T_groupMany_E (d : Nat) (g : AH) (K : Int → MS → Prop) (a : Int) (s0 : MS) (H : B_groupMany_E (W_groupMany_4 d g K) K a s0) : EW mm_groupMany (d + 0) 0 0 (mQi g K) 0 [(0, aR (some mT)), (1, aI a)] [] (mh s0 g) := by
  refine ew_iconst dX7_groupMany_0 (inI_of rfl) ?_
  refine ew_istore_n dX7_groupMany_1 rfl (by decide) (lv' := [(2, aI 0), (0, aR (some mT)), (1, aI a)]) rfl ?_
  refine ew_sub (List.forall_mem_cons.mpr ⟨lm1, (List.forall_mem_cons.mpr ⟨lm2, (List.forall_mem_cons.mpr ⟨lm0, e_nm⟩)⟩)⟩) ?_
  refine ew_iconst dX7_groupMany_2 (inI_of rfl) ?_
  refine ew_istore_n dX7_groupMany_3 rfl (by decide) (lv' := [(3, aI 0), (0, aR (some mT)), (1, aI a), (2, aI 0)]) rfl ?_
  refine ew_sub (List.forall_mem_cons.mpr ⟨lm1, (List.forall_mem_cons.mpr ⟨lm2, (List.forall_mem_cons.mpr ⟨lm3, (List.forall_mem_cons.mpr ⟨lm0, e_nm⟩)⟩)⟩)⟩) ?_
  exact ew_sub (List.forall_mem_cons.mpr ⟨lm0, (List.forall_mem_cons.mpr ⟨lm1, (List.forall_mem_cons.mpr ⟨lm2, (List.forall_mem_cons.mpr ⟨lm3, e_nm⟩)⟩)⟩)⟩) H
def C_groupMany (a : Int) (s0 : MS) (K : Int → MS → Prop) : Prop := ∀ (X4 : Int → Int → Int → MS → Prop), (∀ (x1 : Int) (x2 : Int) (x3 : Int) (s0 : MS), B_groupMany_4 X4 K x1 x2 x3 s0 → X4 x1 x2 x3 s0) → B_groupMany_E X4 K a s0
theorem S_groupMany {d : Nat} {g : AH} {K : Int → MS → Prop} {a : Int} {s0 : MS} (H : C_groupMany a s0 K) : Sp mm_groupMany (d + 0) 0 0 [aR (some mT), aI a] (mh s0 g) (mQi g K) :=
  ew_sp rfl (Nat.le_of_ble_eq_true rfl) (T_groupMany_E d g K a s0 (H _ (fun x1 x2 x3 s0 H => T_groupMany_4 d g K x1 x2 x3 s0 H)))
abbrev mm_usersOf : EM := (yX7_usersOf, cX7_usersOf, 6, some .int, [])
theorem me_usersOf : e_mth mm_usersOf 1 := ⟨rfl, q1762, q117, by decide +kernel, by decide⟩
def B_usersOf_4 (X4 : Int → Int → Int → MS → Prop) (X18 : Int → Int → Int → Int → Int → MS → Prop) (K : Int → MS → Prop) (x1 : Int) (x2 : Int) (x3 : Int) (s0 : MS) : Prop :=
  (((s0.1 27) ≤ x3 → K x2 s0) ∧ (¬ (s0.1 27) ≤ x3 → X18 x1 x2 x3 0 0 s0))
def B_usersOf_18 (X4 : Int → Int → Int → MS → Prop) (X18 : Int → Int → Int → Int → Int → MS → Prop) (K : Int → MS → Prop) (x1 : Int) (x2 : Int) (x3 : Int) (x4 : Int) (x5 : Int) (s0 : MS) : Prop :=
  (C_takesOf x3 s0 (fun r4 s1 => ((r4 ≤ x5 → ((x4 = 0 → ((inI (x2 + 0)) ∧ (inI (x3 + 1) ∧ X4 x1 (x2 + 0) (x3 + 1) s1))) ∧ (¬ x4 = 0 → ((inI (x2 + 1)) ∧ (inI (x3 + 1) ∧ X4 x1 (x2 + 1) (x3 + 1) s1))))) ∧ (¬ r4 ≤ x5 → ((x4 = 0 → ((inI (3 * x3)) ∧ ((inI ((3 * x3) + x5)) ∧ ((0 ≤ ((3 * x3) + x5) ∧ ((3 * x3) + x5) < 72) ∧ ((0 ≤ (s1.2 29 ((3 * x3) + x5)) ∧ (s1.2 29 ((3 * x3) + x5)) < 24) ∧ ((0 ≤ x1 ∧ x1 < 24) ∧ (((s1.2 36 (s1.2 29 ((3 * x3) + x5))) = (s1.2 36 x1) → (inI (x5 + 1) ∧ X18 x1 x2 x3 1 (x5 + 1) s1)) ∧ (¬ (s1.2 36 (s1.2 29 ((3 * x3) + x5))) = (s1.2 36 x1) → (inI (x5 + 1) ∧ X18 x1 x2 x3 0 (x5 + 1) s1))))))))) ∧ (¬ x4 = 0 → (inI (x5 + 1) ∧ X18 x1 x2 x3 1 (x5 + 1) s1)))))))
def B_usersOf_E (X4 : Int → Int → Int → MS → Prop) (X18 : Int → Int → Int → Int → Int → MS → Prop) (K : Int → MS → Prop) (a : Int) (s0 : MS) : Prop :=
  X4 a 0 0 s0
def W_usersOf_4 (d : Nat) (g : AH) (K : Int → MS → Prop) (x1 : Int) (x2 : Int) (x3 : Int) (s0 : MS) : Prop := EW mm_usersOf (d + 1) 0 0 (mQi g K) 4 [(0, aR (some mT)), (1, aI x1), (2, aI x2), (3, aI x3)] [] (mh s0 g)
def W_usersOf_18 (d : Nat) (g : AH) (K : Int → MS → Prop) (x1 : Int) (x2 : Int) (x3 : Int) (x4 : Int) (x5 : Int) (s0 : MS) : Prop := EW mm_usersOf (d + 1) 0 0 (mQi g K) 18 [(0, aR (some mT)), (1, aI x1), (2, aI x2), (3, aI x3), (4, aI x4), (5, aI x5)] [] (mh s0 g)
set_option maxHeartbeats 4000000 in
theorem T_usersOf_4 (d : Nat) (g : AH) (K : Int → MS → Prop) (x1 : Int) (x2 : Int) (x3 : Int) (s0 : MS) (H : B_usersOf_4 (W_usersOf_4 d g K) (W_usersOf_18 d g K) K x1 x2 x3 s0) : EW mm_usersOf (d + 1) 0 0 (mQi g K) 4 [(0, aR (some mT)), (1, aI x1), (2, aI x2), (3, aI x3)] [] (mh s0 g) := by
  refine ew_iload_n dX7_usersOf_4 rfl lm3 ?_
  refine ew_aload_n dX7_usersOf_5 rfl lm0 ?_
  refine mw_gI dX7_usersOf_6 (e_fl.a q1433) mf_27 rfl ?_
  refine ew_icmp_ge (tgt := 90) dX7_usersOf_9 (by decide) (fun c1 => ?_) (fun c1 => ?_)
  · replace H := H.1 c1
    refine ew_iload_n dX7_usersOf_90 rfl lm2 ?_
    exact ew_ret (o := some (aI x2)) rfl ⟨_, _, rfl, rfl, H⟩ ⟨dX7_usersOf_91, .int, rfl, Or.inl rfl, rfl⟩
  · replace H := H.2 c1
    refine ew_iconst dX7_usersOf_12 (inI_of rfl) ?_
    refine ew_istore dX7_usersOf_13 (by decide) (lv' := [(4, aI 0), (0, aR (some mT)), (1, aI x1), (2, aI x2), (3, aI x3)]) rfl ?_
    refine ew_sub (List.forall_mem_cons.mpr ⟨lm1, (List.forall_mem_cons.mpr ⟨lm2, (List.forall_mem_cons.mpr ⟨lm3, (List.forall_mem_cons.mpr ⟨lm4, (List.forall_mem_cons.mpr ⟨lm0, e_nm⟩)⟩)⟩)⟩)⟩) ?_
    refine ew_iconst dX7_usersOf_15 (inI_of rfl) ?_
    refine ew_istore dX7_usersOf_16 (by decide) (lv' := [(5, aI 0), (0, aR (some mT)), (1, aI x1), (2, aI x2), (3, aI x3), (4, aI 0)]) rfl ?_
    refine ew_sub (List.forall_mem_cons.mpr ⟨lm1, (List.forall_mem_cons.mpr ⟨lm2, (List.forall_mem_cons.mpr ⟨lm3, (List.forall_mem_cons.mpr ⟨lm4, (List.forall_mem_cons.mpr ⟨lm5, (List.forall_mem_cons.mpr ⟨lm0, e_nm⟩)⟩)⟩)⟩)⟩)⟩) ?_
    exact ew_sub (List.forall_mem_cons.mpr ⟨lm0, (List.forall_mem_cons.mpr ⟨lm1, (List.forall_mem_cons.mpr ⟨lm2, (List.forall_mem_cons.mpr ⟨lm3, (List.forall_mem_cons.mpr ⟨lm4, (List.forall_mem_cons.mpr ⟨lm5, e_nm⟩)⟩)⟩)⟩)⟩)⟩) H
set_option maxHeartbeats 4000000 in
theorem T_usersOf_18 (d : Nat) (g : AH) (K : Int → MS → Prop) (x1 : Int) (x2 : Int) (x3 : Int) (x4 : Int) (x5 : Int) (s0 : MS) (H : B_usersOf_18 (W_usersOf_4 d g K) (W_usersOf_18 d g K) K x1 x2 x3 x4 x5 s0) : EW mm_usersOf (d + 1) 0 0 (mQi g K) 18 [(0, aR (some mT)), (1, aI x1), (2, aI x2), (3, aI x3), (4, aI x4), (5, aI x5)] [] (mh s0 g) := by
  refine ew_iload dX7_usersOf_18 lm5 ?_
  refine ew_aload_n dX7_usersOf_20 rfl lm0 ?_
  refine ew_iload_n dX7_usersOf_21 rfl lm3 ?_
  refine ew_callV (d := d + 0) (as := [aI x3]) rfl dX7_usersOf_22 me_takesOf rfl (ci := 1) rfl rfl (mh_o _ _) (Or.inl q1692) q1694 qs79 (Nat.le_of_ble_eq_true rfl) (Nat.le_refl 0) (Nat.le_refl 0) (S_takesOf (d := d + 0) H) (fun o h' hq2 _ => ?_) (fun E i h' q _ => (mQi_no q).elim)
  obtain ⟨r4, s1, E3, rfl, H⟩ := hq2
  cases E3
  refine ew_icmp_ge (tgt := 71) dX7_usersOf_25 (by decide) (fun c5 => ?_) (fun c5 => ?_)
  · replace H := H.1 c5
    refine ew_iload_n dX7_usersOf_71 rfl lm2 ?_
    refine ew_iload dX7_usersOf_72 lm4 ?_
    refine ew_if_eq (tgt := 81) dX7_usersOf_74 (by decide) (fun c6 => ?_) (fun c6 => ?_)
    · replace H := H.1 c6
      refine ew_iconst dX7_usersOf_81 (inI_of rfl) ?_
      obtain ⟨v7, H⟩ := H
      refine ew_iadd dX7_usersOf_82 v7 ?_
      refine ew_istore_n dX7_usersOf_83 rfl (by decide) (lv' := [(2, aI (x2 + 0)), (0, aR (some mT)), (1, aI x1), (3, aI x3), (4, aI x4), (5, aI x5)]) rfl ?_
      refine ew_sub (List.forall_mem_cons.mpr ⟨lm1, (List.forall_mem_cons.mpr ⟨lm2, (List.forall_mem_cons.mpr ⟨lm0, (List.forall_mem_cons.mpr ⟨lm3, (List.forall_mem_cons.mpr ⟨lm4, (List.forall_mem_cons.mpr ⟨lm5, e_nm⟩)⟩)⟩)⟩)⟩)⟩) ?_
      obtain ⟨v8, H⟩ := H
      refine ew_iinc dX7_usersOf_84 lm3 (by decide) v8 (lv' := [(3, aI (x3 + 1)), (0, aR (some mT)), (1, aI x1), (2, aI (x2 + 0)), (4, aI x4), (5, aI x5)]) rfl ?_
      refine ew_sub (List.forall_mem_cons.mpr ⟨lm1, (List.forall_mem_cons.mpr ⟨lm2, (List.forall_mem_cons.mpr ⟨lm3, (List.forall_mem_cons.mpr ⟨lm0, (List.forall_mem_cons.mpr ⟨lm4, (List.forall_mem_cons.mpr ⟨lm5, e_nm⟩)⟩)⟩)⟩)⟩)⟩) ?_
      refine ew_goto (tgt := 4) dX7_usersOf_87 (by decide) ?_
      exact ew_sub (List.forall_mem_cons.mpr ⟨lm0, (List.forall_mem_cons.mpr ⟨lm1, (List.forall_mem_cons.mpr ⟨lm2, (List.forall_mem_cons.mpr ⟨lm3, e_nm⟩)⟩)⟩)⟩) H
    · replace H := H.2 c6
      refine ew_iconst dX7_usersOf_77 (inI_of rfl) ?_
      refine ew_goto (tgt := 82) dX7_usersOf_78 (by decide) ?_
      obtain ⟨v9, H⟩ := H
      refine ew_iadd dX7_usersOf_82 v9 ?_
      refine ew_istore_n dX7_usersOf_83 rfl (by decide) (lv' := [(2, aI (x2 + 1)), (0, aR (some mT)), (1, aI x1), (3, aI x3), (4, aI x4), (5, aI x5)]) rfl ?_
      refine ew_sub (List.forall_mem_cons.mpr ⟨lm1, (List.forall_mem_cons.mpr ⟨lm2, (List.forall_mem_cons.mpr ⟨lm0, (List.forall_mem_cons.mpr ⟨lm3, (List.forall_mem_cons.mpr ⟨lm4, (List.forall_mem_cons.mpr ⟨lm5, e_nm⟩)⟩)⟩)⟩)⟩)⟩) ?_
      obtain ⟨v10, H⟩ := H
      refine ew_iinc dX7_usersOf_84 lm3 (by decide) v10 (lv' := [(3, aI (x3 + 1)), (0, aR (some mT)), (1, aI x1), (2, aI (x2 + 1)), (4, aI x4), (5, aI x5)]) rfl ?_
      refine ew_sub (List.forall_mem_cons.mpr ⟨lm1, (List.forall_mem_cons.mpr ⟨lm2, (List.forall_mem_cons.mpr ⟨lm3, (List.forall_mem_cons.mpr ⟨lm0, (List.forall_mem_cons.mpr ⟨lm4, (List.forall_mem_cons.mpr ⟨lm5, e_nm⟩)⟩)⟩)⟩)⟩)⟩) ?_
      refine ew_goto (tgt := 4) dX7_usersOf_87 (by decide) ?_
      exact ew_sub (List.forall_mem_cons.mpr ⟨lm0, (List.forall_mem_cons.mpr ⟨lm1, (List.forall_mem_cons.mpr ⟨lm2, (List.forall_mem_cons.mpr ⟨lm3, e_nm⟩)⟩)⟩)⟩) H
  · replace H := H.2 c5
    refine ew_iload dX7_usersOf_28 lm4 ?_
    refine ew_if_ne (tgt := 58) dX7_usersOf_30 (by decide) (fun c11 => ?_) (fun c11 => ?_)
    · replace H := H.2 c11
      refine ew_iconst dX7_usersOf_58 (inI_of rfl) ?_
      refine ew_goto (tgt := 63) dX7_usersOf_59 (by decide) ?_
      refine ew_istore dX7_usersOf_63 (by decide) (lv' := [(4, aI 1), (0, aR (some mT)), (1, aI x1), (2, aI x2), (3, aI x3), (5, aI x5)]) rfl ?_
      refine ew_sub (List.forall_mem_cons.mpr ⟨lm1, (List.forall_mem_cons.mpr ⟨lm2, (List.forall_mem_cons.mpr ⟨lm3, (List.forall_mem_cons.mpr ⟨lm4, (List.forall_mem_cons.mpr ⟨lm0, (List.forall_mem_cons.mpr ⟨lm5, e_nm⟩)⟩)⟩)⟩)⟩)⟩) ?_
      obtain ⟨v12, H⟩ := H
      refine ew_iinc dX7_usersOf_65 lm5 (by decide) v12 (lv' := [(5, aI (x5 + 1)), (0, aR (some mT)), (1, aI x1), (2, aI x2), (3, aI x3), (4, aI 1)]) rfl ?_
      refine ew_sub (List.forall_mem_cons.mpr ⟨lm1, (List.forall_mem_cons.mpr ⟨lm2, (List.forall_mem_cons.mpr ⟨lm3, (List.forall_mem_cons.mpr ⟨lm4, (List.forall_mem_cons.mpr ⟨lm5, (List.forall_mem_cons.mpr ⟨lm0, e_nm⟩)⟩)⟩)⟩)⟩)⟩) ?_
      refine ew_goto (tgt := 18) dX7_usersOf_68 (by decide) ?_
      exact ew_sub (List.forall_mem_cons.mpr ⟨lm0, (List.forall_mem_cons.mpr ⟨lm1, (List.forall_mem_cons.mpr ⟨lm2, (List.forall_mem_cons.mpr ⟨lm3, (List.forall_mem_cons.mpr ⟨lm4, (List.forall_mem_cons.mpr ⟨lm5, e_nm⟩)⟩)⟩)⟩)⟩)⟩) H
    · replace H := H.1 c11
      refine ew_aload_n dX7_usersOf_33 rfl lm0 ?_
      refine mw_gA dX7_usersOf_34 (e_fl.a q1442) mf_36 rfl ?_
      refine ew_aload_n dX7_usersOf_37 rfl lm0 ?_
      refine mw_gA dX7_usersOf_38 (e_fl.a q1435) mf_29 rfl ?_
      refine ew_iconst dX7_usersOf_41 (inI_of rfl) ?_
      refine ew_iload_n dX7_usersOf_42 rfl lm3 ?_
      obtain ⟨v13, H⟩ := H
      refine ew_imul dX7_usersOf_43 v13 ?_
      refine ew_iload dX7_usersOf_44 lm5 ?_
      obtain ⟨v14, H⟩ := H
      refine ew_iadd dX7_usersOf_46 v14 ?_
      obtain ⟨v15, H⟩ := H
      refine mw_iald dX7_usersOf_47 rfl v15.1 v15.2 ?_
      obtain ⟨v16, H⟩ := H
      refine mw_iald dX7_usersOf_48 rfl v16.1 v16.2 ?_
      refine ew_aload_n dX7_usersOf_49 rfl lm0 ?_
      refine mw_gA dX7_usersOf_50 (e_fl.a q1442) mf_36 rfl ?_
      refine ew_iload_n dX7_usersOf_53 rfl lm1 ?_
      obtain ⟨v17, H⟩ := H
      refine mw_iald dX7_usersOf_54 rfl v17.1 v17.2 ?_
      refine ew_icmp_ne (tgt := 62) dX7_usersOf_55 (by decide) (fun c18 => ?_) (fun c18 => ?_)
      · replace H := H.2 c18
        refine ew_iconst dX7_usersOf_62 (inI_of rfl) ?_
        refine ew_istore dX7_usersOf_63 (by decide) (lv' := [(4, aI 0), (0, aR (some mT)), (1, aI x1), (2, aI x2), (3, aI x3), (5, aI x5)]) rfl ?_
        refine ew_sub (List.forall_mem_cons.mpr ⟨lm1, (List.forall_mem_cons.mpr ⟨lm2, (List.forall_mem_cons.mpr ⟨lm3, (List.forall_mem_cons.mpr ⟨lm4, (List.forall_mem_cons.mpr ⟨lm0, (List.forall_mem_cons.mpr ⟨lm5, e_nm⟩)⟩)⟩)⟩)⟩)⟩) ?_
        obtain ⟨v19, H⟩ := H
        refine ew_iinc dX7_usersOf_65 lm5 (by decide) v19 (lv' := [(5, aI (x5 + 1)), (0, aR (some mT)), (1, aI x1), (2, aI x2), (3, aI x3), (4, aI 0)]) rfl ?_
        refine ew_sub (List.forall_mem_cons.mpr ⟨lm1, (List.forall_mem_cons.mpr ⟨lm2, (List.forall_mem_cons.mpr ⟨lm3, (List.forall_mem_cons.mpr ⟨lm4, (List.forall_mem_cons.mpr ⟨lm5, (List.forall_mem_cons.mpr ⟨lm0, e_nm⟩)⟩)⟩)⟩)⟩)⟩) ?_
        refine ew_goto (tgt := 18) dX7_usersOf_68 (by decide) ?_
        exact ew_sub (List.forall_mem_cons.mpr ⟨lm0, (List.forall_mem_cons.mpr ⟨lm1, (List.forall_mem_cons.mpr ⟨lm2, (List.forall_mem_cons.mpr ⟨lm3, (List.forall_mem_cons.mpr ⟨lm4, (List.forall_mem_cons.mpr ⟨lm5, e_nm⟩)⟩)⟩)⟩)⟩)⟩) H
      · replace H := H.1 c18
        refine ew_iconst dX7_usersOf_58 (inI_of rfl) ?_
        refine ew_goto (tgt := 63) dX7_usersOf_59 (by decide) ?_
        refine ew_istore dX7_usersOf_63 (by decide) (lv' := [(4, aI 1), (0, aR (some mT)), (1, aI x1), (2, aI x2), (3, aI x3), (5, aI x5)]) rfl ?_
        refine ew_sub (List.forall_mem_cons.mpr ⟨lm1, (List.forall_mem_cons.mpr ⟨lm2, (List.forall_mem_cons.mpr ⟨lm3, (List.forall_mem_cons.mpr ⟨lm4, (List.forall_mem_cons.mpr ⟨lm0, (List.forall_mem_cons.mpr ⟨lm5, e_nm⟩)⟩)⟩)⟩)⟩)⟩) ?_
        obtain ⟨v20, H⟩ := H
        refine ew_iinc dX7_usersOf_65 lm5 (by decide) v20 (lv' := [(5, aI (x5 + 1)), (0, aR (some mT)), (1, aI x1), (2, aI x2), (3, aI x3), (4, aI 1)]) rfl ?_
        refine ew_sub (List.forall_mem_cons.mpr ⟨lm1, (List.forall_mem_cons.mpr ⟨lm2, (List.forall_mem_cons.mpr ⟨lm3, (List.forall_mem_cons.mpr ⟨lm4, (List.forall_mem_cons.mpr ⟨lm5, (List.forall_mem_cons.mpr ⟨lm0, e_nm⟩)⟩)⟩)⟩)⟩)⟩) ?_
        refine ew_goto (tgt := 18) dX7_usersOf_68 (by decide) ?_
        exact ew_sub (List.forall_mem_cons.mpr ⟨lm0, (List.forall_mem_cons.mpr ⟨lm1, (List.forall_mem_cons.mpr ⟨lm2, (List.forall_mem_cons.mpr ⟨lm3, (List.forall_mem_cons.mpr ⟨lm4, (List.forall_mem_cons.mpr ⟨lm5, e_nm⟩)⟩)⟩)⟩)⟩)⟩) H
set_option maxHeartbeats 4000000 in
theorem T_usersOf_E (d : Nat) (g : AH) (K : Int → MS → Prop) (a : Int) (s0 : MS) (H : B_usersOf_E (W_usersOf_4 d g K) (W_usersOf_18 d g K) K a s0) : EW mm_usersOf (d + 1) 0 0 (mQi g K) 0 [(0, aR (some mT)), (1, aI a)] [] (mh s0 g) := by
  refine ew_iconst dX7_usersOf_0 (inI_of rfl) ?_
  refine ew_istore_n dX7_usersOf_1 rfl (by decide) (lv' := [(2, aI 0), (0, aR (some mT)), (1, aI a)]) rfl ?_
  refine ew_sub (List.forall_mem_cons.mpr ⟨lm1, (List.forall_mem_cons.mpr ⟨lm2, (List.forall_mem_cons.mpr ⟨lm0, e_nm⟩)⟩)⟩) ?_
  refine ew_iconst dX7_usersOf_2 (inI_of rfl) ?_
  refine ew_istore_n dX7_usersOf_3 rfl (by decide) (lv' := [(3, aI 0), (0, aR (some mT)), (1, aI a), (2, aI 0)]) rfl ?_
  refine ew_sub (List.forall_mem_cons.mpr ⟨lm1, (List.forall_mem_cons.mpr ⟨lm2, (List.forall_mem_cons.mpr ⟨lm3, (List.forall_mem_cons.mpr ⟨lm0, e_nm⟩)⟩)⟩)⟩) ?_
  exact ew_sub (List.forall_mem_cons.mpr ⟨lm0, (List.forall_mem_cons.mpr ⟨lm1, (List.forall_mem_cons.mpr ⟨lm2, (List.forall_mem_cons.mpr ⟨lm3, e_nm⟩)⟩)⟩)⟩) H
def C_usersOf (a : Int) (s0 : MS) (K : Int → MS → Prop) : Prop := ∀ (X4 : Int → Int → Int → MS → Prop) (X18 : Int → Int → Int → Int → Int → MS → Prop), (∀ (x1 : Int) (x2 : Int) (x3 : Int) (s0 : MS), B_usersOf_4 X4 X18 K x1 x2 x3 s0 → X4 x1 x2 x3 s0) → (∀ (x1 : Int) (x2 : Int) (x3 : Int) (x4 : Int) (x5 : Int) (s0 : MS), B_usersOf_18 X4 X18 K x1 x2 x3 x4 x5 s0 → X18 x1 x2 x3 x4 x5 s0) → B_usersOf_E X4 X18 K a s0
theorem S_usersOf {d : Nat} {g : AH} {K : Int → MS → Prop} {a : Int} {s0 : MS} (H : C_usersOf a s0 K) : Sp mm_usersOf (d + 1) 0 0 [aR (some mT), aI a] (mh s0 g) (mQi g K) :=
  ew_sp rfl (Nat.le_of_ble_eq_true rfl) (T_usersOf_E d g K a s0 (H _ _ (fun x1 x2 x3 s0 H => T_usersOf_4 d g K x1 x2 x3 s0 H) (fun x1 x2 x3 x4 x5 s0 H => T_usersOf_18 d g K x1 x2 x3 x4 x5 s0 H)))
abbrev mm_deepOf : EM := (yX7_deepOf, cX7_deepOf, 5, some .int, [])
theorem me_deepOf : e_mth mm_deepOf 1 := ⟨rfl, q1766, q117, by decide +kernel, by decide⟩
def B_deepOf_2 (X2 : Int → Int → MS → Prop) (X16 : Int → Int → Int → MS → Prop) (K : Int → MS → Prop) (x1 : Int) (x2 : Int) (s0 : MS) : Prop :=
  ((x1 < x2 → ((0 ≤ x1 ∧ x1 < 24) ∧ K (s0.2 45 x1) s0)) ∧ (¬ x1 < x2 → ((0 ≤ x2 ∧ x2 < 24) ∧ ∀ s3 : MS, s3 = ma s0 45 x2 0 → X16 x1 x2 0 s3)))
def B_deepOf_16 (X2 : Int → Int → MS → Prop) (X16 : Int → Int → Int → MS → Prop) (K : Int → MS → Prop) (x1 : Int) (x2 : Int) (x3 : Int) (s0 : MS) : Prop :=
  (C_takesOf x2 s0 (fun r4 s1 => ((r4 ≤ x3 → (inI (x2 + 1) ∧ X2 x1 (x2 + 1) s1)) ∧ (¬ r4 ≤ x3 → ((inI (3 * x2)) ∧ ((inI ((3 * x2) + x3)) ∧ ((0 ≤ ((3 * x2) + x3) ∧ ((3 * x2) + x3) < 72) ∧ ((0 ≤ (s1.2 29 ((3 * x2) + x3)) ∧ (s1.2 29 ((3 * x2) + x3)) < 24) ∧ ((inI ((s1.2 45 (s1.2 29 ((3 * x2) + x3))) + 1)) ∧ ((0 ≤ x2 ∧ x2 < 24) ∧ ((((s1.2 45 (s1.2 29 ((3 * x2) + x3))) + 1) ≤ (s1.2 45 x2) → ((0 ≤ x2 ∧ x2 < 24) ∧ ((0 ≤ x2 ∧ x2 < 24) ∧ ∀ s15 : MS, s15 = ma s1 45 x2 (s1.2 45 x2) → (inI (x3 + 1) ∧ X16 x1 x2 (x3 + 1) s15)))) ∧ (¬ ((s1.2 45 (s1.2 29 ((3 * x2) + x3))) + 1) ≤ (s1.2 45 x2) → ((0 ≤ x2 ∧ x2 < 24) ∧ ∀ s19 : MS, s19 = ma s1 45 x2 ((s1.2 45 (s1.2 29 ((3 * x2) + x3))) + 1) → (inI (x3 + 1) ∧ X16 x1 x2 (x3 + 1) s19))))))))))))))
def B_deepOf_E (X2 : Int → Int → MS → Prop) (X16 : Int → Int → Int → MS → Prop) (K : Int → MS → Prop) (a : Int) (s0 : MS) : Prop :=
  X2 a 0 s0
def W_deepOf_2 (d : Nat) (g : AH) (K : Int → MS → Prop) (x1 : Int) (x2 : Int) (s0 : MS) : Prop := EW mm_deepOf (d + 1) 0 0 (mQi g K) 2 [(0, aR (some mT)), (1, aI x1), (2, aI x2)] [] (mh s0 g)
def W_deepOf_16 (d : Nat) (g : AH) (K : Int → MS → Prop) (x1 : Int) (x2 : Int) (x3 : Int) (s0 : MS) : Prop := EW mm_deepOf (d + 1) 0 0 (mQi g K) 16 [(0, aR (some mT)), (1, aI x1), (2, aI x2), (3, aI x3)] [] (mh s0 g)
set_option maxHeartbeats 4000000 in
theorem T_deepOf_2 (d : Nat) (g : AH) (K : Int → MS → Prop) (x1 : Int) (x2 : Int) (s0 : MS) (H : B_deepOf_2 (W_deepOf_2 d g K) (W_deepOf_16 d g K) K x1 x2 s0) : EW mm_deepOf (d + 1) 0 0 (mQi g K) 2 [(0, aR (some mT)), (1, aI x1), (2, aI x2)] [] (mh s0 g) := by
  refine ew_iload_n dX7_deepOf_2 rfl lm2 ?_
  refine ew_iload_n dX7_deepOf_3 rfl lm1 ?_
  refine ew_icmp_gt (tgt := 84) dX7_deepOf_4 (by decide) (fun c1 => ?_) (fun c1 => ?_)
  · replace H := H.1 c1
    refine ew_aload_n dX7_deepOf_84 rfl lm0 ?_
    refine mw_gA dX7_deepOf_85 (e_fl.a q1451) mf_45 rfl ?_
    refine ew_iload_n dX7_deepOf_88 rfl lm1 ?_
    obtain ⟨v2, H⟩ := H
    refine mw_iald dX7_deepOf_89 rfl v2.1 v2.2 ?_
    exact ew_ret (o := some (aI (s0.2 45 x1))) rfl ⟨_, _, rfl, rfl, H⟩ ⟨dX7_deepOf_90, .int, rfl, Or.inl rfl, rfl⟩
  · replace H := H.2 c1
    refine ew_aload_n dX7_deepOf_7 rfl lm0 ?_
    refine mw_gA dX7_deepOf_8 (e_fl.a q1451) mf_45 rfl ?_
    refine ew_iload_n dX7_deepOf_11 rfl lm2 ?_
    refine ew_iconst dX7_deepOf_12 (inI_of rfl) ?_
    obtain ⟨v5, H⟩ := H
    refine mw_iast dX7_deepOf_13 rfl v5.1 v5.2 (fun s3 e4 => ?_)
    replace H := H s3 e4
    refine ew_iconst dX7_deepOf_14 (inI_of rfl) ?_
    refine ew_istore_n dX7_deepOf_15 rfl (by decide) (lv' := [(3, aI 0), (0, aR (some mT)), (1, aI x1), (2, aI x2)]) rfl ?_
    refine ew_sub (List.forall_mem_cons.mpr ⟨lm1, (List.forall_mem_cons.mpr ⟨lm2, (List.forall_mem_cons.mpr ⟨lm3, (List.forall_mem_cons.mpr ⟨lm0, e_nm⟩)⟩)⟩)⟩) ?_
    exact ew_sub (List.forall_mem_cons.mpr ⟨lm0, (List.forall_mem_cons.mpr ⟨lm1, (List.forall_mem_cons.mpr ⟨lm2, (List.forall_mem_cons.mpr ⟨lm3, e_nm⟩)⟩)⟩)⟩) H
set_option maxHeartbeats 4000000 in
theorem T_deepOf_16 (d : Nat) (g : AH) (K : Int → MS → Prop) (x1 : Int) (x2 : Int) (x3 : Int) (s0 : MS) (H : B_deepOf_16 (W_deepOf_2 d g K) (W_deepOf_16 d g K) K x1 x2 x3 s0) : EW mm_deepOf (d + 1) 0 0 (mQi g K) 16 [(0, aR (some mT)), (1, aI x1), (2, aI x2), (3, aI x3)] [] (mh s0 g) := by
  refine ew_iload_n dX7_deepOf_16 rfl lm3 ?_
  refine ew_aload_n dX7_deepOf_17 rfl lm0 ?_
  refine ew_iload_n dX7_deepOf_18 rfl lm2 ?_
  refine ew_callV (d := d + 0) (as := [aI x2]) rfl dX7_deepOf_19 me_takesOf rfl (ci := 1) rfl rfl (mh_o _ _) (Or.inl q1692) q1694 qs79 (Nat.le_of_ble_eq_true rfl) (Nat.le_refl 0) (Nat.le_refl 0) (S_takesOf (d := d + 0) H) (fun o h' hq2 _ => ?_) (fun E i h' q _ => (mQi_no q).elim)
  obtain ⟨r4, s1, E3, rfl, H⟩ := hq2
  cases E3
  refine ew_icmp_ge (tgt := 78) dX7_deepOf_22 (by decide) (fun c5 => ?_) (fun c5 => ?_)
  · replace H := H.1 c5
    obtain ⟨v6, H⟩ := H
    refine ew_iinc dX7_deepOf_78 lm2 (by decide) v6 (lv' := [(2, aI (x2 + 1)), (0, aR (some mT)), (1, aI x1), (3, aI x3)]) rfl ?_
    refine ew_sub (List.forall_mem_cons.mpr ⟨lm1, (List.forall_mem_cons.mpr ⟨lm2, (List.forall_mem_cons.mpr ⟨lm0, (List.forall_mem_cons.mpr ⟨lm3, e_nm⟩)⟩)⟩)⟩) ?_
    refine ew_goto (tgt := 2) dX7_deepOf_81 (by decide) ?_
    exact ew_sub (List.forall_mem_cons.mpr ⟨lm0, (List.forall_mem_cons.mpr ⟨lm1, (List.forall_mem_cons.mpr ⟨lm2, e_nm⟩)⟩)⟩) H
  · replace H := H.2 c5
    refine ew_aload_n dX7_deepOf_25 rfl lm0 ?_
    refine mw_gA dX7_deepOf_26 (e_fl.a q1451) mf_45 rfl ?_
    refine ew_aload_n dX7_deepOf_29 rfl lm0 ?_
    refine mw_gA dX7_deepOf_30 (e_fl.a q1435) mf_29 rfl ?_
    refine ew_iconst dX7_deepOf_33 (inI_of rfl) ?_
    refine ew_iload_n dX7_deepOf_34 rfl lm2 ?_
    obtain ⟨v7, H⟩ := H
    refine ew_imul dX7_deepOf_35 v7 ?_
    refine ew_iload_n dX7_deepOf_36 rfl lm3 ?_
    obtain ⟨v8, H⟩ := H
    refine ew_iadd dX7_deepOf_37 v8 ?_
    obtain ⟨v9, H⟩ := H
    refine mw_iald dX7_deepOf_38 rfl v9.1 v9.2 ?_
    obtain ⟨v10, H⟩ := H
    refine mw_iald dX7_deepOf_39 rfl v10.1 v10.2 ?_
    refine ew_iconst dX7_deepOf_40 (inI_of rfl) ?_
    obtain ⟨v11, H⟩ := H
    refine ew_iadd dX7_deepOf_41 v11 ?_
    refine ew_istore dX7_deepOf_42 (by decide) (lv' := [(4, aI ((s1.2 45 (s1.2 29 ((3 * x2) + x3))) + 1)), (0, aR (some mT)), (1, aI x1), (2, aI x2), (3, aI x3)]) rfl ?_
    refine ew_sub (List.forall_mem_cons.mpr ⟨lm1, (List.forall_mem_cons.mpr ⟨lm2, (List.forall_mem_cons.mpr ⟨lm3, (List.forall_mem_cons.mpr ⟨lm4, (List.forall_mem_cons.mpr ⟨lm0, e_nm⟩)⟩)⟩)⟩)⟩) ?_
    refine ew_aload_n dX7_deepOf_44 rfl lm0 ?_
    refine mw_gA dX7_deepOf_45 (e_fl.a q1451) mf_45 rfl ?_
    refine ew_iload_n dX7_deepOf_48 rfl lm2 ?_
    refine ew_iload dX7_deepOf_49 lm4 ?_
    refine ew_aload_n dX7_deepOf_51 rfl lm0 ?_
    refine mw_gA dX7_deepOf_52 (e_fl.a q1451) mf_45 rfl ?_
    refine ew_iload_n dX7_deepOf_55 rfl lm2 ?_
    obtain ⟨v12, H⟩ := H
    refine mw_iald dX7_deepOf_56 rfl v12.1 v12.2 ?_
    refine ew_icmp_le (tgt := 65) dX7_deepOf_57 (by decide) (fun c13 => ?_) (fun c13 => ?_)
    · replace H := H.1 c13
      refine ew_aload_n dX7_deepOf_65 rfl lm0 ?_
      refine mw_gA dX7_deepOf_66 (e_fl.a q1451) mf_45 rfl ?_
      refine ew_iload_n dX7_deepOf_69 rfl lm2 ?_
      obtain ⟨v14, H⟩ := H
      refine mw_iald dX7_deepOf_70 rfl v14.1 v14.2 ?_
      obtain ⟨v17, H⟩ := H
      refine mw_iast dX7_deepOf_71 rfl v17.1 v17.2 (fun s15 e16 => ?_)
      replace H := H s15 e16
      obtain ⟨v18, H⟩ := H
      refine ew_iinc dX7_deepOf_72 lm3 (by decide) v18 (lv' := [(3, aI (x3 + 1)), (0, aR (some mT)), (1, aI x1), (2, aI x2), (4, aI ((s1.2 45 (s1.2 29 ((3 * x2) + x3))) + 1))]) rfl ?_
      refine ew_sub (List.forall_mem_cons.mpr ⟨lm1, (List.forall_mem_cons.mpr ⟨lm2, (List.forall_mem_cons.mpr ⟨lm3, (List.forall_mem_cons.mpr ⟨lm0, (List.forall_mem_cons.mpr ⟨lm4, e_nm⟩)⟩)⟩)⟩)⟩) ?_
      refine ew_goto (tgt := 16) dX7_deepOf_75 (by decide) ?_
      exact ew_sub (List.forall_mem_cons.mpr ⟨lm0, (List.forall_mem_cons.mpr ⟨lm1, (List.forall_mem_cons.mpr ⟨lm2, (List.forall_mem_cons.mpr ⟨lm3, e_nm⟩)⟩)⟩)⟩) H
    · replace H := H.2 c13
      refine ew_iload dX7_deepOf_60 lm4 ?_
      refine ew_goto (tgt := 71) dX7_deepOf_62 (by decide) ?_
      obtain ⟨v21, H⟩ := H
      refine mw_iast dX7_deepOf_71 rfl v21.1 v21.2 (fun s19 e20 => ?_)
      replace H := H s19 e20
      obtain ⟨v22, H⟩ := H
      refine ew_iinc dX7_deepOf_72 lm3 (by decide) v22 (lv' := [(3, aI (x3 + 1)), (0, aR (some mT)), (1, aI x1), (2, aI x2), (4, aI ((s1.2 45 (s1.2 29 ((3 * x2) + x3))) + 1))]) rfl ?_
      refine ew_sub (List.forall_mem_cons.mpr ⟨lm1, (List.forall_mem_cons.mpr ⟨lm2, (List.forall_mem_cons.mpr ⟨lm3, (List.forall_mem_cons.mpr ⟨lm0, (List.forall_mem_cons.mpr ⟨lm4, e_nm⟩)⟩)⟩)⟩)⟩) ?_
      refine ew_goto (tgt := 16) dX7_deepOf_75 (by decide) ?_
      exact ew_sub (List.forall_mem_cons.mpr ⟨lm0, (List.forall_mem_cons.mpr ⟨lm1, (List.forall_mem_cons.mpr ⟨lm2, (List.forall_mem_cons.mpr ⟨lm3, e_nm⟩)⟩)⟩)⟩) H
set_option maxHeartbeats 4000000 in
theorem T_deepOf_E (d : Nat) (g : AH) (K : Int → MS → Prop) (a : Int) (s0 : MS) (H : B_deepOf_E (W_deepOf_2 d g K) (W_deepOf_16 d g K) K a s0) : EW mm_deepOf (d + 1) 0 0 (mQi g K) 0 [(0, aR (some mT)), (1, aI a)] [] (mh s0 g) := by
  refine ew_iconst dX7_deepOf_0 (inI_of rfl) ?_
  refine ew_istore_n dX7_deepOf_1 rfl (by decide) (lv' := [(2, aI 0), (0, aR (some mT)), (1, aI a)]) rfl ?_
  refine ew_sub (List.forall_mem_cons.mpr ⟨lm1, (List.forall_mem_cons.mpr ⟨lm2, (List.forall_mem_cons.mpr ⟨lm0, e_nm⟩)⟩)⟩) ?_
  exact ew_sub (List.forall_mem_cons.mpr ⟨lm0, (List.forall_mem_cons.mpr ⟨lm1, (List.forall_mem_cons.mpr ⟨lm2, e_nm⟩)⟩)⟩) H
def C_deepOf (a : Int) (s0 : MS) (K : Int → MS → Prop) : Prop := ∀ (X2 : Int → Int → MS → Prop) (X16 : Int → Int → Int → MS → Prop), (∀ (x1 : Int) (x2 : Int) (s0 : MS), B_deepOf_2 X2 X16 K x1 x2 s0 → X2 x1 x2 s0) → (∀ (x1 : Int) (x2 : Int) (x3 : Int) (s0 : MS), B_deepOf_16 X2 X16 K x1 x2 x3 s0 → X16 x1 x2 x3 s0) → B_deepOf_E X2 X16 K a s0
theorem S_deepOf {d : Nat} {g : AH} {K : Int → MS → Prop} {a : Int} {s0 : MS} (H : C_deepOf a s0 K) : Sp mm_deepOf (d + 1) 0 0 [aR (some mT), aI a] (mh s0 g) (mQi g K) :=
  ew_sp rfl (Nat.le_of_ble_eq_true rfl) (T_deepOf_E d g K a s0 (H _ _ (fun x1 x2 s0 H => T_deepOf_2 d g K x1 x2 s0 H) (fun x1 x2 x3 s0 H => T_deepOf_16 d g K x1 x2 x3 s0 H)))
abbrev mm_term : EM := (yX7_term, cX7_term, 3, some .int, [])
theorem me_term : e_mth mm_term 2 := ⟨rfl, q1750, q117, by decide +kernel, by decide⟩
def B_term_E  (K : Int → MS → Prop) (a : Int) (b : Int) (s0 : MS) : Prop :=
  (C_isTerm a s0 (fun r4 s1 => ((r4 = 0 → (C_unless 0 s1 (fun r9 s6 => (C_isRefused r9 s6 (fun r13 s10 => ((r13 = 0 → ((b = 0 → ((0 ≤ a ∧ a < 24) ∧ K (s10.2 28 a) s10)) ∧ (¬ b = 0 → ((b = 1 → ((0 ≤ a ∧ a < 24) ∧ K (s10.2 36 a) s10)) ∧ (¬ b = 1 → ((b = 2 → (C_groupMany a s10 (fun r23 s20 => K r23 s20))) ∧ (¬ b = 2 → ((b = 3 → (C_usersOf a s10 (fun r28 s25 => K r28 s25))) ∧ (¬ b = 3 → ((b = 4 → (C_deepOf a s10 (fun r33 s30 => K r33 s30))) ∧ (¬ b = 4 → ((0 ≤ a ∧ a < 24) ∧ K (s10.2 37 a) s10)))))))))))) ∧ (¬ r13 = 0 → K (-1) s10))))))) ∧ (¬ r4 = 0 → (C_in b 0 5 s1 (fun r38 s35 => ((r38 = 0 → (C_unless 0 s35 (fun r43 s40 => (C_isRefused r43 s40 (fun r47 s44 => ((r47 = 0 → ((b = 0 → ((0 ≤ a ∧ a < 24) ∧ K (s44.2 28 a) s44)) ∧ (¬ b = 0 → ((b = 1 → ((0 ≤ a ∧ a < 24) ∧ K (s44.2 36 a) s44)) ∧ (¬ b = 1 → ((b = 2 → (C_groupMany a s44 (fun r57 s54 => K r57 s54))) ∧ (¬ b = 2 → ((b = 3 → (C_usersOf a s44 (fun r62 s59 => K r62 s59))) ∧ (¬ b = 3 → ((b = 4 → (C_deepOf a s44 (fun r67 s64 => K r67 s64))) ∧ (¬ b = 4 → ((0 ≤ a ∧ a < 24) ∧ K (s44.2 37 a) s44)))))))))))) ∧ (¬ r47 = 0 → K (-1) s44))))))) ∧ (¬ r38 = 0 → (C_unless 1 s35 (fun r72 s69 => (C_isRefused r72 s69 (fun r76 s73 => ((r76 = 0 → ((b = 0 → ((0 ≤ a ∧ a < 24) ∧ K (s73.2 28 a) s73)) ∧ (¬ b = 0 → ((b = 1 → ((0 ≤ a ∧ a < 24) ∧ K (s73.2 36 a) s73)) ∧ (¬ b = 1 → ((b = 2 → (C_groupMany a s73 (fun r86 s83 => K r86 s83))) ∧ (¬ b = 2 → ((b = 3 → (C_usersOf a s73 (fun r91 s88 => K r91 s88))) ∧ (¬ b = 3 → ((b = 4 → (C_deepOf a s73 (fun r96 s93 => K r96 s93))) ∧ (¬ b = 4 → ((0 ≤ a ∧ a < 24) ∧ K (s73.2 37 a) s73)))))))))))) ∧ (¬ r76 = 0 → K (-1) s73))))))))))))))
set_option maxHeartbeats 4000000 in
theorem T_term_E (d : Nat) (g : AH) (K : Int → MS → Prop) (a : Int) (b : Int) (s0 : MS) (H : B_term_E  K a b s0) : EW mm_term (d + 2) 0 0 (mQi g K) 0 [(0, aR (some mT)), (1, aI a), (2, aI b)] [] (mh s0 g) := by
  refine ew_aload_n dX7_term_0 rfl lm0 ?_
  refine ew_aload_n dX7_term_1 rfl lm0 ?_
  refine ew_iload_n dX7_term_2 rfl lm1 ?_
  refine ew_callV (d := d + 1) (as := [aI a]) rfl dX7_term_3 me_isTerm rfl (ci := 1) rfl rfl (mh_o _ _) (Or.inl q1751) q1753 qs88 (Nat.le_of_ble_eq_true rfl) (Nat.le_refl 0) (Nat.le_refl 0) (S_isTerm (d := d + 0) H) (fun o h' hq2 _ => ?_) (fun E i h' q _ => (mQi_no q).elim)
  obtain ⟨r4, s1, E3, rfl, H⟩ := hq2
  cases E3
  refine ew_if_eq (tgt := 22) dX7_term_6 (by decide) (fun c5 => ?_) (fun c5 => ?_)
  · replace H := H.1 c5
    refine ew_iconst dX7_term_22 (inI_of rfl) ?_
    refine ew_callS (d := d + 1) (as := [aI 0]) rfl dX7_term_23 me_unless rfl (Or.inl q1732) q1733 (Nat.le_of_ble_eq_true rfl) (Nat.le_refl 0) (Nat.le_refl 0) (S_unless (d := d + 1) H) (fun o h' hq7 _ => ?_) (fun E i h' q _ => (mQi_no q).elim)
    obtain ⟨r9, s6, E8, rfl, H⟩ := hq7
    cases E8
    refine ew_callV (d := d + 1) (as := [aI r9]) rfl dX7_term_26 me_isRefused rfl (ci := 1) rfl rfl (mh_o _ _) (Or.inl q1594) q1596 qs56 (Nat.le_of_ble_eq_true rfl) (Nat.le_refl 0) (Nat.le_refl 0) (S_isRefused (d := d + 1) H) (fun o h' hq11 _ => ?_) (fun E i h' q _ => (mQi_no q).elim)
    obtain ⟨r13, s10, E12, rfl, H⟩ := hq11
    cases E12
    refine ew_if_eq (tgt := 34) dX7_term_29 (by decide) (fun c14 => ?_) (fun c14 => ?_)
    · replace H := H.1 c14
      refine ew_iload_n dX7_term_34 rfl lm2 ?_
      by_cases c15 : b = 0
      · replace H := H.1 c15
        refine ew_tableK (tgt := 68) dX7_term_35 c15 rfl rfl (by decide) ?_
        refine ew_aload_n dX7_term_68 rfl lm0 ?_
        refine mw_gA dX7_term_69 (e_fl.a q1434) mf_28 rfl ?_
        refine ew_iload_n dX7_term_72 rfl lm1 ?_
        obtain ⟨v16, H⟩ := H
        refine mw_iald dX7_term_73 rfl v16.1 v16.2 ?_
        exact ew_ret (o := some (aI (s10.2 28 a))) rfl ⟨_, _, rfl, rfl, H⟩ ⟨dX7_term_74, .int, rfl, Or.inl rfl, rfl⟩
      replace H := H.2 c15
      by_cases c17 : b = 1
      · replace H := H.1 c17
        refine ew_tableK (tgt := 75) dX7_term_35 c17 rfl rfl (by decide) ?_
        refine ew_aload_n dX7_term_75 rfl lm0 ?_
        refine mw_gA dX7_term_76 (e_fl.a q1442) mf_36 rfl ?_
        refine ew_iload_n dX7_term_79 rfl lm1 ?_
        obtain ⟨v18, H⟩ := H
        refine mw_iald dX7_term_80 rfl v18.1 v18.2 ?_
        exact ew_ret (o := some (aI (s10.2 36 a))) rfl ⟨_, _, rfl, rfl, H⟩ ⟨dX7_term_81, .int, rfl, Or.inl rfl, rfl⟩
      replace H := H.2 c17
      by_cases c19 : b = 2
      · replace H := H.1 c19
        refine ew_tableK (tgt := 82) dX7_term_35 c19 rfl rfl (by decide) ?_
        refine ew_aload_n dX7_term_82 rfl lm0 ?_
        refine ew_iload_n dX7_term_83 rfl lm1 ?_
        refine ew_callV (d := d + 1) (as := [aI a]) rfl dX7_term_84 me_groupMany rfl (ci := 1) rfl rfl (mh_o _ _) (Or.inl q1755) q1757 qs89 (Nat.le_of_ble_eq_true rfl) (Nat.le_refl 0) (Nat.le_refl 0) (S_groupMany (d := d + 1) H) (fun o h' hq21 _ => ?_) (fun E i h' q _ => (mQi_no q).elim)
        obtain ⟨r23, s20, E22, rfl, H⟩ := hq21
        cases E22
        exact ew_ret (o := some (aI r23)) rfl ⟨_, _, rfl, rfl, H⟩ ⟨dX7_term_87, .int, rfl, Or.inl rfl, rfl⟩
      replace H := H.2 c19
      by_cases c24 : b = 3
      · replace H := H.1 c24
        refine ew_tableK (tgt := 88) dX7_term_35 c24 rfl rfl (by decide) ?_
        refine ew_aload_n dX7_term_88 rfl lm0 ?_
        refine ew_iload_n dX7_term_89 rfl lm1 ?_
        refine ew_callV (d := d + 1) (as := [aI a]) rfl dX7_term_90 me_usersOf rfl (ci := 1) rfl rfl (mh_o _ _) (Or.inl q1759) q1761 qs90 (Nat.le_of_ble_eq_true rfl) (Nat.le_refl 0) (Nat.le_refl 0) (S_usersOf (d := d + 0) H) (fun o h' hq26 _ => ?_) (fun E i h' q _ => (mQi_no q).elim)
        obtain ⟨r28, s25, E27, rfl, H⟩ := hq26
        cases E27
        exact ew_ret (o := some (aI r28)) rfl ⟨_, _, rfl, rfl, H⟩ ⟨dX7_term_93, .int, rfl, Or.inl rfl, rfl⟩
      replace H := H.2 c24
      by_cases c29 : b = 4
      · replace H := H.1 c29
        refine ew_tableK (tgt := 94) dX7_term_35 c29 rfl rfl (by decide) ?_
        refine ew_aload_n dX7_term_94 rfl lm0 ?_
        refine ew_iload_n dX7_term_95 rfl lm1 ?_
        refine ew_callV (d := d + 1) (as := [aI a]) rfl dX7_term_96 me_deepOf rfl (ci := 1) rfl rfl (mh_o _ _) (Or.inl q1763) q1765 qs91 (Nat.le_of_ble_eq_true rfl) (Nat.le_refl 0) (Nat.le_refl 0) (S_deepOf (d := d + 0) H) (fun o h' hq31 _ => ?_) (fun E i h' q _ => (mQi_no q).elim)
        obtain ⟨r33, s30, E32, rfl, H⟩ := hq31
        cases E32
        exact ew_ret (o := some (aI r33)) rfl ⟨_, _, rfl, rfl, H⟩ ⟨dX7_term_99, .int, rfl, Or.inl rfl, rfl⟩
      replace H := H.2 c29
      refine ew_tableOut (tgt := 100) dX7_term_35 (by clear H; omega) (by decide) ?_
      refine ew_aload_n dX7_term_100 rfl lm0 ?_
      refine mw_gA dX7_term_101 (e_fl.a q1443) mf_37 rfl ?_
      refine ew_iload_n dX7_term_104 rfl lm1 ?_
      obtain ⟨v34, H⟩ := H
      refine mw_iald dX7_term_105 rfl v34.1 v34.2 ?_
      exact ew_ret (o := some (aI (s10.2 37 a))) rfl ⟨_, _, rfl, rfl, H⟩ ⟨dX7_term_106, .int, rfl, Or.inl rfl, rfl⟩
    · replace H := H.2 c14
      refine ew_iconst dX7_term_32 (inI_of rfl) ?_
      exact ew_ret (o := some (aI (-1))) rfl ⟨_, _, rfl, rfl, H⟩ ⟨dX7_term_33, .int, rfl, Or.inl rfl, rfl⟩
  · replace H := H.2 c5
    refine ew_iload_n dX7_term_9 rfl lm2 ?_
    refine ew_iconst dX7_term_10 (inI_of rfl) ?_
    refine ew_iconst dX7_term_11 (inI_of rfl) ?_
    refine ew_callS (d := d + 1) (as := [aI b, aI 0, aI 5]) rfl dX7_term_12 me_in rfl (Or.inl q1591) q1592 (Nat.le_of_ble_eq_true rfl) (Nat.le_refl 0) (Nat.le_refl 0) (S_in (d := d + 1) H) (fun o h' hq36 _ => ?_) (fun E i h' q _ => (mQi_no q).elim)
    obtain ⟨r38, s35, E37, rfl, H⟩ := hq36
    cases E37
    refine ew_if_eq (tgt := 22) dX7_term_15 (by decide) (fun c39 => ?_) (fun c39 => ?_)
    · replace H := H.1 c39
      refine ew_iconst dX7_term_22 (inI_of rfl) ?_
      refine ew_callS (d := d + 1) (as := [aI 0]) rfl dX7_term_23 me_unless rfl (Or.inl q1732) q1733 (Nat.le_of_ble_eq_true rfl) (Nat.le_refl 0) (Nat.le_refl 0) (S_unless (d := d + 1) H) (fun o h' hq41 _ => ?_) (fun E i h' q _ => (mQi_no q).elim)
      obtain ⟨r43, s40, E42, rfl, H⟩ := hq41
      cases E42
      refine ew_callV (d := d + 1) (as := [aI r43]) rfl dX7_term_26 me_isRefused rfl (ci := 1) rfl rfl (mh_o _ _) (Or.inl q1594) q1596 qs56 (Nat.le_of_ble_eq_true rfl) (Nat.le_refl 0) (Nat.le_refl 0) (S_isRefused (d := d + 1) H) (fun o h' hq45 _ => ?_) (fun E i h' q _ => (mQi_no q).elim)
      obtain ⟨r47, s44, E46, rfl, H⟩ := hq45
      cases E46
      refine ew_if_eq (tgt := 34) dX7_term_29 (by decide) (fun c48 => ?_) (fun c48 => ?_)
      · replace H := H.1 c48
        refine ew_iload_n dX7_term_34 rfl lm2 ?_
        by_cases c49 : b = 0
        · replace H := H.1 c49
          refine ew_tableK (tgt := 68) dX7_term_35 c49 rfl rfl (by decide) ?_
          refine ew_aload_n dX7_term_68 rfl lm0 ?_
          refine mw_gA dX7_term_69 (e_fl.a q1434) mf_28 rfl ?_
          refine ew_iload_n dX7_term_72 rfl lm1 ?_
          obtain ⟨v50, H⟩ := H
          refine mw_iald dX7_term_73 rfl v50.1 v50.2 ?_
          exact ew_ret (o := some (aI (s44.2 28 a))) rfl ⟨_, _, rfl, rfl, H⟩ ⟨dX7_term_74, .int, rfl, Or.inl rfl, rfl⟩
        replace H := H.2 c49
        by_cases c51 : b = 1
        · replace H := H.1 c51
          refine ew_tableK (tgt := 75) dX7_term_35 c51 rfl rfl (by decide) ?_
          refine ew_aload_n dX7_term_75 rfl lm0 ?_
          refine mw_gA dX7_term_76 (e_fl.a q1442) mf_36 rfl ?_
          refine ew_iload_n dX7_term_79 rfl lm1 ?_
          obtain ⟨v52, H⟩ := H
          refine mw_iald dX7_term_80 rfl v52.1 v52.2 ?_
          exact ew_ret (o := some (aI (s44.2 36 a))) rfl ⟨_, _, rfl, rfl, H⟩ ⟨dX7_term_81, .int, rfl, Or.inl rfl, rfl⟩
        replace H := H.2 c51
        by_cases c53 : b = 2
        · replace H := H.1 c53
          refine ew_tableK (tgt := 82) dX7_term_35 c53 rfl rfl (by decide) ?_
          refine ew_aload_n dX7_term_82 rfl lm0 ?_
          refine ew_iload_n dX7_term_83 rfl lm1 ?_
          refine ew_callV (d := d + 1) (as := [aI a]) rfl dX7_term_84 me_groupMany rfl (ci := 1) rfl rfl (mh_o _ _) (Or.inl q1755) q1757 qs89 (Nat.le_of_ble_eq_true rfl) (Nat.le_refl 0) (Nat.le_refl 0) (S_groupMany (d := d + 1) H) (fun o h' hq55 _ => ?_) (fun E i h' q _ => (mQi_no q).elim)
          obtain ⟨r57, s54, E56, rfl, H⟩ := hq55
          cases E56
          exact ew_ret (o := some (aI r57)) rfl ⟨_, _, rfl, rfl, H⟩ ⟨dX7_term_87, .int, rfl, Or.inl rfl, rfl⟩
        replace H := H.2 c53
        by_cases c58 : b = 3
        · replace H := H.1 c58
          refine ew_tableK (tgt := 88) dX7_term_35 c58 rfl rfl (by decide) ?_
          refine ew_aload_n dX7_term_88 rfl lm0 ?_
          refine ew_iload_n dX7_term_89 rfl lm1 ?_
          refine ew_callV (d := d + 1) (as := [aI a]) rfl dX7_term_90 me_usersOf rfl (ci := 1) rfl rfl (mh_o _ _) (Or.inl q1759) q1761 qs90 (Nat.le_of_ble_eq_true rfl) (Nat.le_refl 0) (Nat.le_refl 0) (S_usersOf (d := d + 0) H) (fun o h' hq60 _ => ?_) (fun E i h' q _ => (mQi_no q).elim)
          obtain ⟨r62, s59, E61, rfl, H⟩ := hq60
          cases E61
          exact ew_ret (o := some (aI r62)) rfl ⟨_, _, rfl, rfl, H⟩ ⟨dX7_term_93, .int, rfl, Or.inl rfl, rfl⟩
        replace H := H.2 c58
        by_cases c63 : b = 4
        · replace H := H.1 c63
          refine ew_tableK (tgt := 94) dX7_term_35 c63 rfl rfl (by decide) ?_
          refine ew_aload_n dX7_term_94 rfl lm0 ?_
          refine ew_iload_n dX7_term_95 rfl lm1 ?_
          refine ew_callV (d := d + 1) (as := [aI a]) rfl dX7_term_96 me_deepOf rfl (ci := 1) rfl rfl (mh_o _ _) (Or.inl q1763) q1765 qs91 (Nat.le_of_ble_eq_true rfl) (Nat.le_refl 0) (Nat.le_refl 0) (S_deepOf (d := d + 0) H) (fun o h' hq65 _ => ?_) (fun E i h' q _ => (mQi_no q).elim)
          obtain ⟨r67, s64, E66, rfl, H⟩ := hq65
          cases E66
          exact ew_ret (o := some (aI r67)) rfl ⟨_, _, rfl, rfl, H⟩ ⟨dX7_term_99, .int, rfl, Or.inl rfl, rfl⟩
        replace H := H.2 c63
        refine ew_tableOut (tgt := 100) dX7_term_35 (by clear H; omega) (by decide) ?_
        refine ew_aload_n dX7_term_100 rfl lm0 ?_
        refine mw_gA dX7_term_101 (e_fl.a q1443) mf_37 rfl ?_
        refine ew_iload_n dX7_term_104 rfl lm1 ?_
        obtain ⟨v68, H⟩ := H
        refine mw_iald dX7_term_105 rfl v68.1 v68.2 ?_
        exact ew_ret (o := some (aI (s44.2 37 a))) rfl ⟨_, _, rfl, rfl, H⟩ ⟨dX7_term_106, .int, rfl, Or.inl rfl, rfl⟩
      · replace H := H.2 c48
        refine ew_iconst dX7_term_32 (inI_of rfl) ?_
        exact ew_ret (o := some (aI (-1))) rfl ⟨_, _, rfl, rfl, H⟩ ⟨dX7_term_33, .int, rfl, Or.inl rfl, rfl⟩
    · replace H := H.2 c39
      refine ew_iconst dX7_term_18 (inI_of rfl) ?_
      refine ew_goto (tgt := 23) dX7_term_19 (by decide) ?_
      refine ew_callS (d := d + 1) (as := [aI 1]) rfl dX7_term_23 me_unless rfl (Or.inl q1732) q1733 (Nat.le_of_ble_eq_true rfl) (Nat.le_refl 0) (Nat.le_refl 0) (S_unless (d := d + 1) H) (fun o h' hq70 _ => ?_) (fun E i h' q _ => (mQi_no q).elim)
      obtain ⟨r72, s69, E71, rfl, H⟩ := hq70
      cases E71
      refine ew_callV (d := d + 1) (as := [aI r72]) rfl dX7_term_26 me_isRefused rfl (ci := 1) rfl rfl (mh_o _ _) (Or.inl q1594) q1596 qs56 (Nat.le_of_ble_eq_true rfl) (Nat.le_refl 0) (Nat.le_refl 0) (S_isRefused (d := d + 1) H) (fun o h' hq74 _ => ?_) (fun E i h' q _ => (mQi_no q).elim)
      obtain ⟨r76, s73, E75, rfl, H⟩ := hq74
      cases E75
      refine ew_if_eq (tgt := 34) dX7_term_29 (by decide) (fun c77 => ?_) (fun c77 => ?_)
      · replace H := H.1 c77
        refine ew_iload_n dX7_term_34 rfl lm2 ?_
        by_cases c78 : b = 0
        · replace H := H.1 c78
          refine ew_tableK (tgt := 68) dX7_term_35 c78 rfl rfl (by decide) ?_
          refine ew_aload_n dX7_term_68 rfl lm0 ?_
          refine mw_gA dX7_term_69 (e_fl.a q1434) mf_28 rfl ?_
          refine ew_iload_n dX7_term_72 rfl lm1 ?_
          obtain ⟨v79, H⟩ := H
          refine mw_iald dX7_term_73 rfl v79.1 v79.2 ?_
          exact ew_ret (o := some (aI (s73.2 28 a))) rfl ⟨_, _, rfl, rfl, H⟩ ⟨dX7_term_74, .int, rfl, Or.inl rfl, rfl⟩
        replace H := H.2 c78
        by_cases c80 : b = 1
        · replace H := H.1 c80
          refine ew_tableK (tgt := 75) dX7_term_35 c80 rfl rfl (by decide) ?_
          refine ew_aload_n dX7_term_75 rfl lm0 ?_
          refine mw_gA dX7_term_76 (e_fl.a q1442) mf_36 rfl ?_
          refine ew_iload_n dX7_term_79 rfl lm1 ?_
          obtain ⟨v81, H⟩ := H
          refine mw_iald dX7_term_80 rfl v81.1 v81.2 ?_
          exact ew_ret (o := some (aI (s73.2 36 a))) rfl ⟨_, _, rfl, rfl, H⟩ ⟨dX7_term_81, .int, rfl, Or.inl rfl, rfl⟩
        replace H := H.2 c80
        by_cases c82 : b = 2
        · replace H := H.1 c82
          refine ew_tableK (tgt := 82) dX7_term_35 c82 rfl rfl (by decide) ?_
          refine ew_aload_n dX7_term_82 rfl lm0 ?_
          refine ew_iload_n dX7_term_83 rfl lm1 ?_
          refine ew_callV (d := d + 1) (as := [aI a]) rfl dX7_term_84 me_groupMany rfl (ci := 1) rfl rfl (mh_o _ _) (Or.inl q1755) q1757 qs89 (Nat.le_of_ble_eq_true rfl) (Nat.le_refl 0) (Nat.le_refl 0) (S_groupMany (d := d + 1) H) (fun o h' hq84 _ => ?_) (fun E i h' q _ => (mQi_no q).elim)
          obtain ⟨r86, s83, E85, rfl, H⟩ := hq84
          cases E85
          exact ew_ret (o := some (aI r86)) rfl ⟨_, _, rfl, rfl, H⟩ ⟨dX7_term_87, .int, rfl, Or.inl rfl, rfl⟩
        replace H := H.2 c82
        by_cases c87 : b = 3
        · replace H := H.1 c87
          refine ew_tableK (tgt := 88) dX7_term_35 c87 rfl rfl (by decide) ?_
          refine ew_aload_n dX7_term_88 rfl lm0 ?_
          refine ew_iload_n dX7_term_89 rfl lm1 ?_
          refine ew_callV (d := d + 1) (as := [aI a]) rfl dX7_term_90 me_usersOf rfl (ci := 1) rfl rfl (mh_o _ _) (Or.inl q1759) q1761 qs90 (Nat.le_of_ble_eq_true rfl) (Nat.le_refl 0) (Nat.le_refl 0) (S_usersOf (d := d + 0) H) (fun o h' hq89 _ => ?_) (fun E i h' q _ => (mQi_no q).elim)
          obtain ⟨r91, s88, E90, rfl, H⟩ := hq89
          cases E90
          exact ew_ret (o := some (aI r91)) rfl ⟨_, _, rfl, rfl, H⟩ ⟨dX7_term_93, .int, rfl, Or.inl rfl, rfl⟩
        replace H := H.2 c87
        by_cases c92 : b = 4
        · replace H := H.1 c92
          refine ew_tableK (tgt := 94) dX7_term_35 c92 rfl rfl (by decide) ?_
          refine ew_aload_n dX7_term_94 rfl lm0 ?_
          refine ew_iload_n dX7_term_95 rfl lm1 ?_
          refine ew_callV (d := d + 1) (as := [aI a]) rfl dX7_term_96 me_deepOf rfl (ci := 1) rfl rfl (mh_o _ _) (Or.inl q1763) q1765 qs91 (Nat.le_of_ble_eq_true rfl) (Nat.le_refl 0) (Nat.le_refl 0) (S_deepOf (d := d + 0) H) (fun o h' hq94 _ => ?_) (fun E i h' q _ => (mQi_no q).elim)
          obtain ⟨r96, s93, E95, rfl, H⟩ := hq94
          cases E95
          exact ew_ret (o := some (aI r96)) rfl ⟨_, _, rfl, rfl, H⟩ ⟨dX7_term_99, .int, rfl, Or.inl rfl, rfl⟩
        replace H := H.2 c92
        refine ew_tableOut (tgt := 100) dX7_term_35 (by clear H; omega) (by decide) ?_
        refine ew_aload_n dX7_term_100 rfl lm0 ?_
        refine mw_gA dX7_term_101 (e_fl.a q1443) mf_37 rfl ?_
        refine ew_iload_n dX7_term_104 rfl lm1 ?_
        obtain ⟨v97, H⟩ := H
        refine mw_iald dX7_term_105 rfl v97.1 v97.2 ?_
        exact ew_ret (o := some (aI (s73.2 37 a))) rfl ⟨_, _, rfl, rfl, H⟩ ⟨dX7_term_106, .int, rfl, Or.inl rfl, rfl⟩
      · replace H := H.2 c77
        refine ew_iconst dX7_term_32 (inI_of rfl) ?_
        exact ew_ret (o := some (aI (-1))) rfl ⟨_, _, rfl, rfl, H⟩ ⟨dX7_term_33, .int, rfl, Or.inl rfl, rfl⟩
def C_term (a : Int) (b : Int) (s0 : MS) (K : Int → MS → Prop) : Prop := B_term_E  K a b s0
theorem S_term {d : Nat} {g : AH} {K : Int → MS → Prop} {a : Int} {b : Int} {s0 : MS} (H : C_term a b s0 K) : Sp mm_term (d + 2) 0 0 [aR (some mT), aI a, aI b] (mh s0 g) (mQi g K) :=
  ew_sp rfl (Nat.le_of_ble_eq_true rfl) (T_term_E d g K a b s0 (H  ))
