set_option maxRecDepth 100000
abbrev mm_pair : EM := (yX7_pair, cX7_pair, 2, some .int, [])
theorem me_pair : e_mth mm_pair 2 := ⟨rfl, q1864, q117, by decide +kernel, by decide⟩
def B_pair_E  (K : Int → MS → Prop) (a : Int) (b : Int) (s0 : MS) : Prop :=
  ((inI (24 * a)) ∧ ((inI ((24 * a) + b)) ∧ K ((24 * a) + b) s0))
set_option maxHeartbeats 4000000 in
theorem T_pair_E (d : Nat) (g : AH) (K : Int → MS → Prop) (a : Int) (b : Int) (s0 : MS) (H : B_pair_E  K a b s0) : EW mm_pair (d + 0) 0 0 (mQi g K) 0 [(0, aI a), (1, aI b)] [] (mh s0 g) := by
  refine ew_bipush dX7_pair_0 (inI_of rfl) (by decide) ?_
  refine ew_iload_n dX7_pair_2 rfl lm0 ?_
  obtain ⟨v1, H⟩ := H
  refine ew_imul dX7_pair_3 v1 ?_
  refine ew_iload_n dX7_pair_4 rfl lm1 ?_
  obtain ⟨v2, H⟩ := H
  refine ew_iadd dX7_pair_5 v2 ?_
  exact ew_ret (o := some (aI ((24 * a) + b))) rfl ⟨_, _, rfl, rfl, H⟩ ⟨dX7_pair_6, .int, rfl, Or.inl rfl, rfl⟩
def C_pair (a : Int) (b : Int) (s0 : MS) (K : Int → MS → Prop) : Prop := B_pair_E  K a b s0
theorem S_pair {d : Nat} {g : AH} {K : Int → MS → Prop} {a : Int} {b : Int} {s0 : MS} (H : C_pair a b s0 K) : Sp mm_pair (d + 0) 0 0 [aI a, aI b] (mh s0 g) (mQi g K) :=
  ew_sp rfl (Nat.le_of_ble_eq_true rfl) (T_pair_E d g K a b s0 (H  ))
abbrev mm_held : EM := (yX7_held, cX7_held, 2, some .long, [])
theorem me_held : e_mth mm_held 1 := ⟨rfl, q1876, q117, by decide +kernel, by decide⟩
def B_held_E  (K : Int → MS → Prop) (a : Int) (s0 : MS) : Prop :=
  ((a < 4000000000 → ((a ≤ 1000000000 → K a s0) ∧ (¬ a ≤ 1000000000 → K 1000000000 s0))) ∧ (¬ a < 4000000000 → K 4000000000 s0))
set_option maxHeartbeats 4000000 in
theorem T_held_E (d : Nat) (g : AH) (K : Int → MS → Prop) (a : Int) (s0 : MS) (H : B_held_E  K a s0) : EW mm_held (d + 0) 0 0 (mQl g K) 0 [(0, aL a)] [] (mh s0 g) := by
  refine ew_lload_n dX7_held_0 rfl lm0 ?_
  refine ew_ldc2 (n := 4000000000) dX7_held_1 (inL_of rfl) q1865 ?_
  refine ew_lcmp dX7_held_4 ?_
  refine ew_if_lt (tgt := 14) dX7_held_5 (by decide) (fun c1 => ?_) (fun c1 => ?_)
  · replace H := H.1 (jl_lt.mp c1)
    refine ew_lload_n dX7_held_14 rfl lm0 ?_
    refine ew_ldc2 (n := 1000000000) dX7_held_15 (inL_of rfl) q1877 ?_
    refine ew_lcmp dX7_held_18 ?_
    refine ew_if_le (tgt := 28) dX7_held_19 (by decide) (fun c2 => ?_) (fun c2 => ?_)
    · replace H := H.1 (jl_le.mp c2)
      refine ew_lload_n dX7_held_28 rfl lm0 ?_
      exact ew_ret (o := some (aL a)) rfl ⟨_, _, rfl, rfl, H⟩ ⟨dX7_held_29, rfl⟩
    · replace H := H.2 (fun z => c2 (jl_le.mpr z))
      refine ew_ldc2 (n := 1000000000) dX7_held_22 (inL_of rfl) q1877 ?_
      refine ew_goto (tgt := 29) dX7_held_25 (by decide) ?_
      exact ew_ret (o := some (aL 1000000000)) rfl ⟨_, _, rfl, rfl, H⟩ ⟨dX7_held_29, rfl⟩
  · replace H := H.2 (fun z => c1 (jl_lt.mpr z))
    refine ew_ldc2 (n := 4000000000) dX7_held_8 (inL_of rfl) q1865 ?_
    refine ew_goto (tgt := 29) dX7_held_11 (by decide) ?_
    exact ew_ret (o := some (aL 4000000000)) rfl ⟨_, _, rfl, rfl, H⟩ ⟨dX7_held_29, rfl⟩
def C_held (a : Int) (s0 : MS) (K : Int → MS → Prop) : Prop := B_held_E  K a s0
theorem S_held {d : Nat} {g : AH} {K : Int → MS → Prop} {a : Int} {s0 : MS} (H : C_held a s0 K) : Sp mm_held (d + 0) 0 0 [aL a] (mh s0 g) (mQl g K) :=
  ew_sp rfl (Nat.le_of_ble_eq_true rfl) (T_held_E d g K a s0 (H  ))
abbrev mm_sideOf : EM := (yX7_sideOf, cX7_sideOf, 10, some .long, [])
theorem me_sideOf : e_mth mm_sideOf 2 := ⟨rfl, q1873, q117, by decide +kernel, by decide⟩
def B_sideOf_7 (X7 : Int → Int → Int → Int → MS → Prop) (X107 : Int → Int → Int → Int → Int → MS → Prop) (K : Int → MS → Prop) (x1 : Int) (x2 : Int) (x3 : Int) (x5 : Int) (s0 : MS) : Prop :=
  (((s0.1 30) ≤ x5 → ((0 ≤ x1 ∧ x1 < 24) ∧ ((0 ≤ x2 ∧ x2 < 24) ∧ (((s0.2 28 x1) = (s0.2 28 x2) → X107 x1 x2 x3 0 0 s0) ∧ (¬ (s0.2 28 x1) = (s0.2 28 x2) → K x3 s0))))) ∧ (¬ (s0.1 30) ≤ x5 → ((0 ≤ x5 ∧ x5 < 13) ∧ (((s0.2 31 x5) = x1 → ((0 ≤ x5 ∧ x5 < 13) ∧ (((s0.2 32 x5) = x2 → (inI (x5 + 1) ∧ X7 x1 x2 1 (x5 + 1) s0)) ∧ (¬ (s0.2 32 x5) = x2 → ((0 ≤ x5 ∧ x5 < 13) ∧ (((s0.2 31 x5) = x2 → ((0 ≤ x5 ∧ x5 < 13) ∧ (((s0.2 32 x5) = x1 → (inI (x5 + 1) ∧ X7 x1 x2 1 (x5 + 1) s0)) ∧ (¬ (s0.2 32 x5) = x1 → (inI (x5 + 1) ∧ X7 x1 x2 x3 (x5 + 1) s0))))) ∧ (¬ (s0.2 31 x5) = x2 → (inI (x5 + 1) ∧ X7 x1 x2 x3 (x5 + 1) s0)))))))) ∧ (¬ (s0.2 31 x5) = x1 → ((0 ≤ x5 ∧ x5 < 13) ∧ (((s0.2 31 x5) = x2 → ((0 ≤ x5 ∧ x5 < 13) ∧ (((s0.2 32 x5) = x1 → (inI (x5 + 1) ∧ X7 x1 x2 1 (x5 + 1) s0)) ∧ (¬ (s0.2 32 x5) = x1 → (inI (x5 + 1) ∧ X7 x1 x2 x3 (x5 + 1) s0))))) ∧ (¬ (s0.2 31 x5) = x2 → (inI (x5 + 1) ∧ X7 x1 x2 x3 (x5 + 1) s0)))))))))
def B_sideOf_107 (X7 : Int → Int → Int → Int → MS → Prop) (X107 : Int → Int → Int → Int → Int → MS → Prop) (K : Int → MS → Prop) (x1 : Int) (x2 : Int) (x3 : Int) (x5 : Int) (x7 : Int) (s0 : MS) : Prop :=
  (C_takesOf x1 s0 (fun r4 s1 => ((r4 ≤ x7 → ((x3 ≤ x5 → K x3 s1) ∧ (¬ x3 ≤ x5 → K x5 s1))) ∧ (¬ r4 ≤ x7 → ((4000000000 ≤ x5 → ((x3 ≤ x5 → K x3 s1) ∧ (¬ x3 ≤ x5 → K x5 s1))) ∧ (¬ 4000000000 ≤ x5 → ((inI (3 * x1)) ∧ ((inI ((3 * x1) + x7)) ∧ ((0 ≤ ((3 * x1) + x7) ∧ ((3 * x1) + x7) < 72) ∧ ((inI (3 * x2)) ∧ ((inI ((3 * x2) + x7)) ∧ ((0 ≤ ((3 * x2) + x7) ∧ ((3 * x2) + x7) < 72) ∧ (C_pair (s1.2 29 ((3 * x1) + x7)) (s1.2 29 ((3 * x2) + x7)) s1 (fun r18 s15 => ((0 ≤ r18 ∧ r18 < 576) ∧ (((s15.2 49 r18) < 4000000000 → ((inL (x5 + (s15.2 49 r18))) ∧ (C_held (x5 + (s15.2 49 r18)) s15 (fun r25 s22 => (inI (x7 + 1) ∧ X107 x1 x2 x3 r25 (x7 + 1) s22))))) ∧ (¬ (s15.2 49 r18) < 4000000000 → (inI (x7 + 1) ∧ X107 x1 x2 x3 4000000000 (x7 + 1) s15))))))))))))))))))
def B_sideOf_E (X7 : Int → Int → Int → Int → MS → Prop) (X107 : Int → Int → Int → Int → Int → MS → Prop) (K : Int → MS → Prop) (a : Int) (b : Int) (s0 : MS) : Prop :=
  X7 a b 4000000000 0 s0
def W_sideOf_7 (d : Nat) (g : AH) (K : Int → MS → Prop) (x1 : Int) (x2 : Int) (x3 : Int) (x5 : Int) (s0 : MS) : Prop := EW mm_sideOf (d + 1) 0 0 (mQl g K) 7 [(0, aR (some mT)), (1, aI x1), (2, aI x2), (3, aL x3), (5, aI x5)] [] (mh s0 g)
def W_sideOf_107 (d : Nat) (g : AH) (K : Int → MS → Prop) (x1 : Int) (x2 : Int) (x3 : Int) (x5 : Int) (x7 : Int) (s0 : MS) : Prop := EW mm_sideOf (d + 1) 0 0 (mQl g K) 107 [(0, aR (some mT)), (1, aI x1), (2, aI x2), (3, aL x3), (5, aL x5), (7, aI x7)] [] (mh s0 g)
set_option maxHeartbeats 4000000 in
theorem T_sideOf_7 (d : Nat) (g : AH) (K : Int → MS → Prop) (x1 : Int) (x2 : Int) (x3 : Int) (x5 : Int) (s0 : MS) (H : B_sideOf_7 (W_sideOf_7 d g K) (W_sideOf_107 d g K) K x1 x2 x3 x5 s0) : EW mm_sideOf (d + 1) 0 0 (mQl g K) 7 [(0, aR (some mT)), (1, aI x1), (2, aI x2), (3, aL x3), (5, aI x5)] [] (mh s0 g) := by
  refine ew_iload dX7_sideOf_7 lm4 ?_
  refine ew_aload_n dX7_sideOf_9 rfl lm0 ?_
  refine mw_gI dX7_sideOf_10 (e_fl.a q1436) mf_30 rfl ?_
  refine ew_icmp_ge (tgt := 84) dX7_sideOf_13 (by decide) (fun c1 => ?_) (fun c1 => ?_)
  · replace H := H.1 c1
    refine ew_aload_n dX7_sideOf_84 rfl lm0 ?_
    refine mw_gA dX7_sideOf_85 (e_fl.a q1434) mf_28 rfl ?_
    refine ew_iload_n dX7_sideOf_88 rfl lm1 ?_
    obtain ⟨v2, H⟩ := H
    refine mw_iald dX7_sideOf_89 rfl v2.1 v2.2 ?_
    refine ew_aload_n dX7_sideOf_90 rfl lm0 ?_
    refine mw_gA dX7_sideOf_91 (e_fl.a q1434) mf_28 rfl ?_
    refine ew_iload_n dX7_sideOf_94 rfl lm2 ?_
    obtain ⟨v3, H⟩ := H
    refine mw_iald dX7_sideOf_95 rfl v3.1 v3.2 ?_
    refine ew_icmp_eq (tgt := 101) dX7_sideOf_96 (by decide) (fun c4 => ?_) (fun c4 => ?_)
    · replace H := H.1 c4
      refine ew_lconst (v := 0) dX7_sideOf_101 (inL_of rfl) (by decide) ?_
      refine ew_lstore dX7_sideOf_102 (by decide) (lv' := [(5, aL 0), (0, aR (some mT)), (1, aI x1), (2, aI x2), (3, aL x3)]) rfl ?_
      refine ew_sub (List.forall_mem_cons.mpr ⟨lm1, (List.forall_mem_cons.mpr ⟨lm2, (List.forall_mem_cons.mpr ⟨lm3, (List.forall_mem_cons.mpr ⟨lm4, (List.forall_mem_cons.mpr ⟨lm0, e_nm⟩)⟩)⟩)⟩)⟩) ?_
      refine ew_iconst dX7_sideOf_104 (inI_of rfl) ?_
      refine ew_istore dX7_sideOf_105 (by decide) (lv' := [(7, aI 0), (0, aR (some mT)), (1, aI x1), (2, aI x2), (3, aL x3), (5, aL 0)]) rfl ?_
      refine ew_sub (List.forall_mem_cons.mpr ⟨lm1, (List.forall_mem_cons.mpr ⟨lm2, (List.forall_mem_cons.mpr ⟨lm3, (List.forall_mem_cons.mpr ⟨lm4, (List.forall_mem_cons.mpr ⟨lm5, (List.forall_mem_cons.mpr ⟨lm0, e_nm⟩)⟩)⟩)⟩)⟩)⟩) ?_
      exact ew_sub (List.forall_mem_cons.mpr ⟨lm0, (List.forall_mem_cons.mpr ⟨lm1, (List.forall_mem_cons.mpr ⟨lm2, (List.forall_mem_cons.mpr ⟨lm3, (List.forall_mem_cons.mpr ⟨lm4, (List.forall_mem_cons.mpr ⟨lm5, e_nm⟩)⟩)⟩)⟩)⟩)⟩) H
    · replace H := H.2 c4
      refine ew_lload_n dX7_sideOf_99 rfl lm3 ?_
      exact ew_ret (o := some (aL x3)) rfl ⟨_, _, rfl, rfl, H⟩ ⟨dX7_sideOf_100, rfl⟩
  · replace H := H.2 c1
    refine ew_aload_n dX7_sideOf_16 rfl lm0 ?_
    refine mw_gA dX7_sideOf_17 (e_fl.a q1437) mf_31 rfl ?_
    refine ew_iload dX7_sideOf_20 lm4 ?_
    obtain ⟨v5, H⟩ := H
    refine mw_iald dX7_sideOf_22 rfl v5.1 v5.2 ?_
    refine ew_iload_n dX7_sideOf_23 rfl lm1 ?_
    refine ew_icmp_ne (tgt := 38) dX7_sideOf_24 (by decide) (fun c6 => ?_) (fun c6 => ?_)
    · replace H := H.2 c6
      refine ew_aload_n dX7_sideOf_38 rfl lm0 ?_
      refine mw_gA dX7_sideOf_39 (e_fl.a q1437) mf_31 rfl ?_
      refine ew_iload dX7_sideOf_42 lm4 ?_
      obtain ⟨v7, H⟩ := H
      refine mw_iald dX7_sideOf_44 rfl v7.1 v7.2 ?_
      refine ew_iload_n dX7_sideOf_45 rfl lm2 ?_
      refine ew_icmp_ne (tgt := 64) dX7_sideOf_46 (by decide) (fun c8 => ?_) (fun c8 => ?_)
      · replace H := H.2 c8
        refine ew_iconst dX7_sideOf_64 (inI_of rfl) ?_
        refine ew_istore dX7_sideOf_65 (by decide) (lv' := [(6, aI 0), (0, aR (some mT)), (1, aI x1), (2, aI x2), (3, aL x3), (5, aI x5)]) rfl ?_
        refine ew_sub (List.forall_mem_cons.mpr ⟨lm1, (List.forall_mem_cons.mpr ⟨lm2, (List.forall_mem_cons.mpr ⟨lm3, (List.forall_mem_cons.mpr ⟨lm4, (List.forall_mem_cons.mpr ⟨lm5, (List.forall_mem_cons.mpr ⟨lm0, e_nm⟩)⟩)⟩)⟩)⟩)⟩) ?_
        refine ew_iload dX7_sideOf_67 lm5 ?_
        refine ew_if_eq (tgt := 76) dX7_sideOf_69 (by decide) (fun _ => ?_) (fun c => False.elim (by revert c; decide))
        refine ew_lload_n dX7_sideOf_76 rfl lm3 ?_
        refine ew_lstore_n dX7_sideOf_77 rfl (by decide) (lv' := [(3, aL x3), (0, aR (some mT)), (1, aI x1), (2, aI x2), (5, aI x5), (6, aI 0)]) rfl ?_
        refine ew_sub (List.forall_mem_cons.mpr ⟨lm1, (List.forall_mem_cons.mpr ⟨lm2, (List.forall_mem_cons.mpr ⟨lm3, (List.forall_mem_cons.mpr ⟨lm0, (List.forall_mem_cons.mpr ⟨lm4, (List.forall_mem_cons.mpr ⟨lm5, e_nm⟩)⟩)⟩)⟩)⟩)⟩) ?_
        obtain ⟨v10, H⟩ := H
        refine ew_iinc dX7_sideOf_78 lm4 (by decide) v10 (lv' := [(5, aI (x5 + 1)), (0, aR (some mT)), (1, aI x1), (2, aI x2), (3, aL x3), (6, aI 0)]) rfl ?_
        refine ew_sub (List.forall_mem_cons.mpr ⟨lm1, (List.forall_mem_cons.mpr ⟨lm2, (List.forall_mem_cons.mpr ⟨lm3, (List.forall_mem_cons.mpr ⟨lm4, (List.forall_mem_cons.mpr ⟨lm0, (List.forall_mem_cons.mpr ⟨lm5, e_nm⟩)⟩)⟩)⟩)⟩)⟩) ?_
        refine ew_goto (tgt := 7) dX7_sideOf_81 (by decide) ?_
        exact ew_sub (List.forall_mem_cons.mpr ⟨lm0, (List.forall_mem_cons.mpr ⟨lm1, (List.forall_mem_cons.mpr ⟨lm2, (List.forall_mem_cons.mpr ⟨lm3, (List.forall_mem_cons.mpr ⟨lm4, e_nm⟩)⟩)⟩)⟩)⟩) H
      · replace H := H.1 c8
        refine ew_aload_n dX7_sideOf_49 rfl lm0 ?_
        refine mw_gA dX7_sideOf_50 (e_fl.a q1438) mf_32 rfl ?_
        refine ew_iload dX7_sideOf_53 lm4 ?_
        obtain ⟨v11, H⟩ := H
        refine mw_iald dX7_sideOf_55 rfl v11.1 v11.2 ?_
        refine ew_iload_n dX7_sideOf_56 rfl lm1 ?_
        refine ew_icmp_ne (tgt := 64) dX7_sideOf_57 (by decide) (fun c12 => ?_) (fun c12 => ?_)
        · replace H := H.2 c12
          refine ew_iconst dX7_sideOf_64 (inI_of rfl) ?_
          refine ew_istore dX7_sideOf_65 (by decide) (lv' := [(6, aI 0), (0, aR (some mT)), (1, aI x1), (2, aI x2), (3, aL x3), (5, aI x5)]) rfl ?_
          refine ew_sub (List.forall_mem_cons.mpr ⟨lm1, (List.forall_mem_cons.mpr ⟨lm2, (List.forall_mem_cons.mpr ⟨lm3, (List.forall_mem_cons.mpr ⟨lm4, (List.forall_mem_cons.mpr ⟨lm5, (List.forall_mem_cons.mpr ⟨lm0, e_nm⟩)⟩)⟩)⟩)⟩)⟩) ?_
          refine ew_iload dX7_sideOf_67 lm5 ?_
          refine ew_if_eq (tgt := 76) dX7_sideOf_69 (by decide) (fun _ => ?_) (fun c => False.elim (by revert c; decide))
          refine ew_lload_n dX7_sideOf_76 rfl lm3 ?_
          refine ew_lstore_n dX7_sideOf_77 rfl (by decide) (lv' := [(3, aL x3), (0, aR (some mT)), (1, aI x1), (2, aI x2), (5, aI x5), (6, aI 0)]) rfl ?_
          refine ew_sub (List.forall_mem_cons.mpr ⟨lm1, (List.forall_mem_cons.mpr ⟨lm2, (List.forall_mem_cons.mpr ⟨lm3, (List.forall_mem_cons.mpr ⟨lm0, (List.forall_mem_cons.mpr ⟨lm4, (List.forall_mem_cons.mpr ⟨lm5, e_nm⟩)⟩)⟩)⟩)⟩)⟩) ?_
          obtain ⟨v14, H⟩ := H
          refine ew_iinc dX7_sideOf_78 lm4 (by decide) v14 (lv' := [(5, aI (x5 + 1)), (0, aR (some mT)), (1, aI x1), (2, aI x2), (3, aL x3), (6, aI 0)]) rfl ?_
          refine ew_sub (List.forall_mem_cons.mpr ⟨lm1, (List.forall_mem_cons.mpr ⟨lm2, (List.forall_mem_cons.mpr ⟨lm3, (List.forall_mem_cons.mpr ⟨lm4, (List.forall_mem_cons.mpr ⟨lm0, (List.forall_mem_cons.mpr ⟨lm5, e_nm⟩)⟩)⟩)⟩)⟩)⟩) ?_
          refine ew_goto (tgt := 7) dX7_sideOf_81 (by decide) ?_
          exact ew_sub (List.forall_mem_cons.mpr ⟨lm0, (List.forall_mem_cons.mpr ⟨lm1, (List.forall_mem_cons.mpr ⟨lm2, (List.forall_mem_cons.mpr ⟨lm3, (List.forall_mem_cons.mpr ⟨lm4, e_nm⟩)⟩)⟩)⟩)⟩) H
        · replace H := H.1 c12
          refine ew_iconst dX7_sideOf_60 (inI_of rfl) ?_
          refine ew_goto (tgt := 65) dX7_sideOf_61 (by decide) ?_
          refine ew_istore dX7_sideOf_65 (by decide) (lv' := [(6, aI 1), (0, aR (some mT)), (1, aI x1), (2, aI x2), (3, aL x3), (5, aI x5)]) rfl ?_
          refine ew_sub (List.forall_mem_cons.mpr ⟨lm1, (List.forall_mem_cons.mpr ⟨lm2, (List.forall_mem_cons.mpr ⟨lm3, (List.forall_mem_cons.mpr ⟨lm4, (List.forall_mem_cons.mpr ⟨lm5, (List.forall_mem_cons.mpr ⟨lm0, e_nm⟩)⟩)⟩)⟩)⟩)⟩) ?_
          refine ew_iload dX7_sideOf_67 lm5 ?_
          refine ew_if_eq (tgt := 76) dX7_sideOf_69 (by decide) (fun c => False.elim (by revert c; decide)) (fun _ => ?_)
          refine ew_lconst (v := 1) dX7_sideOf_72 (inL_of rfl) (by decide) ?_
          refine ew_goto (tgt := 77) dX7_sideOf_73 (by decide) ?_
          refine ew_lstore_n dX7_sideOf_77 rfl (by decide) (lv' := [(3, aL 1), (0, aR (some mT)), (1, aI x1), (2, aI x2), (5, aI x5), (6, aI 1)]) rfl ?_
          refine ew_sub (List.forall_mem_cons.mpr ⟨lm1, (List.forall_mem_cons.mpr ⟨lm2, (List.forall_mem_cons.mpr ⟨lm3, (List.forall_mem_cons.mpr ⟨lm0, (List.forall_mem_cons.mpr ⟨lm4, (List.forall_mem_cons.mpr ⟨lm5, e_nm⟩)⟩)⟩)⟩)⟩)⟩) ?_
          obtain ⟨v16, H⟩ := H
          refine ew_iinc dX7_sideOf_78 lm4 (by decide) v16 (lv' := [(5, aI (x5 + 1)), (0, aR (some mT)), (1, aI x1), (2, aI x2), (3, aL 1), (6, aI 1)]) rfl ?_
          refine ew_sub (List.forall_mem_cons.mpr ⟨lm1, (List.forall_mem_cons.mpr ⟨lm2, (List.forall_mem_cons.mpr ⟨lm3, (List.forall_mem_cons.mpr ⟨lm4, (List.forall_mem_cons.mpr ⟨lm0, (List.forall_mem_cons.mpr ⟨lm5, e_nm⟩)⟩)⟩)⟩)⟩)⟩) ?_
          refine ew_goto (tgt := 7) dX7_sideOf_81 (by decide) ?_
          exact ew_sub (List.forall_mem_cons.mpr ⟨lm0, (List.forall_mem_cons.mpr ⟨lm1, (List.forall_mem_cons.mpr ⟨lm2, (List.forall_mem_cons.mpr ⟨lm3, (List.forall_mem_cons.mpr ⟨lm4, e_nm⟩)⟩)⟩)⟩)⟩) H
    · replace H := H.1 c6
      refine ew_aload_n dX7_sideOf_27 rfl lm0 ?_
      refine mw_gA dX7_sideOf_28 (e_fl.a q1438) mf_32 rfl ?_
      refine ew_iload dX7_sideOf_31 lm4 ?_
      obtain ⟨v17, H⟩ := H
      refine mw_iald dX7_sideOf_33 rfl v17.1 v17.2 ?_
      refine ew_iload_n dX7_sideOf_34 rfl lm2 ?_
      refine ew_icmp_eq (tgt := 60) dX7_sideOf_35 (by decide) (fun c18 => ?_) (fun c18 => ?_)
      · replace H := H.1 c18
        refine ew_iconst dX7_sideOf_60 (inI_of rfl) ?_
        refine ew_goto (tgt := 65) dX7_sideOf_61 (by decide) ?_
        refine ew_istore dX7_sideOf_65 (by decide) (lv' := [(6, aI 1), (0, aR (some mT)), (1, aI x1), (2, aI x2), (3, aL x3), (5, aI x5)]) rfl ?_
        refine ew_sub (List.forall_mem_cons.mpr ⟨lm1, (List.forall_mem_cons.mpr ⟨lm2, (List.forall_mem_cons.mpr ⟨lm3, (List.forall_mem_cons.mpr ⟨lm4, (List.forall_mem_cons.mpr ⟨lm5, (List.forall_mem_cons.mpr ⟨lm0, e_nm⟩)⟩)⟩)⟩)⟩)⟩) ?_
        refine ew_iload dX7_sideOf_67 lm5 ?_
        refine ew_if_eq (tgt := 76) dX7_sideOf_69 (by decide) (fun c => False.elim (by revert c; decide)) (fun _ => ?_)
        refine ew_lconst (v := 1) dX7_sideOf_72 (inL_of rfl) (by decide) ?_
        refine ew_goto (tgt := 77) dX7_sideOf_73 (by decide) ?_
        refine ew_lstore_n dX7_sideOf_77 rfl (by decide) (lv' := [(3, aL 1), (0, aR (some mT)), (1, aI x1), (2, aI x2), (5, aI x5), (6, aI 1)]) rfl ?_
        refine ew_sub (List.forall_mem_cons.mpr ⟨lm1, (List.forall_mem_cons.mpr ⟨lm2, (List.forall_mem_cons.mpr ⟨lm3, (List.forall_mem_cons.mpr ⟨lm0, (List.forall_mem_cons.mpr ⟨lm4, (List.forall_mem_cons.mpr ⟨lm5, e_nm⟩)⟩)⟩)⟩)⟩)⟩) ?_
        obtain ⟨v20, H⟩ := H
        refine ew_iinc dX7_sideOf_78 lm4 (by decide) v20 (lv' := [(5, aI (x5 + 1)), (0, aR (some mT)), (1, aI x1), (2, aI x2), (3, aL 1), (6, aI 1)]) rfl ?_
        refine ew_sub (List.forall_mem_cons.mpr ⟨lm1, (List.forall_mem_cons.mpr ⟨lm2, (List.forall_mem_cons.mpr ⟨lm3, (List.forall_mem_cons.mpr ⟨lm4, (List.forall_mem_cons.mpr ⟨lm0, (List.forall_mem_cons.mpr ⟨lm5, e_nm⟩)⟩)⟩)⟩)⟩)⟩) ?_
        refine ew_goto (tgt := 7) dX7_sideOf_81 (by decide) ?_
        exact ew_sub (List.forall_mem_cons.mpr ⟨lm0, (List.forall_mem_cons.mpr ⟨lm1, (List.forall_mem_cons.mpr ⟨lm2, (List.forall_mem_cons.mpr ⟨lm3, (List.forall_mem_cons.mpr ⟨lm4, e_nm⟩)⟩)⟩)⟩)⟩) H
      · replace H := H.2 c18
        refine ew_aload_n dX7_sideOf_38 rfl lm0 ?_
        refine mw_gA dX7_sideOf_39 (e_fl.a q1437) mf_31 rfl ?_
        refine ew_iload dX7_sideOf_42 lm4 ?_
        obtain ⟨v21, H⟩ := H
        refine mw_iald dX7_sideOf_44 rfl v21.1 v21.2 ?_
        refine ew_iload_n dX7_sideOf_45 rfl lm2 ?_
        refine ew_icmp_ne (tgt := 64) dX7_sideOf_46 (by decide) (fun c22 => ?_) (fun c22 => ?_)
        · replace H := H.2 c22
          refine ew_iconst dX7_sideOf_64 (inI_of rfl) ?_
          refine ew_istore dX7_sideOf_65 (by decide) (lv' := [(6, aI 0), (0, aR (some mT)), (1, aI x1), (2, aI x2), (3, aL x3), (5, aI x5)]) rfl ?_
          refine ew_sub (List.forall_mem_cons.mpr ⟨lm1, (List.forall_mem_cons.mpr ⟨lm2, (List.forall_mem_cons.mpr ⟨lm3, (List.forall_mem_cons.mpr ⟨lm4, (List.forall_mem_cons.mpr ⟨lm5, (List.forall_mem_cons.mpr ⟨lm0, e_nm⟩)⟩)⟩)⟩)⟩)⟩) ?_
          refine ew_iload dX7_sideOf_67 lm5 ?_
          refine ew_if_eq (tgt := 76) dX7_sideOf_69 (by decide) (fun _ => ?_) (fun c => False.elim (by revert c; decide))
          refine ew_lload_n dX7_sideOf_76 rfl lm3 ?_
          refine ew_lstore_n dX7_sideOf_77 rfl (by decide) (lv' := [(3, aL x3), (0, aR (some mT)), (1, aI x1), (2, aI x2), (5, aI x5), (6, aI 0)]) rfl ?_
          refine ew_sub (List.forall_mem_cons.mpr ⟨lm1, (List.forall_mem_cons.mpr ⟨lm2, (List.forall_mem_cons.mpr ⟨lm3, (List.forall_mem_cons.mpr ⟨lm0, (List.forall_mem_cons.mpr ⟨lm4, (List.forall_mem_cons.mpr ⟨lm5, e_nm⟩)⟩)⟩)⟩)⟩)⟩) ?_
          obtain ⟨v24, H⟩ := H
          refine ew_iinc dX7_sideOf_78 lm4 (by decide) v24 (lv' := [(5, aI (x5 + 1)), (0, aR (some mT)), (1, aI x1), (2, aI x2), (3, aL x3), (6, aI 0)]) rfl ?_
          refine ew_sub (List.forall_mem_cons.mpr ⟨lm1, (List.forall_mem_cons.mpr ⟨lm2, (List.forall_mem_cons.mpr ⟨lm3, (List.forall_mem_cons.mpr ⟨lm4, (List.forall_mem_cons.mpr ⟨lm0, (List.forall_mem_cons.mpr ⟨lm5, e_nm⟩)⟩)⟩)⟩)⟩)⟩) ?_
          refine ew_goto (tgt := 7) dX7_sideOf_81 (by decide) ?_
          exact ew_sub (List.forall_mem_cons.mpr ⟨lm0, (List.forall_mem_cons.mpr ⟨lm1, (List.forall_mem_cons.mpr ⟨lm2, (List.forall_mem_cons.mpr ⟨lm3, (List.forall_mem_cons.mpr ⟨lm4, e_nm⟩)⟩)⟩)⟩)⟩) H
        · replace H := H.1 c22
          refine ew_aload_n dX7_sideOf_49 rfl lm0 ?_
          refine mw_gA dX7_sideOf_50 (e_fl.a q1438) mf_32 rfl ?_
          refine ew_iload dX7_sideOf_53 lm4 ?_
          obtain ⟨v25, H⟩ := H
          refine mw_iald dX7_sideOf_55 rfl v25.1 v25.2 ?_
          refine ew_iload_n dX7_sideOf_56 rfl lm1 ?_
          refine ew_icmp_ne (tgt := 64) dX7_sideOf_57 (by decide) (fun c26 => ?_) (fun c26 => ?_)
          · replace H := H.2 c26
            refine ew_iconst dX7_sideOf_64 (inI_of rfl) ?_
            refine ew_istore dX7_sideOf_65 (by decide) (lv' := [(6, aI 0), (0, aR (some mT)), (1, aI x1), (2, aI x2), (3, aL x3), (5, aI x5)]) rfl ?_
            refine ew_sub (List.forall_mem_cons.mpr ⟨lm1, (List.forall_mem_cons.mpr ⟨lm2, (List.forall_mem_cons.mpr ⟨lm3, (List.forall_mem_cons.mpr ⟨lm4, (List.forall_mem_cons.mpr ⟨lm5, (List.forall_mem_cons.mpr ⟨lm0, e_nm⟩)⟩)⟩)⟩)⟩)⟩) ?_
            refine ew_iload dX7_sideOf_67 lm5 ?_
            refine ew_if_eq (tgt := 76) dX7_sideOf_69 (by decide) (fun _ => ?_) (fun c => False.elim (by revert c; decide))
            refine ew_lload_n dX7_sideOf_76 rfl lm3 ?_
            refine ew_lstore_n dX7_sideOf_77 rfl (by decide) (lv' := [(3, aL x3), (0, aR (some mT)), (1, aI x1), (2, aI x2), (5, aI x5), (6, aI 0)]) rfl ?_
            refine ew_sub (List.forall_mem_cons.mpr ⟨lm1, (List.forall_mem_cons.mpr ⟨lm2, (List.forall_mem_cons.mpr ⟨lm3, (List.forall_mem_cons.mpr ⟨lm0, (List.forall_mem_cons.mpr ⟨lm4, (List.forall_mem_cons.mpr ⟨lm5, e_nm⟩)⟩)⟩)⟩)⟩)⟩) ?_
            obtain ⟨v28, H⟩ := H
            refine ew_iinc dX7_sideOf_78 lm4 (by decide) v28 (lv' := [(5, aI (x5 + 1)), (0, aR (some mT)), (1, aI x1), (2, aI x2), (3, aL x3), (6, aI 0)]) rfl ?_
            refine ew_sub (List.forall_mem_cons.mpr ⟨lm1, (List.forall_mem_cons.mpr ⟨lm2, (List.forall_mem_cons.mpr ⟨lm3, (List.forall_mem_cons.mpr ⟨lm4, (List.forall_mem_cons.mpr ⟨lm0, (List.forall_mem_cons.mpr ⟨lm5, e_nm⟩)⟩)⟩)⟩)⟩)⟩) ?_
            refine ew_goto (tgt := 7) dX7_sideOf_81 (by decide) ?_
            exact ew_sub (List.forall_mem_cons.mpr ⟨lm0, (List.forall_mem_cons.mpr ⟨lm1, (List.forall_mem_cons.mpr ⟨lm2, (List.forall_mem_cons.mpr ⟨lm3, (List.forall_mem_cons.mpr ⟨lm4, e_nm⟩)⟩)⟩)⟩)⟩) H
          · replace H := H.1 c26
            refine ew_iconst dX7_sideOf_60 (inI_of rfl) ?_
            refine ew_goto (tgt := 65) dX7_sideOf_61 (by decide) ?_
            refine ew_istore dX7_sideOf_65 (by decide) (lv' := [(6, aI 1), (0, aR (some mT)), (1, aI x1), (2, aI x2), (3, aL x3), (5, aI x5)]) rfl ?_
            refine ew_sub (List.forall_mem_cons.mpr ⟨lm1, (List.forall_mem_cons.mpr ⟨lm2, (List.forall_mem_cons.mpr ⟨lm3, (List.forall_mem_cons.mpr ⟨lm4, (List.forall_mem_cons.mpr ⟨lm5, (List.forall_mem_cons.mpr ⟨lm0, e_nm⟩)⟩)⟩)⟩)⟩)⟩) ?_
            refine ew_iload dX7_sideOf_67 lm5 ?_
            refine ew_if_eq (tgt := 76) dX7_sideOf_69 (by decide) (fun c => False.elim (by revert c; decide)) (fun _ => ?_)
            refine ew_lconst (v := 1) dX7_sideOf_72 (inL_of rfl) (by decide) ?_
            refine ew_goto (tgt := 77) dX7_sideOf_73 (by decide) ?_
            refine ew_lstore_n dX7_sideOf_77 rfl (by decide) (lv' := [(3, aL 1), (0, aR (some mT)), (1, aI x1), (2, aI x2), (5, aI x5), (6, aI 1)]) rfl ?_
            refine ew_sub (List.forall_mem_cons.mpr ⟨lm1, (List.forall_mem_cons.mpr ⟨lm2, (List.forall_mem_cons.mpr ⟨lm3, (List.forall_mem_cons.mpr ⟨lm0, (List.forall_mem_cons.mpr ⟨lm4, (List.forall_mem_cons.mpr ⟨lm5, e_nm⟩)⟩)⟩)⟩)⟩)⟩) ?_
            obtain ⟨v30, H⟩ := H
            refine ew_iinc dX7_sideOf_78 lm4 (by decide) v30 (lv' := [(5, aI (x5 + 1)), (0, aR (some mT)), (1, aI x1), (2, aI x2), (3, aL 1), (6, aI 1)]) rfl ?_
            refine ew_sub (List.forall_mem_cons.mpr ⟨lm1, (List.forall_mem_cons.mpr ⟨lm2, (List.forall_mem_cons.mpr ⟨lm3, (List.forall_mem_cons.mpr ⟨lm4, (List.forall_mem_cons.mpr ⟨lm0, (List.forall_mem_cons.mpr ⟨lm5, e_nm⟩)⟩)⟩)⟩)⟩)⟩) ?_
            refine ew_goto (tgt := 7) dX7_sideOf_81 (by decide) ?_
            exact ew_sub (List.forall_mem_cons.mpr ⟨lm0, (List.forall_mem_cons.mpr ⟨lm1, (List.forall_mem_cons.mpr ⟨lm2, (List.forall_mem_cons.mpr ⟨lm3, (List.forall_mem_cons.mpr ⟨lm4, e_nm⟩)⟩)⟩)⟩)⟩) H
set_option maxHeartbeats 4000000 in
theorem T_sideOf_107 (d : Nat) (g : AH) (K : Int → MS → Prop) (x1 : Int) (x2 : Int) (x3 : Int) (x5 : Int) (x7 : Int) (s0 : MS) (H : B_sideOf_107 (W_sideOf_7 d g K) (W_sideOf_107 d g K) K x1 x2 x3 x5 x7 s0) : EW mm_sideOf (d + 1) 0 0 (mQl g K) 107 [(0, aR (some mT)), (1, aI x1), (2, aI x2), (3, aL x3), (5, aL x5), (7, aI x7)] [] (mh s0 g) := by
  refine ew_iload dX7_sideOf_107 lm5 ?_
  refine ew_aload_n dX7_sideOf_109 rfl lm0 ?_
  refine ew_iload_n dX7_sideOf_110 rfl lm1 ?_
  refine ew_callV (d := d + 0) (as := [aI x1]) rfl dX7_sideOf_111 me_takesOf rfl (ci := 1) rfl rfl (mh_o _ _) (Or.inl q1692) q1694 qs79 (Nat.le_of_ble_eq_true rfl) (Nat.le_refl 0) (Nat.le_refl 0) (S_takesOf (d := d + 0) H) (fun o h' hq2 _ => ?_) (fun E i h' q _ => (mQi_no q).elim)
  obtain ⟨r4, s1, E3, rfl, H⟩ := hq2
  cases E3
  refine ew_icmp_ge (tgt := 189) dX7_sideOf_114 (by decide) (fun c5 => ?_) (fun c5 => ?_)
  · replace H := H.1 c5
    refine ew_lload dX7_sideOf_189 lm4 ?_
    refine ew_lload_n dX7_sideOf_191 rfl lm3 ?_
    refine ew_lcmp dX7_sideOf_192 ?_
    refine ew_if_ge (tgt := 201) dX7_sideOf_193 (by decide) (fun c6 => ?_) (fun c6 => ?_)
    · replace H := H.1 (jl_ge.mp c6)
      refine ew_lload_n dX7_sideOf_201 rfl lm3 ?_
      exact ew_ret (o := some (aL x3)) rfl ⟨_, _, rfl, rfl, H⟩ ⟨dX7_sideOf_202, rfl⟩
    · replace H := H.2 (fun z => c6 (jl_ge.mpr z))
      refine ew_lload dX7_sideOf_196 lm4 ?_
      refine ew_goto (tgt := 202) dX7_sideOf_198 (by decide) ?_
      exact ew_ret (o := some (aL x5)) rfl ⟨_, _, rfl, rfl, H⟩ ⟨dX7_sideOf_202, rfl⟩
  · replace H := H.2 c5
    refine ew_lload dX7_sideOf_117 lm4 ?_
    refine ew_ldc2 (n := 4000000000) dX7_sideOf_119 (inL_of rfl) q1865 ?_
    refine ew_lcmp dX7_sideOf_122 ?_
    refine ew_if_ge (tgt := 189) dX7_sideOf_123 (by decide) (fun c7 => ?_) (fun c7 => ?_)
    · replace H := H.1 (jl_ge.mp c7)
      refine ew_lload dX7_sideOf_189 lm4 ?_
      refine ew_lload_n dX7_sideOf_191 rfl lm3 ?_
      refine ew_lcmp dX7_sideOf_192 ?_
      refine ew_if_ge (tgt := 201) dX7_sideOf_193 (by decide) (fun c8 => ?_) (fun c8 => ?_)
      · replace H := H.1 (jl_ge.mp c8)
        refine ew_lload_n dX7_sideOf_201 rfl lm3 ?_
        exact ew_ret (o := some (aL x3)) rfl ⟨_, _, rfl, rfl, H⟩ ⟨dX7_sideOf_202, rfl⟩
      · replace H := H.2 (fun z => c8 (jl_ge.mpr z))
        refine ew_lload dX7_sideOf_196 lm4 ?_
        refine ew_goto (tgt := 202) dX7_sideOf_198 (by decide) ?_
        exact ew_ret (o := some (aL x5)) rfl ⟨_, _, rfl, rfl, H⟩ ⟨dX7_sideOf_202, rfl⟩
    · replace H := H.2 (fun z => c7 (jl_ge.mpr z))
      refine ew_aload_n dX7_sideOf_126 rfl lm0 ?_
      refine mw_gA dX7_sideOf_127 (e_fl.a q1455) mf_49 rfl ?_
      refine ew_aload_n dX7_sideOf_130 rfl lm0 ?_
      refine mw_gA dX7_sideOf_131 (e_fl.a q1435) mf_29 rfl ?_
      refine ew_iconst dX7_sideOf_134 (inI_of rfl) ?_
      refine ew_iload_n dX7_sideOf_135 rfl lm1 ?_
      obtain ⟨v9, H⟩ := H
      refine ew_imul dX7_sideOf_136 v9 ?_
      refine ew_iload dX7_sideOf_137 lm5 ?_
      obtain ⟨v10, H⟩ := H
      refine ew_iadd dX7_sideOf_139 v10 ?_
      obtain ⟨v11, H⟩ := H
      refine mw_iald dX7_sideOf_140 rfl v11.1 v11.2 ?_
      refine ew_aload_n dX7_sideOf_141 rfl lm0 ?_
      refine mw_gA dX7_sideOf_142 (e_fl.a q1435) mf_29 rfl ?_
      refine ew_iconst dX7_sideOf_145 (inI_of rfl) ?_
      refine ew_iload_n dX7_sideOf_146 rfl lm2 ?_
      obtain ⟨v12, H⟩ := H
      refine ew_imul dX7_sideOf_147 v12 ?_
      refine ew_iload dX7_sideOf_148 lm5 ?_
      obtain ⟨v13, H⟩ := H
      refine ew_iadd dX7_sideOf_150 v13 ?_
      obtain ⟨v14, H⟩ := H
      refine mw_iald dX7_sideOf_151 rfl v14.1 v14.2 ?_
      refine ew_callS (d := d + 0) (as := [aI (s1.2 29 ((3 * x1) + x7)), aI (s1.2 29 ((3 * x2) + x7))]) rfl dX7_sideOf_152 me_pair rfl (Or.inl q1862) q1863 (Nat.le_of_ble_eq_true rfl) (Nat.le_refl 0) (Nat.le_refl 0) (S_pair (d := d + 0) H) (fun o h' hq16 _ => ?_) (fun E i h' q _ => (mQi_no q).elim)
      obtain ⟨r18, s15, E17, rfl, H⟩ := hq16
      cases E17
      obtain ⟨v19, H⟩ := H
      refine mw_lald dX7_sideOf_155 rfl v19.1 v19.2 ?_
      refine ew_lstore dX7_sideOf_156 (by decide) (lv' := [(8, aL (s15.2 49 r18)), (0, aR (some mT)), (1, aI x1), (2, aI x2), (3, aL x3), (5, aL x5), (7, aI x7)]) rfl ?_
      refine ew_sub (List.forall_mem_cons.mpr ⟨lm1, (List.forall_mem_cons.mpr ⟨lm2, (List.forall_mem_cons.mpr ⟨lm3, (List.forall_mem_cons.mpr ⟨lm4, (List.forall_mem_cons.mpr ⟨lm5, (List.forall_mem_cons.mpr ⟨lm6, (List.forall_mem_cons.mpr ⟨lm0, e_nm⟩)⟩)⟩)⟩)⟩)⟩)⟩) ?_
      refine ew_lload dX7_sideOf_158 lm6 ?_
      refine ew_ldc2 (n := 4000000000) dX7_sideOf_160 (inL_of rfl) q1865 ?_
      refine ew_lcmp dX7_sideOf_163 ?_
      refine ew_if_lt (tgt := 173) dX7_sideOf_164 (by decide) (fun c20 => ?_) (fun c20 => ?_)
      · replace H := H.1 (jl_lt.mp c20)
        refine ew_lload dX7_sideOf_173 lm4 ?_
        refine ew_lload dX7_sideOf_175 lm6 ?_
        obtain ⟨v21, H⟩ := H
        refine ew_ladd dX7_sideOf_177 v21 ?_
        refine ew_callS (d := d + 0) (as := [aL (x5 + (s15.2 49 r18))]) rfl dX7_sideOf_178 me_held rfl (Or.inl q1874) q1875 (Nat.le_of_ble_eq_true rfl) (Nat.le_refl 0) (Nat.le_refl 0) (S_held (d := d + 0) H) (fun o h' hq23 _ => ?_) (fun E i h' q _ => (mQl_no q).elim)
        obtain ⟨r25, s22, E24, rfl, H⟩ := hq23
        cases E24
        refine ew_lstore dX7_sideOf_181 (by decide) (lv' := [(5, aL r25), (0, aR (some mT)), (1, aI x1), (2, aI x2), (3, aL x3), (7, aI x7), (8, aL (s15.2 49 r18))]) rfl ?_
        refine ew_sub (List.forall_mem_cons.mpr ⟨lm1, (List.forall_mem_cons.mpr ⟨lm2, (List.forall_mem_cons.mpr ⟨lm3, (List.forall_mem_cons.mpr ⟨lm4, (List.forall_mem_cons.mpr ⟨lm0, (List.forall_mem_cons.mpr ⟨lm5, (List.forall_mem_cons.mpr ⟨lm6, e_nm⟩)⟩)⟩)⟩)⟩)⟩)⟩) ?_
        obtain ⟨v26, H⟩ := H
        refine ew_iinc dX7_sideOf_183 lm5 (by decide) v26 (lv' := [(7, aI (x7 + 1)), (0, aR (some mT)), (1, aI x1), (2, aI x2), (3, aL x3), (5, aL r25), (8, aL (s15.2 49 r18))]) rfl ?_
        refine ew_sub (List.forall_mem_cons.mpr ⟨lm1, (List.forall_mem_cons.mpr ⟨lm2, (List.forall_mem_cons.mpr ⟨lm3, (List.forall_mem_cons.mpr ⟨lm4, (List.forall_mem_cons.mpr ⟨lm5, (List.forall_mem_cons.mpr ⟨lm0, (List.forall_mem_cons.mpr ⟨lm6, e_nm⟩)⟩)⟩)⟩)⟩)⟩)⟩) ?_
        refine ew_goto (tgt := 107) dX7_sideOf_186 (by decide) ?_
        exact ew_sub (List.forall_mem_cons.mpr ⟨lm0, (List.forall_mem_cons.mpr ⟨lm1, (List.forall_mem_cons.mpr ⟨lm2, (List.forall_mem_cons.mpr ⟨lm3, (List.forall_mem_cons.mpr ⟨lm4, (List.forall_mem_cons.mpr ⟨lm5, e_nm⟩)⟩)⟩)⟩)⟩)⟩) H
      · replace H := H.2 (fun z => c20 (jl_lt.mpr z))
        refine ew_ldc2 (n := 4000000000) dX7_sideOf_167 (inL_of rfl) q1865 ?_
        refine ew_goto (tgt := 181) dX7_sideOf_170 (by decide) ?_
        refine ew_lstore dX7_sideOf_181 (by decide) (lv' := [(5, aL 4000000000), (0, aR (some mT)), (1, aI x1), (2, aI x2), (3, aL x3), (7, aI x7), (8, aL (s15.2 49 r18))]) rfl ?_
        refine ew_sub (List.forall_mem_cons.mpr ⟨lm1, (List.forall_mem_cons.mpr ⟨lm2, (List.forall_mem_cons.mpr ⟨lm3, (List.forall_mem_cons.mpr ⟨lm4, (List.forall_mem_cons.mpr ⟨lm0, (List.forall_mem_cons.mpr ⟨lm5, (List.forall_mem_cons.mpr ⟨lm6, e_nm⟩)⟩)⟩)⟩)⟩)⟩)⟩) ?_
        obtain ⟨v27, H⟩ := H
        refine ew_iinc dX7_sideOf_183 lm5 (by decide) v27 (lv' := [(7, aI (x7 + 1)), (0, aR (some mT)), (1, aI x1), (2, aI x2), (3, aL x3), (5, aL 4000000000), (8, aL (s15.2 49 r18))]) rfl ?_
        refine ew_sub (List.forall_mem_cons.mpr ⟨lm1, (List.forall_mem_cons.mpr ⟨lm2, (List.forall_mem_cons.mpr ⟨lm3, (List.forall_mem_cons.mpr ⟨lm4, (List.forall_mem_cons.mpr ⟨lm5, (List.forall_mem_cons.mpr ⟨lm0, (List.forall_mem_cons.mpr ⟨lm6, e_nm⟩)⟩)⟩)⟩)⟩)⟩)⟩) ?_
        refine ew_goto (tgt := 107) dX7_sideOf_186 (by decide) ?_
        exact ew_sub (List.forall_mem_cons.mpr ⟨lm0, (List.forall_mem_cons.mpr ⟨lm1, (List.forall_mem_cons.mpr ⟨lm2, (List.forall_mem_cons.mpr ⟨lm3, (List.forall_mem_cons.mpr ⟨lm4, (List.forall_mem_cons.mpr ⟨lm5, e_nm⟩)⟩)⟩)⟩)⟩)⟩) H
set_option maxHeartbeats 4000000 in
theorem T_sideOf_E (d : Nat) (g : AH) (K : Int → MS → Prop) (a : Int) (b : Int) (s0 : MS) (H : B_sideOf_E (W_sideOf_7 d g K) (W_sideOf_107 d g K) K a b s0) : EW mm_sideOf (d + 1) 0 0 (mQl g K) 0 [(0, aR (some mT)), (1, aI a), (2, aI b)] [] (mh s0 g) := by
  refine ew_ldc2 (n := 4000000000) dX7_sideOf_0 (inL_of rfl) q1865 ?_
  refine ew_lstore_n dX7_sideOf_3 rfl (by decide) (lv' := [(3, aL 4000000000), (0, aR (some mT)), (1, aI a), (2, aI b)]) rfl ?_
  refine ew_sub (List.forall_mem_cons.mpr ⟨lm1, (List.forall_mem_cons.mpr ⟨lm2, (List.forall_mem_cons.mpr ⟨lm3, (List.forall_mem_cons.mpr ⟨lm0, e_nm⟩)⟩)⟩)⟩) ?_
  refine ew_iconst dX7_sideOf_4 (inI_of rfl) ?_
  refine ew_istore dX7_sideOf_5 (by decide) (lv' := [(5, aI 0), (0, aR (some mT)), (1, aI a), (2, aI b), (3, aL 4000000000)]) rfl ?_
  refine ew_sub (List.forall_mem_cons.mpr ⟨lm1, (List.forall_mem_cons.mpr ⟨lm2, (List.forall_mem_cons.mpr ⟨lm3, (List.forall_mem_cons.mpr ⟨lm4, (List.forall_mem_cons.mpr ⟨lm0, e_nm⟩)⟩)⟩)⟩)⟩) ?_
  exact ew_sub (List.forall_mem_cons.mpr ⟨lm0, (List.forall_mem_cons.mpr ⟨lm1, (List.forall_mem_cons.mpr ⟨lm2, (List.forall_mem_cons.mpr ⟨lm3, (List.forall_mem_cons.mpr ⟨lm4, e_nm⟩)⟩)⟩)⟩)⟩) H
def C_sideOf (a : Int) (b : Int) (s0 : MS) (K : Int → MS → Prop) : Prop := ∀ (X7 : Int → Int → Int → Int → MS → Prop) (X107 : Int → Int → Int → Int → Int → MS → Prop), (∀ (x1 : Int) (x2 : Int) (x3 : Int) (x5 : Int) (s0 : MS), B_sideOf_7 X7 X107 K x1 x2 x3 x5 s0 → X7 x1 x2 x3 x5 s0) → (∀ (x1 : Int) (x2 : Int) (x3 : Int) (x5 : Int) (x7 : Int) (s0 : MS), B_sideOf_107 X7 X107 K x1 x2 x3 x5 x7 s0 → X107 x1 x2 x3 x5 x7 s0) → B_sideOf_E X7 X107 K a b s0
theorem S_sideOf {d : Nat} {g : AH} {K : Int → MS → Prop} {a : Int} {b : Int} {s0 : MS} (H : C_sideOf a b s0 K) : Sp mm_sideOf (d + 1) 0 0 [aR (some mT), aI a, aI b] (mh s0 g) (mQl g K) :=
  ew_sp rfl (Nat.le_of_ble_eq_true rfl) (T_sideOf_E d g K a b s0 (H _ _ (fun x1 x2 x3 x5 s0 H => T_sideOf_7 d g K x1 x2 x3 x5 s0 H) (fun x1 x2 x3 x5 x7 s0 H => T_sideOf_107 d g K x1 x2 x3 x5 x7 s0 H)))
abbrev mm_lessens : EM := (yX7_lessens, cX7_lessens, 11, some .boolean, [])
theorem me_lessens : e_mth mm_lessens 0 := ⟨rfl, q1869, q117, by decide +kernel, by decide⟩
def B_lessens_4 (X4 : Int → Int → MS → Prop) (X14 : Int → Int → Int → MS → Prop) (X107 : Int → Int → MS → Prop) (X117 : Int → Int → Int → MS → Prop) (X128 : Int → Int → Int → Int → MS → Prop) (K : Int → MS → Prop) (x1 : Int) (x2 : Int) (s0 : MS) : Prop :=
  (((s0.1 27) ≤ x2 → X107 x1 0 s0) ∧ (¬ (s0.1 27) ≤ x2 → X14 x1 x2 0 s0))
def B_lessens_14 (X4 : Int → Int → MS → Prop) (X14 : Int → Int → Int → MS → Prop) (X107 : Int → Int → MS → Prop) (X117 : Int → Int → Int → MS → Prop) (X128 : Int → Int → Int → Int → MS → Prop) (K : Int → MS → Prop) (x1 : Int) (x2 : Int) (x3 : Int) (s0 : MS) : Prop :=
  (((s0.1 27) ≤ x3 → (inI (x2 + 1) ∧ X4 x1 (x2 + 1) s0)) ∧ (¬ (s0.1 27) ≤ x3 → (C_pair x2 x3 s0 (fun r6 s3 => ((x2 = x3 → ((0 ≤ r6 ∧ r6 < 576) ∧ ∀ s40 : MS, s40 = ma s3 50 r6 0 → (C_pair x2 x3 s40 (fun r46 s43 => ((0 ≤ r46 ∧ r46 < 576) ∧ (C_pair x2 x3 s43 (fun r51 s48 => ((0 ≤ r51 ∧ r51 < 576) ∧ (((s48.2 49 r51) ≤ (s43.2 50 r46) → (inI (x3 + 1) ∧ X14 x1 x2 (x3 + 1) s48)) ∧ (¬ (s48.2 49 r51) ≤ (s43.2 50 r46) → (C_pair x2 x3 s48 (fun r58 s55 => (C_pair x2 x3 s55 (fun r62 s59 => ((0 ≤ r62 ∧ r62 < 576) ∧ ((0 ≤ r58 ∧ r58 < 576) ∧ ∀ s64 : MS, s64 = ma s59 49 r58 (s59.2 50 r62) → (inI (x3 + 1) ∧ X14 1 x2 (x3 + 1) s64))))))))))))))))) ∧ (¬ x2 = x3 → (C_sideOf x2 x3 s3 (fun r11 s8 => ((0 ≤ r6 ∧ r6 < 576) ∧ ∀ s12 : MS, s12 = ma s8 50 r6 r11 → (C_pair x2 x3 s12 (fun r18 s15 => ((0 ≤ r18 ∧ r18 < 576) ∧ (C_pair x2 x3 s15 (fun r23 s20 => ((0 ≤ r23 ∧ r23 < 576) ∧ (((s20.2 49 r23) ≤ (s15.2 50 r18) → (inI (x3 + 1) ∧ X14 x1 x2 (x3 + 1) s20)) ∧ (¬ (s20.2 49 r23) ≤ (s15.2 50 r18) → (C_pair x2 x3 s20 (fun r30 s27 => (C_pair x2 x3 s27 (fun r34 s31 => ((0 ≤ r34 ∧ r34 < 576) ∧ ((0 ≤ r30 ∧ r30 < 576) ∧ ∀ s36 : MS, s36 = ma s31 49 r30 (s31.2 50 r34) → (inI (x3 + 1) ∧ X14 1 x2 (x3 + 1) s36))))))))))))))))))))))))
def B_lessens_107 (X4 : Int → Int → MS → Prop) (X14 : Int → Int → Int → MS → Prop) (X107 : Int → Int → MS → Prop) (X117 : Int → Int → Int → MS → Prop) (X128 : Int → Int → Int → Int → MS → Prop) (K : Int → MS → Prop) (x1 : Int) (x2 : Int) (s0 : MS) : Prop :=
  (((s0.1 27) ≤ x2 → ((x1 = 0 ∨ x1 = 1) ∧ K x1 s0)) ∧ (¬ (s0.1 27) ≤ x2 → X117 x1 x2 0 s0))
def B_lessens_117 (X4 : Int → Int → MS → Prop) (X14 : Int → Int → Int → MS → Prop) (X107 : Int → Int → MS → Prop) (X117 : Int → Int → Int → MS → Prop) (X128 : Int → Int → Int → Int → MS → Prop) (K : Int → MS → Prop) (x1 : Int) (x2 : Int) (x3 : Int) (s0 : MS) : Prop :=
  (((s0.1 27) ≤ x3 → (inI (x2 + 1) ∧ X107 x1 (x2 + 1) s0)) ∧ (¬ (s0.1 27) ≤ x3 → X128 x1 x2 x3 0 s0))
def B_lessens_128 (X4 : Int → Int → MS → Prop) (X14 : Int → Int → Int → MS → Prop) (X107 : Int → Int → MS → Prop) (X117 : Int → Int → Int → MS → Prop) (X128 : Int → Int → Int → Int → MS → Prop) (K : Int → MS → Prop) (x1 : Int) (x2 : Int) (x3 : Int) (x4 : Int) (s0 : MS) : Prop :=
  (((s0.1 27) ≤ x4 → (inI (x3 + 1) ∧ X117 x1 x2 (x3 + 1) s0)) ∧ (¬ (s0.1 27) ≤ x4 → (C_pair x3 x2 s0 (fun r6 s3 => ((0 ≤ r6 ∧ r6 < 576) ∧ (C_pair x2 x4 s3 (fun r11 s8 => ((0 ≤ r11 ∧ r11 < 576) ∧ ((4000000000 ≤ (s3.2 49 r6) → (C_pair x3 x4 s8 (fun r17 s14 => ((0 ≤ r17 ∧ r17 < 576) ∧ (((s14.2 49 r17) ≤ 4000000000 → (inI (x4 + 1) ∧ X128 x1 x2 x3 (x4 + 1) s14)) ∧ (¬ (s14.2 49 r17) ≤ 4000000000 → (C_pair x3 x4 s14 (fun r24 s21 => ((0 ≤ r24 ∧ r24 < 576) ∧ ∀ s25 : MS, s25 = ma s21 49 r24 4000000000 → (inI (x4 + 1) ∧ X128 1 x2 x3 (x4 + 1) s25)))))))))) ∧ (¬ 4000000000 ≤ (s3.2 49 r6) → (((s8.2 49 r11) < 4000000000 → ((inL ((s3.2 49 r6) + (s8.2 49 r11))) ∧ (C_held ((s3.2 49 r6) + (s8.2 49 r11)) s8 (fun r34 s31 => (C_pair x3 x4 s31 (fun r38 s35 => ((0 ≤ r38 ∧ r38 < 576) ∧ (((s35.2 49 r38) ≤ r34 → (inI (x4 + 1) ∧ X128 x1 x2 x3 (x4 + 1) s35)) ∧ (¬ (s35.2 49 r38) ≤ r34 → (C_pair x3 x4 s35 (fun r45 s42 => ((0 ≤ r45 ∧ r45 < 576) ∧ ∀ s46 : MS, s46 = ma s42 49 r45 r34 → (inI (x4 + 1) ∧ X128 1 x2 x3 (x4 + 1) s46))))))))))))) ∧ (¬ (s8.2 49 r11) < 4000000000 → (C_pair x3 x4 s8 (fun r53 s50 => ((0 ≤ r53 ∧ r53 < 576) ∧ (((s50.2 49 r53) ≤ 4000000000 → (inI (x4 + 1) ∧ X128 x1 x2 x3 (x4 + 1) s50)) ∧ (¬ (s50.2 49 r53) ≤ 4000000000 → (C_pair x3 x4 s50 (fun r60 s57 => ((0 ≤ r60 ∧ r60 < 576) ∧ ∀ s61 : MS, s61 = ma s57 49 r60 4000000000 → (inI (x4 + 1) ∧ X128 1 x2 x3 (x4 + 1) s61)))))))))))))))))))))
def B_lessens_E (X4 : Int → Int → MS → Prop) (X14 : Int → Int → Int → MS → Prop) (X107 : Int → Int → MS → Prop) (X117 : Int → Int → Int → MS → Prop) (X128 : Int → Int → Int → Int → MS → Prop) (K : Int → MS → Prop)  (s0 : MS) : Prop :=
  X4 0 0 s0
def W_lessens_4 (d : Nat) (g : AH) (K : Int → MS → Prop) (x1 : Int) (x2 : Int) (s0 : MS) : Prop := EW mm_lessens (d + 2) 0 0 (mQi g K) 4 [(0, aR (some mT)), (1, aI x1), (2, aI x2)] [] (mh s0 g)
def W_lessens_14 (d : Nat) (g : AH) (K : Int → MS → Prop) (x1 : Int) (x2 : Int) (x3 : Int) (s0 : MS) : Prop := EW mm_lessens (d + 2) 0 0 (mQi g K) 14 [(0, aR (some mT)), (1, aI x1), (2, aI x2), (3, aI x3)] [] (mh s0 g)
def W_lessens_107 (d : Nat) (g : AH) (K : Int → MS → Prop) (x1 : Int) (x2 : Int) (s0 : MS) : Prop := EW mm_lessens (d + 2) 0 0 (mQi g K) 107 [(0, aR (some mT)), (1, aI x1), (2, aI x2)] [] (mh s0 g)
def W_lessens_117 (d : Nat) (g : AH) (K : Int → MS → Prop) (x1 : Int) (x2 : Int) (x3 : Int) (s0 : MS) : Prop := EW mm_lessens (d + 2) 0 0 (mQi g K) 117 [(0, aR (some mT)), (1, aI x1), (2, aI x2), (3, aI x3)] [] (mh s0 g)
def W_lessens_128 (d : Nat) (g : AH) (K : Int → MS → Prop) (x1 : Int) (x2 : Int) (x3 : Int) (x4 : Int) (s0 : MS) : Prop := EW mm_lessens (d + 2) 0 0 (mQi g K) 128 [(0, aR (some mT)), (1, aI x1), (2, aI x2), (3, aI x3), (4, aI x4)] [] (mh s0 g)
set_option maxHeartbeats 4000000 in
theorem T_lessens_4 (d : Nat) (g : AH) (K : Int → MS → Prop) (x1 : Int) (x2 : Int) (s0 : MS) (H : B_lessens_4 (W_lessens_4 d g K) (W_lessens_14 d g K) (W_lessens_107 d g K) (W_lessens_117 d g K) (W_lessens_128 d g K) K x1 x2 s0) : EW mm_lessens (d + 2) 0 0 (mQi g K) 4 [(0, aR (some mT)), (1, aI x1), (2, aI x2)] [] (mh s0 g) := by
  refine ew_iload_n dX7_lessens_4 rfl lm2 ?_
  refine ew_aload_n dX7_lessens_5 rfl lm0 ?_
  refine mw_gI dX7_lessens_6 (e_fl.a q1433) mf_27 rfl ?_
  refine ew_icmp_ge (tgt := 105) dX7_lessens_9 (by decide) (fun c1 => ?_) (fun c1 => ?_)
  · replace H := H.1 c1
    refine ew_iconst dX7_lessens_105 (inI_of rfl) ?_
    refine ew_istore_n dX7_lessens_106 rfl (by decide) (lv' := [(2, aI 0), (0, aR (some mT)), (1, aI x1)]) rfl ?_
    refine ew_sub (List.forall_mem_cons.mpr ⟨lm1, (List.forall_mem_cons.mpr ⟨lm2, (List.forall_mem_cons.mpr ⟨lm0, e_nm⟩)⟩)⟩) ?_
    exact ew_sub (List.forall_mem_cons.mpr ⟨lm0, (List.forall_mem_cons.mpr ⟨lm1, (List.forall_mem_cons.mpr ⟨lm2, e_nm⟩)⟩)⟩) H
  · replace H := H.2 c1
    refine ew_iconst dX7_lessens_12 (inI_of rfl) ?_
    refine ew_istore_n dX7_lessens_13 rfl (by decide) (lv' := [(3, aI 0), (0, aR (some mT)), (1, aI x1), (2, aI x2)]) rfl ?_
    refine ew_sub (List.forall_mem_cons.mpr ⟨lm1, (List.forall_mem_cons.mpr ⟨lm2, (List.forall_mem_cons.mpr ⟨lm3, (List.forall_mem_cons.mpr ⟨lm0, e_nm⟩)⟩)⟩)⟩) ?_
    exact ew_sub (List.forall_mem_cons.mpr ⟨lm0, (List.forall_mem_cons.mpr ⟨lm1, (List.forall_mem_cons.mpr ⟨lm2, (List.forall_mem_cons.mpr ⟨lm3, e_nm⟩)⟩)⟩)⟩) H
set_option maxHeartbeats 4000000 in
theorem T_lessens_14 (d : Nat) (g : AH) (K : Int → MS → Prop) (x1 : Int) (x2 : Int) (x3 : Int) (s0 : MS) (H : B_lessens_14 (W_lessens_4 d g K) (W_lessens_14 d g K) (W_lessens_107 d g K) (W_lessens_117 d g K) (W_lessens_128 d g K) K x1 x2 x3 s0) : EW mm_lessens (d + 2) 0 0 (mQi g K) 14 [(0, aR (some mT)), (1, aI x1), (2, aI x2), (3, aI x3)] [] (mh s0 g) := by
  refine ew_iload_n dX7_lessens_14 rfl lm3 ?_
  refine ew_aload_n dX7_lessens_15 rfl lm0 ?_
  refine mw_gI dX7_lessens_16 (e_fl.a q1433) mf_27 rfl ?_
  refine ew_icmp_ge (tgt := 99) dX7_lessens_19 (by decide) (fun c1 => ?_) (fun c1 => ?_)
  · replace H := H.1 c1
    obtain ⟨v2, H⟩ := H
    refine ew_iinc dX7_lessens_99 lm2 (by decide) v2 (lv' := [(2, aI (x2 + 1)), (0, aR (some mT)), (1, aI x1), (3, aI x3)]) rfl ?_
    refine ew_sub (List.forall_mem_cons.mpr ⟨lm1, (List.forall_mem_cons.mpr ⟨lm2, (List.forall_mem_cons.mpr ⟨lm0, (List.forall_mem_cons.mpr ⟨lm3, e_nm⟩)⟩)⟩)⟩) ?_
    refine ew_goto (tgt := 4) dX7_lessens_102 (by decide) ?_
    exact ew_sub (List.forall_mem_cons.mpr ⟨lm0, (List.forall_mem_cons.mpr ⟨lm1, (List.forall_mem_cons.mpr ⟨lm2, e_nm⟩)⟩)⟩) H
  · replace H := H.2 c1
    refine ew_aload_n dX7_lessens_22 rfl lm0 ?_
    refine mw_gA dX7_lessens_23 (e_fl.a q1456) mf_50 rfl ?_
    refine ew_iload_n dX7_lessens_26 rfl lm2 ?_
    refine ew_iload_n dX7_lessens_27 rfl lm3 ?_
    refine ew_callS (d := d + 1) (as := [aI x2, aI x3]) rfl dX7_lessens_28 me_pair rfl (Or.inl q1862) q1863 (Nat.le_of_ble_eq_true rfl) (Nat.le_refl 0) (Nat.le_refl 0) (S_pair (d := d + 1) H) (fun o h' hq4 _ => ?_) (fun E i h' q _ => (mQi_no q).elim)
    obtain ⟨r6, s3, E5, rfl, H⟩ := hq4
    cases E5
    refine ew_iload_n dX7_lessens_31 rfl lm2 ?_
    refine ew_iload_n dX7_lessens_32 rfl lm3 ?_
    refine ew_icmp_ne (tgt := 40) dX7_lessens_33 (by decide) (fun c7 => ?_) (fun c7 => ?_)
    · replace H := H.2 c7
      refine ew_aload_n dX7_lessens_40 rfl lm0 ?_
      refine ew_iload_n dX7_lessens_41 rfl lm2 ?_
      refine ew_iload_n dX7_lessens_42 rfl lm3 ?_
      refine ew_callV (d := d + 1) (as := [aI x2, aI x3]) rfl dX7_lessens_43 me_sideOf rfl (ci := 1) rfl rfl (mh_o _ _) (Or.inl q1870) q1872 qs98 (Nat.le_of_ble_eq_true rfl) (Nat.le_refl 0) (Nat.le_refl 0) (S_sideOf (d := d + 0) H) (fun o h' hq9 _ => ?_) (fun E i h' q _ => (mQl_no q).elim)
      obtain ⟨r11, s8, E10, rfl, H⟩ := hq9
      cases E10
      obtain ⟨v14, H⟩ := H
      refine mw_last dX7_lessens_46 rfl v14.1 v14.2 (fun s12 e13 => ?_)
      replace H := H s12 e13
      refine ew_aload_n dX7_lessens_47 rfl lm0 ?_
      refine mw_gA dX7_lessens_48 (e_fl.a q1456) mf_50 rfl ?_
      refine ew_iload_n dX7_lessens_51 rfl lm2 ?_
      refine ew_iload_n dX7_lessens_52 rfl lm3 ?_
      refine ew_callS (d := d + 1) (as := [aI x2, aI x3]) rfl dX7_lessens_53 me_pair rfl (Or.inl q1862) q1863 (Nat.le_of_ble_eq_true rfl) (Nat.le_refl 0) (Nat.le_refl 0) (S_pair (d := d + 1) H) (fun o h' hq16 _ => ?_) (fun E i h' q _ => (mQi_no q).elim)
      obtain ⟨r18, s15, E17, rfl, H⟩ := hq16
      cases E17
      obtain ⟨v19, H⟩ := H
      refine mw_lald dX7_lessens_56 rfl v19.1 v19.2 ?_
      refine ew_aload_n dX7_lessens_57 rfl lm0 ?_
      refine mw_gA dX7_lessens_58 (e_fl.a q1455) mf_49 rfl ?_
      refine ew_iload_n dX7_lessens_61 rfl lm2 ?_
      refine ew_iload_n dX7_lessens_62 rfl lm3 ?_
      refine ew_callS (d := d + 1) (as := [aI x2, aI x3]) rfl dX7_lessens_63 me_pair rfl (Or.inl q1862) q1863 (Nat.le_of_ble_eq_true rfl) (Nat.le_refl 0) (Nat.le_refl 0) (S_pair (d := d + 1) H) (fun o h' hq21 _ => ?_) (fun E i h' q _ => (mQi_no q).elim)
      obtain ⟨r23, s20, E22, rfl, H⟩ := hq21
      cases E22
      obtain ⟨v24, H⟩ := H
      refine mw_lald dX7_lessens_66 rfl v24.1 v24.2 ?_
      refine ew_lcmp dX7_lessens_67 ?_
      refine ew_if_ge (tgt := 93) dX7_lessens_68 (by decide) (fun c25 => ?_) (fun c25 => ?_)
      · replace H := H.1 (jl_ge.mp c25)
        obtain ⟨v26, H⟩ := H
        refine ew_iinc dX7_lessens_93 lm3 (by decide) v26 (lv' := [(3, aI (x3 + 1)), (0, aR (some mT)), (1, aI x1), (2, aI x2)]) rfl ?_
        refine ew_sub (List.forall_mem_cons.mpr ⟨lm1, (List.forall_mem_cons.mpr ⟨lm2, (List.forall_mem_cons.mpr ⟨lm3, (List.forall_mem_cons.mpr ⟨lm0, e_nm⟩)⟩)⟩)⟩) ?_
        refine ew_goto (tgt := 14) dX7_lessens_96 (by decide) ?_
        exact ew_sub (List.forall_mem_cons.mpr ⟨lm0, (List.forall_mem_cons.mpr ⟨lm1, (List.forall_mem_cons.mpr ⟨lm2, (List.forall_mem_cons.mpr ⟨lm3, e_nm⟩)⟩)⟩)⟩) H
      · replace H := H.2 (fun z => c25 (jl_ge.mpr z))
        refine ew_aload_n dX7_lessens_71 rfl lm0 ?_
        refine mw_gA dX7_lessens_72 (e_fl.a q1455) mf_49 rfl ?_
        refine ew_iload_n dX7_lessens_75 rfl lm2 ?_
        refine ew_iload_n dX7_lessens_76 rfl lm3 ?_
        refine ew_callS (d := d + 1) (as := [aI x2, aI x3]) rfl dX7_lessens_77 me_pair rfl (Or.inl q1862) q1863 (Nat.le_of_ble_eq_true rfl) (Nat.le_refl 0) (Nat.le_refl 0) (S_pair (d := d + 1) H) (fun o h' hq28 _ => ?_) (fun E i h' q _ => (mQi_no q).elim)
        obtain ⟨r30, s27, E29, rfl, H⟩ := hq28
        cases E29
        refine ew_aload_n dX7_lessens_80 rfl lm0 ?_
        refine mw_gA dX7_lessens_81 (e_fl.a q1456) mf_50 rfl ?_
        refine ew_iload_n dX7_lessens_84 rfl lm2 ?_
        refine ew_iload_n dX7_lessens_85 rfl lm3 ?_
        refine ew_callS (d := d + 1) (as := [aI x2, aI x3]) rfl dX7_lessens_86 me_pair rfl (Or.inl q1862) q1863 (Nat.le_of_ble_eq_true rfl) (Nat.le_refl 0) (Nat.le_refl 0) (S_pair (d := d + 1) H) (fun o h' hq32 _ => ?_) (fun E i h' q _ => (mQi_no q).elim)
        obtain ⟨r34, s31, E33, rfl, H⟩ := hq32
        cases E33
        obtain ⟨v35, H⟩ := H
        refine mw_lald dX7_lessens_89 rfl v35.1 v35.2 ?_
        obtain ⟨v38, H⟩ := H
        refine mw_last dX7_lessens_90 rfl v38.1 v38.2 (fun s36 e37 => ?_)
        replace H := H s36 e37
        refine ew_iconst dX7_lessens_91 (inI_of rfl) ?_
        refine ew_istore_n dX7_lessens_92 rfl (by decide) (lv' := [(1, aI 1), (0, aR (some mT)), (2, aI x2), (3, aI x3)]) rfl ?_
        refine ew_sub (List.forall_mem_cons.mpr ⟨lm1, (List.forall_mem_cons.mpr ⟨lm0, (List.forall_mem_cons.mpr ⟨lm2, (List.forall_mem_cons.mpr ⟨lm3, e_nm⟩)⟩)⟩)⟩) ?_
        obtain ⟨v39, H⟩ := H
        refine ew_iinc dX7_lessens_93 lm3 (by decide) v39 (lv' := [(3, aI (x3 + 1)), (0, aR (some mT)), (1, aI 1), (2, aI x2)]) rfl ?_
        refine ew_sub (List.forall_mem_cons.mpr ⟨lm1, (List.forall_mem_cons.mpr ⟨lm2, (List.forall_mem_cons.mpr ⟨lm3, (List.forall_mem_cons.mpr ⟨lm0, e_nm⟩)⟩)⟩)⟩) ?_
        refine ew_goto (tgt := 14) dX7_lessens_96 (by decide) ?_
        exact ew_sub (List.forall_mem_cons.mpr ⟨lm0, (List.forall_mem_cons.mpr ⟨lm1, (List.forall_mem_cons.mpr ⟨lm2, (List.forall_mem_cons.mpr ⟨lm3, e_nm⟩)⟩)⟩)⟩) H
    · replace H := H.1 c7
      refine ew_lconst (v := 0) dX7_lessens_36 (inL_of rfl) (by decide) ?_
      refine ew_goto (tgt := 46) dX7_lessens_37 (by decide) ?_
      obtain ⟨v42, H⟩ := H
      refine mw_last dX7_lessens_46 rfl v42.1 v42.2 (fun s40 e41 => ?_)
      replace H := H s40 e41
      refine ew_aload_n dX7_lessens_47 rfl lm0 ?_
      refine mw_gA dX7_lessens_48 (e_fl.a q1456) mf_50 rfl ?_
      refine ew_iload_n dX7_lessens_51 rfl lm2 ?_
      refine ew_iload_n dX7_lessens_52 rfl lm3 ?_
      refine ew_callS (d := d + 1) (as := [aI x2, aI x3]) rfl dX7_lessens_53 me_pair rfl (Or.inl q1862) q1863 (Nat.le_of_ble_eq_true rfl) (Nat.le_refl 0) (Nat.le_refl 0) (S_pair (d := d + 1) H) (fun o h' hq44 _ => ?_) (fun E i h' q _ => (mQi_no q).elim)
      obtain ⟨r46, s43, E45, rfl, H⟩ := hq44
      cases E45
      obtain ⟨v47, H⟩ := H
      refine mw_lald dX7_lessens_56 rfl v47.1 v47.2 ?_
      refine ew_aload_n dX7_lessens_57 rfl lm0 ?_
      refine mw_gA dX7_lessens_58 (e_fl.a q1455) mf_49 rfl ?_
      refine ew_iload_n dX7_lessens_61 rfl lm2 ?_
      refine ew_iload_n dX7_lessens_62 rfl lm3 ?_
      refine ew_callS (d := d + 1) (as := [aI x2, aI x3]) rfl dX7_lessens_63 me_pair rfl (Or.inl q1862) q1863 (Nat.le_of_ble_eq_true rfl) (Nat.le_refl 0) (Nat.le_refl 0) (S_pair (d := d + 1) H) (fun o h' hq49 _ => ?_) (fun E i h' q _ => (mQi_no q).elim)
      obtain ⟨r51, s48, E50, rfl, H⟩ := hq49
      cases E50
      obtain ⟨v52, H⟩ := H
      refine mw_lald dX7_lessens_66 rfl v52.1 v52.2 ?_
      refine ew_lcmp dX7_lessens_67 ?_
      refine ew_if_ge (tgt := 93) dX7_lessens_68 (by decide) (fun c53 => ?_) (fun c53 => ?_)
      · replace H := H.1 (jl_ge.mp c53)
        obtain ⟨v54, H⟩ := H
        refine ew_iinc dX7_lessens_93 lm3 (by decide) v54 (lv' := [(3, aI (x3 + 1)), (0, aR (some mT)), (1, aI x1), (2, aI x2)]) rfl ?_
        refine ew_sub (List.forall_mem_cons.mpr ⟨lm1, (List.forall_mem_cons.mpr ⟨lm2, (List.forall_mem_cons.mpr ⟨lm3, (List.forall_mem_cons.mpr ⟨lm0, e_nm⟩)⟩)⟩)⟩) ?_
        refine ew_goto (tgt := 14) dX7_lessens_96 (by decide) ?_
        exact ew_sub (List.forall_mem_cons.mpr ⟨lm0, (List.forall_mem_cons.mpr ⟨lm1, (List.forall_mem_cons.mpr ⟨lm2, (List.forall_mem_cons.mpr ⟨lm3, e_nm⟩)⟩)⟩)⟩) H
      · replace H := H.2 (fun z => c53 (jl_ge.mpr z))
        refine ew_aload_n dX7_lessens_71 rfl lm0 ?_
        refine mw_gA dX7_lessens_72 (e_fl.a q1455) mf_49 rfl ?_
        refine ew_iload_n dX7_lessens_75 rfl lm2 ?_
        refine ew_iload_n dX7_lessens_76 rfl lm3 ?_
        refine ew_callS (d := d + 1) (as := [aI x2, aI x3]) rfl dX7_lessens_77 me_pair rfl (Or.inl q1862) q1863 (Nat.le_of_ble_eq_true rfl) (Nat.le_refl 0) (Nat.le_refl 0) (S_pair (d := d + 1) H) (fun o h' hq56 _ => ?_) (fun E i h' q _ => (mQi_no q).elim)
        obtain ⟨r58, s55, E57, rfl, H⟩ := hq56
        cases E57
        refine ew_aload_n dX7_lessens_80 rfl lm0 ?_
        refine mw_gA dX7_lessens_81 (e_fl.a q1456) mf_50 rfl ?_
        refine ew_iload_n dX7_lessens_84 rfl lm2 ?_
        refine ew_iload_n dX7_lessens_85 rfl lm3 ?_
        refine ew_callS (d := d + 1) (as := [aI x2, aI x3]) rfl dX7_lessens_86 me_pair rfl (Or.inl q1862) q1863 (Nat.le_of_ble_eq_true rfl) (Nat.le_refl 0) (Nat.le_refl 0) (S_pair (d := d + 1) H) (fun o h' hq60 _ => ?_) (fun E i h' q _ => (mQi_no q).elim)
        obtain ⟨r62, s59, E61, rfl, H⟩ := hq60
        cases E61
        obtain ⟨v63, H⟩ := H
        refine mw_lald dX7_lessens_89 rfl v63.1 v63.2 ?_
        obtain ⟨v66, H⟩ := H
        refine mw_last dX7_lessens_90 rfl v66.1 v66.2 (fun s64 e65 => ?_)
        replace H := H s64 e65
        refine ew_iconst dX7_lessens_91 (inI_of rfl) ?_
        refine ew_istore_n dX7_lessens_92 rfl (by decide) (lv' := [(1, aI 1), (0, aR (some mT)), (2, aI x2), (3, aI x3)]) rfl ?_
        refine ew_sub (List.forall_mem_cons.mpr ⟨lm1, (List.forall_mem_cons.mpr ⟨lm0, (List.forall_mem_cons.mpr ⟨lm2, (List.forall_mem_cons.mpr ⟨lm3, e_nm⟩)⟩)⟩)⟩) ?_
        obtain ⟨v67, H⟩ := H
        refine ew_iinc dX7_lessens_93 lm3 (by decide) v67 (lv' := [(3, aI (x3 + 1)), (0, aR (some mT)), (1, aI 1), (2, aI x2)]) rfl ?_
        refine ew_sub (List.forall_mem_cons.mpr ⟨lm1, (List.forall_mem_cons.mpr ⟨lm2, (List.forall_mem_cons.mpr ⟨lm3, (List.forall_mem_cons.mpr ⟨lm0, e_nm⟩)⟩)⟩)⟩) ?_
        refine ew_goto (tgt := 14) dX7_lessens_96 (by decide) ?_
        exact ew_sub (List.forall_mem_cons.mpr ⟨lm0, (List.forall_mem_cons.mpr ⟨lm1, (List.forall_mem_cons.mpr ⟨lm2, (List.forall_mem_cons.mpr ⟨lm3, e_nm⟩)⟩)⟩)⟩) H
set_option maxHeartbeats 4000000 in
theorem T_lessens_107 (d : Nat) (g : AH) (K : Int → MS → Prop) (x1 : Int) (x2 : Int) (s0 : MS) (H : B_lessens_107 (W_lessens_4 d g K) (W_lessens_14 d g K) (W_lessens_107 d g K) (W_lessens_117 d g K) (W_lessens_128 d g K) K x1 x2 s0) : EW mm_lessens (d + 2) 0 0 (mQi g K) 107 [(0, aR (some mT)), (1, aI x1), (2, aI x2)] [] (mh s0 g) := by
  refine ew_iload_n dX7_lessens_107 rfl lm2 ?_
  refine ew_aload_n dX7_lessens_108 rfl lm0 ?_
  refine mw_gI dX7_lessens_109 (e_fl.a q1433) mf_27 rfl ?_
  refine ew_icmp_ge (tgt := 246) dX7_lessens_112 (by decide) (fun c1 => ?_) (fun c1 => ?_)
  · replace H := H.1 c1
    refine ew_iload_n dX7_lessens_246 rfl lm1 ?_
    obtain ⟨v2, H⟩ := H
    exact ew_ret (o := some (aI x1)) rfl ⟨_, _, rfl, rfl, H⟩ ⟨dX7_lessens_247, .boolean, rfl, Or.inr (Or.inl rfl), by rcases v2 with z | z <;> rw [z] <;> decide⟩
  · replace H := H.2 c1
    refine ew_iconst dX7_lessens_115 (inI_of rfl) ?_
    refine ew_istore_n dX7_lessens_116 rfl (by decide) (lv' := [(3, aI 0), (0, aR (some mT)), (1, aI x1), (2, aI x2)]) rfl ?_
    refine ew_sub (List.forall_mem_cons.mpr ⟨lm1, (List.forall_mem_cons.mpr ⟨lm2, (List.forall_mem_cons.mpr ⟨lm3, (List.forall_mem_cons.mpr ⟨lm0, e_nm⟩)⟩)⟩)⟩) ?_
    exact ew_sub (List.forall_mem_cons.mpr ⟨lm0, (List.forall_mem_cons.mpr ⟨lm1, (List.forall_mem_cons.mpr ⟨lm2, (List.forall_mem_cons.mpr ⟨lm3, e_nm⟩)⟩)⟩)⟩) H
set_option maxHeartbeats 4000000 in
theorem T_lessens_117 (d : Nat) (g : AH) (K : Int → MS → Prop) (x1 : Int) (x2 : Int) (x3 : Int) (s0 : MS) (H : B_lessens_117 (W_lessens_4 d g K) (W_lessens_14 d g K) (W_lessens_107 d g K) (W_lessens_117 d g K) (W_lessens_128 d g K) K x1 x2 x3 s0) : EW mm_lessens (d + 2) 0 0 (mQi g K) 117 [(0, aR (some mT)), (1, aI x1), (2, aI x2), (3, aI x3)] [] (mh s0 g) := by
  refine ew_iload_n dX7_lessens_117 rfl lm3 ?_
  refine ew_aload_n dX7_lessens_118 rfl lm0 ?_
  refine mw_gI dX7_lessens_119 (e_fl.a q1433) mf_27 rfl ?_
  refine ew_icmp_ge (tgt := 240) dX7_lessens_122 (by decide) (fun c1 => ?_) (fun c1 => ?_)
  · replace H := H.1 c1
    obtain ⟨v2, H⟩ := H
    refine ew_iinc dX7_lessens_240 lm2 (by decide) v2 (lv' := [(2, aI (x2 + 1)), (0, aR (some mT)), (1, aI x1), (3, aI x3)]) rfl ?_
    refine ew_sub (List.forall_mem_cons.mpr ⟨lm1, (List.forall_mem_cons.mpr ⟨lm2, (List.forall_mem_cons.mpr ⟨lm0, (List.forall_mem_cons.mpr ⟨lm3, e_nm⟩)⟩)⟩)⟩) ?_
    refine ew_goto (tgt := 107) dX7_lessens_243 (by decide) ?_
    exact ew_sub (List.forall_mem_cons.mpr ⟨lm0, (List.forall_mem_cons.mpr ⟨lm1, (List.forall_mem_cons.mpr ⟨lm2, e_nm⟩)⟩)⟩) H
  · replace H := H.2 c1
    refine ew_iconst dX7_lessens_125 (inI_of rfl) ?_
    refine ew_istore dX7_lessens_126 (by decide) (lv' := [(4, aI 0), (0, aR (some mT)), (1, aI x1), (2, aI x2), (3, aI x3)]) rfl ?_
    refine ew_sub (List.forall_mem_cons.mpr ⟨lm1, (List.forall_mem_cons.mpr ⟨lm2, (List.forall_mem_cons.mpr ⟨lm3, (List.forall_mem_cons.mpr ⟨lm4, (List.forall_mem_cons.mpr ⟨lm0, e_nm⟩)⟩)⟩)⟩)⟩) ?_
    exact ew_sub (List.forall_mem_cons.mpr ⟨lm0, (List.forall_mem_cons.mpr ⟨lm1, (List.forall_mem_cons.mpr ⟨lm2, (List.forall_mem_cons.mpr ⟨lm3, (List.forall_mem_cons.mpr ⟨lm4, e_nm⟩)⟩)⟩)⟩)⟩) H
set_option maxHeartbeats 4000000 in
theorem T_lessens_128 (d : Nat) (g : AH) (K : Int → MS → Prop) (x1 : Int) (x2 : Int) (x3 : Int) (x4 : Int) (s0 : MS) (H : B_lessens_128 (W_lessens_4 d g K) (W_lessens_14 d g K) (W_lessens_107 d g K) (W_lessens_117 d g K) (W_lessens_128 d g K) K x1 x2 x3 x4 s0) : EW mm_lessens (d + 2) 0 0 (mQi g K) 128 [(0, aR (some mT)), (1, aI x1), (2, aI x2), (3, aI x3), (4, aI x4)] [] (mh s0 g) := by
  refine ew_iload dX7_lessens_128 lm4 ?_
  refine ew_aload_n dX7_lessens_130 rfl lm0 ?_
  refine mw_gI dX7_lessens_131 (e_fl.a q1433) mf_27 rfl ?_
  refine ew_icmp_ge (tgt := 234) dX7_lessens_134 (by decide) (fun c1 => ?_) (fun c1 => ?_)
  · replace H := H.1 c1
    obtain ⟨v2, H⟩ := H
    refine ew_iinc dX7_lessens_234 lm3 (by decide) v2 (lv' := [(3, aI (x3 + 1)), (0, aR (some mT)), (1, aI x1), (2, aI x2), (4, aI x4)]) rfl ?_
    refine ew_sub (List.forall_mem_cons.mpr ⟨lm1, (List.forall_mem_cons.mpr ⟨lm2, (List.forall_mem_cons.mpr ⟨lm3, (List.forall_mem_cons.mpr ⟨lm0, (List.forall_mem_cons.mpr ⟨lm4, e_nm⟩)⟩)⟩)⟩)⟩) ?_
    refine ew_goto (tgt := 117) dX7_lessens_237 (by decide) ?_
    exact ew_sub (List.forall_mem_cons.mpr ⟨lm0, (List.forall_mem_cons.mpr ⟨lm1, (List.forall_mem_cons.mpr ⟨lm2, (List.forall_mem_cons.mpr ⟨lm3, e_nm⟩)⟩)⟩)⟩) H
  · replace H := H.2 c1
    refine ew_aload_n dX7_lessens_137 rfl lm0 ?_
    refine mw_gA dX7_lessens_138 (e_fl.a q1455) mf_49 rfl ?_
    refine ew_iload_n dX7_lessens_141 rfl lm3 ?_
    refine ew_iload_n dX7_lessens_142 rfl lm2 ?_
    refine ew_callS (d := d + 1) (as := [aI x3, aI x2]) rfl dX7_lessens_143 me_pair rfl (Or.inl q1862) q1863 (Nat.le_of_ble_eq_true rfl) (Nat.le_refl 0) (Nat.le_refl 0) (S_pair (d := d + 1) H) (fun o h' hq4 _ => ?_) (fun E i h' q _ => (mQi_no q).elim)
    obtain ⟨r6, s3, E5, rfl, H⟩ := hq4
    cases E5
    obtain ⟨v7, H⟩ := H
    refine mw_lald dX7_lessens_146 rfl v7.1 v7.2 ?_
    refine ew_lstore dX7_lessens_147 (by decide) (lv' := [(5, aL (s3.2 49 r6)), (0, aR (some mT)), (1, aI x1), (2, aI x2), (3, aI x3), (4, aI x4)]) rfl ?_
    refine ew_sub (List.forall_mem_cons.mpr ⟨lm1, (List.forall_mem_cons.mpr ⟨lm2, (List.forall_mem_cons.mpr ⟨lm3, (List.forall_mem_cons.mpr ⟨lm4, (List.forall_mem_cons.mpr ⟨lm5, (List.forall_mem_cons.mpr ⟨lm0, e_nm⟩)⟩)⟩)⟩)⟩)⟩) ?_
    refine ew_aload_n dX7_lessens_149 rfl lm0 ?_
    refine mw_gA dX7_lessens_150 (e_fl.a q1455) mf_49 rfl ?_
    refine ew_iload_n dX7_lessens_153 rfl lm2 ?_
    refine ew_iload dX7_lessens_154 lm4 ?_
    refine ew_callS (d := d + 1) (as := [aI x2, aI x4]) rfl dX7_lessens_156 me_pair rfl (Or.inl q1862) q1863 (Nat.le_of_ble_eq_true rfl) (Nat.le_refl 0) (Nat.le_refl 0) (S_pair (d := d + 1) H) (fun o h' hq9 _ => ?_) (fun E i h' q _ => (mQi_no q).elim)
    obtain ⟨r11, s8, E10, rfl, H⟩ := hq9
    cases E10
    obtain ⟨v12, H⟩ := H
    refine mw_lald dX7_lessens_159 rfl v12.1 v12.2 ?_
    refine ew_lstore dX7_lessens_160 (by decide) (lv' := [(7, aL (s8.2 49 r11)), (0, aR (some mT)), (1, aI x1), (2, aI x2), (3, aI x3), (4, aI x4), (5, aL (s3.2 49 r6))]) rfl ?_
    refine ew_sub (List.forall_mem_cons.mpr ⟨lm1, (List.forall_mem_cons.mpr ⟨lm2, (List.forall_mem_cons.mpr ⟨lm3, (List.forall_mem_cons.mpr ⟨lm4, (List.forall_mem_cons.mpr ⟨lm5, (List.forall_mem_cons.mpr ⟨lm6, (List.forall_mem_cons.mpr ⟨lm0, e_nm⟩)⟩)⟩)⟩)⟩)⟩)⟩) ?_
    refine ew_lload dX7_lessens_162 lm5 ?_
    refine ew_ldc2 (n := 4000000000) dX7_lessens_164 (inL_of rfl) q1865 ?_
    refine ew_lcmp dX7_lessens_167 ?_
    refine ew_if_ge (tgt := 180) dX7_lessens_168 (by decide) (fun c13 => ?_) (fun c13 => ?_)
    · replace H := H.1 (jl_ge.mp c13)
      refine ew_ldc2 (n := 4000000000) dX7_lessens_180 (inL_of rfl) q1865 ?_
      refine ew_goto (tgt := 194) dX7_lessens_183 (by decide) ?_
      refine ew_lstore dX7_lessens_194 (by decide) (lv' := [(9, aL 4000000000), (0, aR (some mT)), (1, aI x1), (2, aI x2), (3, aI x3), (4, aI x4), (5, aL (s3.2 49 r6)), (7, aL (s8.2 49 r11))]) rfl ?_
      refine ew_sub (List.forall_mem_cons.mpr ⟨lm1, (List.forall_mem_cons.mpr ⟨lm2, (List.forall_mem_cons.mpr ⟨lm3, (List.forall_mem_cons.mpr ⟨lm4, (List.forall_mem_cons.mpr ⟨lm5, (List.forall_mem_cons.mpr ⟨lm6, (List.forall_mem_cons.mpr ⟨lm7, (List.forall_mem_cons.mpr ⟨lm0, e_nm⟩)⟩)⟩)⟩)⟩)⟩)⟩)⟩) ?_
      refine ew_lload dX7_lessens_196 lm7 ?_
      refine ew_aload_n dX7_lessens_198 rfl lm0 ?_
      refine mw_gA dX7_lessens_199 (e_fl.a q1455) mf_49 rfl ?_
      refine ew_iload_n dX7_lessens_202 rfl lm3 ?_
      refine ew_iload dX7_lessens_203 lm4 ?_
      refine ew_callS (d := d + 1) (as := [aI x3, aI x4]) rfl dX7_lessens_205 me_pair rfl (Or.inl q1862) q1863 (Nat.le_of_ble_eq_true rfl) (Nat.le_refl 0) (Nat.le_refl 0) (S_pair (d := d + 1) H) (fun o h' hq15 _ => ?_) (fun E i h' q _ => (mQi_no q).elim)
      obtain ⟨r17, s14, E16, rfl, H⟩ := hq15
      cases E16
      obtain ⟨v18, H⟩ := H
      refine mw_lald dX7_lessens_208 rfl v18.1 v18.2 ?_
      refine ew_lcmp dX7_lessens_209 ?_
      refine ew_if_ge (tgt := 228) dX7_lessens_210 (by decide) (fun c19 => ?_) (fun c19 => ?_)
      · replace H := H.1 (jl_ge.mp c19)
        obtain ⟨v20, H⟩ := H
        refine ew_iinc dX7_lessens_228 lm4 (by decide) v20 (lv' := [(4, aI (x4 + 1)), (0, aR (some mT)), (1, aI x1), (2, aI x2), (3, aI x3), (5, aL (s3.2 49 r6)), (7, aL (s8.2 49 r11)), (9, aL 4000000000)]) rfl ?_
        refine ew_sub (List.forall_mem_cons.mpr ⟨lm1, (List.forall_mem_cons.mpr ⟨lm2, (List.forall_mem_cons.mpr ⟨lm3, (List.forall_mem_cons.mpr ⟨lm4, (List.forall_mem_cons.mpr ⟨lm0, (List.forall_mem_cons.mpr ⟨lm5, (List.forall_mem_cons.mpr ⟨lm6, (List.forall_mem_cons.mpr ⟨lm7, e_nm⟩)⟩)⟩)⟩)⟩)⟩)⟩)⟩) ?_
        refine ew_goto (tgt := 128) dX7_lessens_231 (by decide) ?_
        exact ew_sub (List.forall_mem_cons.mpr ⟨lm0, (List.forall_mem_cons.mpr ⟨lm1, (List.forall_mem_cons.mpr ⟨lm2, (List.forall_mem_cons.mpr ⟨lm3, (List.forall_mem_cons.mpr ⟨lm4, e_nm⟩)⟩)⟩)⟩)⟩) H
      · replace H := H.2 (fun z => c19 (jl_ge.mpr z))
        refine ew_aload_n dX7_lessens_213 rfl lm0 ?_
        refine mw_gA dX7_lessens_214 (e_fl.a q1455) mf_49 rfl ?_
        refine ew_iload_n dX7_lessens_217 rfl lm3 ?_
        refine ew_iload dX7_lessens_218 lm4 ?_
        refine ew_callS (d := d + 1) (as := [aI x3, aI x4]) rfl dX7_lessens_220 me_pair rfl (Or.inl q1862) q1863 (Nat.le_of_ble_eq_true rfl) (Nat.le_refl 0) (Nat.le_refl 0) (S_pair (d := d + 1) H) (fun o h' hq22 _ => ?_) (fun E i h' q _ => (mQi_no q).elim)
        obtain ⟨r24, s21, E23, rfl, H⟩ := hq22
        cases E23
        refine ew_lload dX7_lessens_223 lm7 ?_
        obtain ⟨v27, H⟩ := H
        refine mw_last dX7_lessens_225 rfl v27.1 v27.2 (fun s25 e26 => ?_)
        replace H := H s25 e26
        refine ew_iconst dX7_lessens_226 (inI_of rfl) ?_
        refine ew_istore_n dX7_lessens_227 rfl (by decide) (lv' := [(1, aI 1), (0, aR (some mT)), (2, aI x2), (3, aI x3), (4, aI x4), (5, aL (s3.2 49 r6)), (7, aL (s8.2 49 r11)), (9, aL 4000000000)]) rfl ?_
        refine ew_sub (List.forall_mem_cons.mpr ⟨lm1, (List.forall_mem_cons.mpr ⟨lm0, (List.forall_mem_cons.mpr ⟨lm2, (List.forall_mem_cons.mpr ⟨lm3, (List.forall_mem_cons.mpr ⟨lm4, (List.forall_mem_cons.mpr ⟨lm5, (List.forall_mem_cons.mpr ⟨lm6, (List.forall_mem_cons.mpr ⟨lm7, e_nm⟩)⟩)⟩)⟩)⟩)⟩)⟩)⟩) ?_
        obtain ⟨v28, H⟩ := H
        refine ew_iinc dX7_lessens_228 lm4 (by decide) v28 (lv' := [(4, aI (x4 + 1)), (0, aR (some mT)), (1, aI 1), (2, aI x2), (3, aI x3), (5, aL (s3.2 49 r6)), (7, aL (s8.2 49 r11)), (9, aL 4000000000)]) rfl ?_
        refine ew_sub (List.forall_mem_cons.mpr ⟨lm1, (List.forall_mem_cons.mpr ⟨lm2, (List.forall_mem_cons.mpr ⟨lm3, (List.forall_mem_cons.mpr ⟨lm4, (List.forall_mem_cons.mpr ⟨lm0, (List.forall_mem_cons.mpr ⟨lm5, (List.forall_mem_cons.mpr ⟨lm6, (List.forall_mem_cons.mpr ⟨lm7, e_nm⟩)⟩)⟩)⟩)⟩)⟩)⟩)⟩) ?_
        refine ew_goto (tgt := 128) dX7_lessens_231 (by decide) ?_
        exact ew_sub (List.forall_mem_cons.mpr ⟨lm0, (List.forall_mem_cons.mpr ⟨lm1, (List.forall_mem_cons.mpr ⟨lm2, (List.forall_mem_cons.mpr ⟨lm3, (List.forall_mem_cons.mpr ⟨lm4, e_nm⟩)⟩)⟩)⟩)⟩) H
    · replace H := H.2 (fun z => c13 (jl_ge.mpr z))
      refine ew_lload dX7_lessens_171 lm6 ?_
      refine ew_ldc2 (n := 4000000000) dX7_lessens_173 (inL_of rfl) q1865 ?_
      refine ew_lcmp dX7_lessens_176 ?_
      refine ew_if_lt (tgt := 186) dX7_lessens_177 (by decide) (fun c29 => ?_) (fun c29 => ?_)
      · replace H := H.1 (jl_lt.mp c29)
        refine ew_lload dX7_lessens_186 lm5 ?_
        refine ew_lload dX7_lessens_188 lm6 ?_
        obtain ⟨v30, H⟩ := H
        refine ew_ladd dX7_lessens_190 v30 ?_
        refine ew_callS (d := d + 1) (as := [aL ((s3.2 49 r6) + (s8.2 49 r11))]) rfl dX7_lessens_191 me_held rfl (Or.inl q1874) q1875 (Nat.le_of_ble_eq_true rfl) (Nat.le_refl 0) (Nat.le_refl 0) (S_held (d := d + 1) H) (fun o h' hq32 _ => ?_) (fun E i h' q _ => (mQl_no q).elim)
        obtain ⟨r34, s31, E33, rfl, H⟩ := hq32
        cases E33
        refine ew_lstore dX7_lessens_194 (by decide) (lv' := [(9, aL r34), (0, aR (some mT)), (1, aI x1), (2, aI x2), (3, aI x3), (4, aI x4), (5, aL (s3.2 49 r6)), (7, aL (s8.2 49 r11))]) rfl ?_
        refine ew_sub (List.forall_mem_cons.mpr ⟨lm1, (List.forall_mem_cons.mpr ⟨lm2, (List.forall_mem_cons.mpr ⟨lm3, (List.forall_mem_cons.mpr ⟨lm4, (List.forall_mem_cons.mpr ⟨lm5, (List.forall_mem_cons.mpr ⟨lm6, (List.forall_mem_cons.mpr ⟨lm7, (List.forall_mem_cons.mpr ⟨lm0, e_nm⟩)⟩)⟩)⟩)⟩)⟩)⟩)⟩) ?_
        refine ew_lload dX7_lessens_196 lm7 ?_
        refine ew_aload_n dX7_lessens_198 rfl lm0 ?_
        refine mw_gA dX7_lessens_199 (e_fl.a q1455) mf_49 rfl ?_
        refine ew_iload_n dX7_lessens_202 rfl lm3 ?_
        refine ew_iload dX7_lessens_203 lm4 ?_
        refine ew_callS (d := d + 1) (as := [aI x3, aI x4]) rfl dX7_lessens_205 me_pair rfl (Or.inl q1862) q1863 (Nat.le_of_ble_eq_true rfl) (Nat.le_refl 0) (Nat.le_refl 0) (S_pair (d := d + 1) H) (fun o h' hq36 _ => ?_) (fun E i h' q _ => (mQi_no q).elim)
        obtain ⟨r38, s35, E37, rfl, H⟩ := hq36
        cases E37
        obtain ⟨v39, H⟩ := H
        refine mw_lald dX7_lessens_208 rfl v39.1 v39.2 ?_
        refine ew_lcmp dX7_lessens_209 ?_
        refine ew_if_ge (tgt := 228) dX7_lessens_210 (by decide) (fun c40 => ?_) (fun c40 => ?_)
        · replace H := H.1 (jl_ge.mp c40)
          obtain ⟨v41, H⟩ := H
          refine ew_iinc dX7_lessens_228 lm4 (by decide) v41 (lv' := [(4, aI (x4 + 1)), (0, aR (some mT)), (1, aI x1), (2, aI x2), (3, aI x3), (5, aL (s3.2 49 r6)), (7, aL (s8.2 49 r11)), (9, aL r34)]) rfl ?_
          refine ew_sub (List.forall_mem_cons.mpr ⟨lm1, (List.forall_mem_cons.mpr ⟨lm2, (List.forall_mem_cons.mpr ⟨lm3, (List.forall_mem_cons.mpr ⟨lm4, (List.forall_mem_cons.mpr ⟨lm0, (List.forall_mem_cons.mpr ⟨lm5, (List.forall_mem_cons.mpr ⟨lm6, (List.forall_mem_cons.mpr ⟨lm7, e_nm⟩)⟩)⟩)⟩)⟩)⟩)⟩)⟩) ?_
          refine ew_goto (tgt := 128) dX7_lessens_231 (by decide) ?_
          exact ew_sub (List.forall_mem_cons.mpr ⟨lm0, (List.forall_mem_cons.mpr ⟨lm1, (List.forall_mem_cons.mpr ⟨lm2, (List.forall_mem_cons.mpr ⟨lm3, (List.forall_mem_cons.mpr ⟨lm4, e_nm⟩)⟩)⟩)⟩)⟩) H
        · replace H := H.2 (fun z => c40 (jl_ge.mpr z))
          refine ew_aload_n dX7_lessens_213 rfl lm0 ?_
          refine mw_gA dX7_lessens_214 (e_fl.a q1455) mf_49 rfl ?_
          refine ew_iload_n dX7_lessens_217 rfl lm3 ?_
          refine ew_iload dX7_lessens_218 lm4 ?_
          refine ew_callS (d := d + 1) (as := [aI x3, aI x4]) rfl dX7_lessens_220 me_pair rfl (Or.inl q1862) q1863 (Nat.le_of_ble_eq_true rfl) (Nat.le_refl 0) (Nat.le_refl 0) (S_pair (d := d + 1) H) (fun o h' hq43 _ => ?_) (fun E i h' q _ => (mQi_no q).elim)
          obtain ⟨r45, s42, E44, rfl, H⟩ := hq43
          cases E44
          refine ew_lload dX7_lessens_223 lm7 ?_
          obtain ⟨v48, H⟩ := H
          refine mw_last dX7_lessens_225 rfl v48.1 v48.2 (fun s46 e47 => ?_)
          replace H := H s46 e47
          refine ew_iconst dX7_lessens_226 (inI_of rfl) ?_
          refine ew_istore_n dX7_lessens_227 rfl (by decide) (lv' := [(1, aI 1), (0, aR (some mT)), (2, aI x2), (3, aI x3), (4, aI x4), (5, aL (s3.2 49 r6)), (7, aL (s8.2 49 r11)), (9, aL r34)]) rfl ?_
          refine ew_sub (List.forall_mem_cons.mpr ⟨lm1, (List.forall_mem_cons.mpr ⟨lm0, (List.forall_mem_cons.mpr ⟨lm2, (List.forall_mem_cons.mpr ⟨lm3, (List.forall_mem_cons.mpr ⟨lm4, (List.forall_mem_cons.mpr ⟨lm5, (List.forall_mem_cons.mpr ⟨lm6, (List.forall_mem_cons.mpr ⟨lm7, e_nm⟩)⟩)⟩)⟩)⟩)⟩)⟩)⟩) ?_
          obtain ⟨v49, H⟩ := H
          refine ew_iinc dX7_lessens_228 lm4 (by decide) v49 (lv' := [(4, aI (x4 + 1)), (0, aR (some mT)), (1, aI 1), (2, aI x2), (3, aI x3), (5, aL (s3.2 49 r6)), (7, aL (s8.2 49 r11)), (9, aL r34)]) rfl ?_
          refine ew_sub (List.forall_mem_cons.mpr ⟨lm1, (List.forall_mem_cons.mpr ⟨lm2, (List.forall_mem_cons.mpr ⟨lm3, (List.forall_mem_cons.mpr ⟨lm4, (List.forall_mem_cons.mpr ⟨lm0, (List.forall_mem_cons.mpr ⟨lm5, (List.forall_mem_cons.mpr ⟨lm6, (List.forall_mem_cons.mpr ⟨lm7, e_nm⟩)⟩)⟩)⟩)⟩)⟩)⟩)⟩) ?_
          refine ew_goto (tgt := 128) dX7_lessens_231 (by decide) ?_
          exact ew_sub (List.forall_mem_cons.mpr ⟨lm0, (List.forall_mem_cons.mpr ⟨lm1, (List.forall_mem_cons.mpr ⟨lm2, (List.forall_mem_cons.mpr ⟨lm3, (List.forall_mem_cons.mpr ⟨lm4, e_nm⟩)⟩)⟩)⟩)⟩) H
      · replace H := H.2 (fun z => c29 (jl_lt.mpr z))
        refine ew_ldc2 (n := 4000000000) dX7_lessens_180 (inL_of rfl) q1865 ?_
        refine ew_goto (tgt := 194) dX7_lessens_183 (by decide) ?_
        refine ew_lstore dX7_lessens_194 (by decide) (lv' := [(9, aL 4000000000), (0, aR (some mT)), (1, aI x1), (2, aI x2), (3, aI x3), (4, aI x4), (5, aL (s3.2 49 r6)), (7, aL (s8.2 49 r11))]) rfl ?_
        refine ew_sub (List.forall_mem_cons.mpr ⟨lm1, (List.forall_mem_cons.mpr ⟨lm2, (List.forall_mem_cons.mpr ⟨lm3, (List.forall_mem_cons.mpr ⟨lm4, (List.forall_mem_cons.mpr ⟨lm5, (List.forall_mem_cons.mpr ⟨lm6, (List.forall_mem_cons.mpr ⟨lm7, (List.forall_mem_cons.mpr ⟨lm0, e_nm⟩)⟩)⟩)⟩)⟩)⟩)⟩)⟩) ?_
        refine ew_lload dX7_lessens_196 lm7 ?_
        refine ew_aload_n dX7_lessens_198 rfl lm0 ?_
        refine mw_gA dX7_lessens_199 (e_fl.a q1455) mf_49 rfl ?_
        refine ew_iload_n dX7_lessens_202 rfl lm3 ?_
        refine ew_iload dX7_lessens_203 lm4 ?_
        refine ew_callS (d := d + 1) (as := [aI x3, aI x4]) rfl dX7_lessens_205 me_pair rfl (Or.inl q1862) q1863 (Nat.le_of_ble_eq_true rfl) (Nat.le_refl 0) (Nat.le_refl 0) (S_pair (d := d + 1) H) (fun o h' hq51 _ => ?_) (fun E i h' q _ => (mQi_no q).elim)
        obtain ⟨r53, s50, E52, rfl, H⟩ := hq51
        cases E52
        obtain ⟨v54, H⟩ := H
        refine mw_lald dX7_lessens_208 rfl v54.1 v54.2 ?_
        refine ew_lcmp dX7_lessens_209 ?_
        refine ew_if_ge (tgt := 228) dX7_lessens_210 (by decide) (fun c55 => ?_) (fun c55 => ?_)
        · replace H := H.1 (jl_ge.mp c55)
          obtain ⟨v56, H⟩ := H
          refine ew_iinc dX7_lessens_228 lm4 (by decide) v56 (lv' := [(4, aI (x4 + 1)), (0, aR (some mT)), (1, aI x1), (2, aI x2), (3, aI x3), (5, aL (s3.2 49 r6)), (7, aL (s8.2 49 r11)), (9, aL 4000000000)]) rfl ?_
          refine ew_sub (List.forall_mem_cons.mpr ⟨lm1, (List.forall_mem_cons.mpr ⟨lm2, (List.forall_mem_cons.mpr ⟨lm3, (List.forall_mem_cons.mpr ⟨lm4, (List.forall_mem_cons.mpr ⟨lm0, (List.forall_mem_cons.mpr ⟨lm5, (List.forall_mem_cons.mpr ⟨lm6, (List.forall_mem_cons.mpr ⟨lm7, e_nm⟩)⟩)⟩)⟩)⟩)⟩)⟩)⟩) ?_
          refine ew_goto (tgt := 128) dX7_lessens_231 (by decide) ?_
          exact ew_sub (List.forall_mem_cons.mpr ⟨lm0, (List.forall_mem_cons.mpr ⟨lm1, (List.forall_mem_cons.mpr ⟨lm2, (List.forall_mem_cons.mpr ⟨lm3, (List.forall_mem_cons.mpr ⟨lm4, e_nm⟩)⟩)⟩)⟩)⟩) H
        · replace H := H.2 (fun z => c55 (jl_ge.mpr z))
          refine ew_aload_n dX7_lessens_213 rfl lm0 ?_
          refine mw_gA dX7_lessens_214 (e_fl.a q1455) mf_49 rfl ?_
          refine ew_iload_n dX7_lessens_217 rfl lm3 ?_
          refine ew_iload dX7_lessens_218 lm4 ?_
          refine ew_callS (d := d + 1) (as := [aI x3, aI x4]) rfl dX7_lessens_220 me_pair rfl (Or.inl q1862) q1863 (Nat.le_of_ble_eq_true rfl) (Nat.le_refl 0) (Nat.le_refl 0) (S_pair (d := d + 1) H) (fun o h' hq58 _ => ?_) (fun E i h' q _ => (mQi_no q).elim)
          obtain ⟨r60, s57, E59, rfl, H⟩ := hq58
          cases E59
          refine ew_lload dX7_lessens_223 lm7 ?_
          obtain ⟨v63, H⟩ := H
          refine mw_last dX7_lessens_225 rfl v63.1 v63.2 (fun s61 e62 => ?_)
          replace H := H s61 e62
          refine ew_iconst dX7_lessens_226 (inI_of rfl) ?_
          refine ew_istore_n dX7_lessens_227 rfl (by decide) (lv' := [(1, aI 1), (0, aR (some mT)), (2, aI x2), (3, aI x3), (4, aI x4), (5, aL (s3.2 49 r6)), (7, aL (s8.2 49 r11)), (9, aL 4000000000)]) rfl ?_
          refine ew_sub (List.forall_mem_cons.mpr ⟨lm1, (List.forall_mem_cons.mpr ⟨lm0, (List.forall_mem_cons.mpr ⟨lm2, (List.forall_mem_cons.mpr ⟨lm3, (List.forall_mem_cons.mpr ⟨lm4, (List.forall_mem_cons.mpr ⟨lm5, (List.forall_mem_cons.mpr ⟨lm6, (List.forall_mem_cons.mpr ⟨lm7, e_nm⟩)⟩)⟩)⟩)⟩)⟩)⟩)⟩) ?_
          obtain ⟨v64, H⟩ := H
          refine ew_iinc dX7_lessens_228 lm4 (by decide) v64 (lv' := [(4, aI (x4 + 1)), (0, aR (some mT)), (1, aI 1), (2, aI x2), (3, aI x3), (5, aL (s3.2 49 r6)), (7, aL (s8.2 49 r11)), (9, aL 4000000000)]) rfl ?_
          refine ew_sub (List.forall_mem_cons.mpr ⟨lm1, (List.forall_mem_cons.mpr ⟨lm2, (List.forall_mem_cons.mpr ⟨lm3, (List.forall_mem_cons.mpr ⟨lm4, (List.forall_mem_cons.mpr ⟨lm0, (List.forall_mem_cons.mpr ⟨lm5, (List.forall_mem_cons.mpr ⟨lm6, (List.forall_mem_cons.mpr ⟨lm7, e_nm⟩)⟩)⟩)⟩)⟩)⟩)⟩)⟩) ?_
          refine ew_goto (tgt := 128) dX7_lessens_231 (by decide) ?_
          exact ew_sub (List.forall_mem_cons.mpr ⟨lm0, (List.forall_mem_cons.mpr ⟨lm1, (List.forall_mem_cons.mpr ⟨lm2, (List.forall_mem_cons.mpr ⟨lm3, (List.forall_mem_cons.mpr ⟨lm4, e_nm⟩)⟩)⟩)⟩)⟩) H
set_option maxHeartbeats 4000000 in
theorem T_lessens_E (d : Nat) (g : AH) (K : Int → MS → Prop)  (s0 : MS) (H : B_lessens_E (W_lessens_4 d g K) (W_lessens_14 d g K) (W_lessens_107 d g K) (W_lessens_117 d g K) (W_lessens_128 d g K) K  s0) : EW mm_lessens (d + 2) 0 0 (mQi g K) 0 [(0, aR (some mT))] [] (mh s0 g) := by
  refine ew_iconst dX7_lessens_0 (inI_of rfl) ?_
  refine ew_istore_n dX7_lessens_1 rfl (by decide) (lv' := [(1, aI 0), (0, aR (some mT))]) rfl ?_
  refine ew_sub (List.forall_mem_cons.mpr ⟨lm1, (List.forall_mem_cons.mpr ⟨lm0, e_nm⟩)⟩) ?_
  refine ew_iconst dX7_lessens_2 (inI_of rfl) ?_
  refine ew_istore_n dX7_lessens_3 rfl (by decide) (lv' := [(2, aI 0), (0, aR (some mT)), (1, aI 0)]) rfl ?_
  refine ew_sub (List.forall_mem_cons.mpr ⟨lm1, (List.forall_mem_cons.mpr ⟨lm2, (List.forall_mem_cons.mpr ⟨lm0, e_nm⟩)⟩)⟩) ?_
  exact ew_sub (List.forall_mem_cons.mpr ⟨lm0, (List.forall_mem_cons.mpr ⟨lm1, (List.forall_mem_cons.mpr ⟨lm2, e_nm⟩)⟩)⟩) H
def C_lessens  (s0 : MS) (K : Int → MS → Prop) : Prop := ∀ (X4 : Int → Int → MS → Prop) (X14 : Int → Int → Int → MS → Prop) (X107 : Int → Int → MS → Prop) (X117 : Int → Int → Int → MS → Prop) (X128 : Int → Int → Int → Int → MS → Prop), (∀ (x1 : Int) (x2 : Int) (s0 : MS), B_lessens_4 X4 X14 X107 X117 X128 K x1 x2 s0 → X4 x1 x2 s0) → (∀ (x1 : Int) (x2 : Int) (x3 : Int) (s0 : MS), B_lessens_14 X4 X14 X107 X117 X128 K x1 x2 x3 s0 → X14 x1 x2 x3 s0) → (∀ (x1 : Int) (x2 : Int) (s0 : MS), B_lessens_107 X4 X14 X107 X117 X128 K x1 x2 s0 → X107 x1 x2 s0) → (∀ (x1 : Int) (x2 : Int) (x3 : Int) (s0 : MS), B_lessens_117 X4 X14 X107 X117 X128 K x1 x2 x3 s0 → X117 x1 x2 x3 s0) → (∀ (x1 : Int) (x2 : Int) (x3 : Int) (x4 : Int) (s0 : MS), B_lessens_128 X4 X14 X107 X117 X128 K x1 x2 x3 x4 s0 → X128 x1 x2 x3 x4 s0) → B_lessens_E X4 X14 X107 X117 X128 K  s0
theorem S_lessens {d : Nat} {g : AH} {K : Int → MS → Prop}  {s0 : MS} (H : C_lessens  s0 K) : Sp mm_lessens (d + 2) 0 0 [aR (some mT)] (mh s0 g) (mQi g K) :=
  ew_sp rfl (Nat.le_of_ble_eq_true rfl) (T_lessens_E d g K  s0 (H _ _ _ _ _ (fun x1 x2 s0 H => T_lessens_4 d g K x1 x2 s0 H) (fun x1 x2 x3 s0 H => T_lessens_14 d g K x1 x2 x3 s0 H) (fun x1 x2 s0 H => T_lessens_107 d g K x1 x2 s0 H) (fun x1 x2 x3 s0 H => T_lessens_117 d g K x1 x2 x3 s0 H) (fun x1 x2 x3 x4 s0 H => T_lessens_128 d g K x1 x2 x3 x4 s0 H)))
