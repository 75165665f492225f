set_option maxRecDepth 100000
abbrev mm_nextByParts : EM := (yX7_nextByParts, cX7_nextByParts, 3, some .boolean, [])
theorem me_nextByParts : e_mth mm_nextByParts 0 := ⟨rfl, q1917, q117, by decide +kernel, by decide⟩
def B_nextByParts_2 (X2 : Int → MS → Prop) (X14 : Int → Int → MS → Prop) (K : Int → MS → Prop) (x1 : Int) (s0 : MS) : Prop :=
  (((s0.1 27) ≤ x1 → K 0 s0) ∧ (¬ (s0.1 27) ≤ x1 → ((inI (x1 + 1)) ∧ X14 x1 (x1 + 1) s0)))
def B_nextByParts_14 (X2 : Int → MS → Prop) (X14 : Int → Int → MS → Prop) (K : Int → MS → Prop) (x1 : Int) (x2 : Int) (s0 : MS) : Prop :=
  (((s0.1 27) ≤ x2 → (inI (x1 + 1) ∧ X2 (x1 + 1) s0)) ∧ (¬ (s0.1 27) ≤ x2 → ((0 ≤ x1 ∧ x1 < 24) ∧ ((0 ≤ x2 ∧ x2 < 24) ∧ (((s0.2 44 x1) = (s0.2 44 x2) → (inI (x2 + 1) ∧ X14 x1 (x2 + 1) s0)) ∧ (¬ (s0.2 44 x1) = (s0.2 44 x2) → (C_isAlike 44 x1 x2 s0 (fun r10 s7 => ((r10 = 0 → (inI (x2 + 1) ∧ X14 x1 (x2 + 1) s7)) ∧ (¬ r10 = 0 → (C_nextJoin x1 x2 s7 (fun s13 => K 1 s13))))))))))))
def B_nextByParts_E (X2 : Int → MS → Prop) (X14 : Int → Int → MS → Prop) (K : Int → MS → Prop)  (s0 : MS) : Prop :=
  X2 0 s0
def W_nextByParts_2 (d : Nat) (g : AH) (K : Int → MS → Prop) (x1 : Int) (s0 : MS) : Prop := EW mm_nextByParts (d + 2) 0 0 (mQi g K) 2 [(0, aR (some mT)), (1, aI x1)] [] (mh s0 g)
def W_nextByParts_14 (d : Nat) (g : AH) (K : Int → MS → Prop) (x1 : Int) (x2 : Int) (s0 : MS) : Prop := EW mm_nextByParts (d + 2) 0 0 (mQi g K) 14 [(0, aR (some mT)), (1, aI x1), (2, aI x2)] [] (mh s0 g)
set_option maxHeartbeats 4000000 in
theorem T_nextByParts_2 (d : Nat) (g : AH) (K : Int → MS → Prop) (x1 : Int) (s0 : MS) (H : B_nextByParts_2 (W_nextByParts_2 d g K) (W_nextByParts_14 d g K) K x1 s0) : EW mm_nextByParts (d + 2) 0 0 (mQi g K) 2 [(0, aR (some mT)), (1, aI x1)] [] (mh s0 g) := by
  refine ew_iload_n dX7_nextByParts_2 rfl lm1 ?_
  refine ew_aload_n dX7_nextByParts_3 rfl lm0 ?_
  refine mw_gI dX7_nextByParts_4 (e_fl.a q1433) mf_27 rfl ?_
  refine ew_icmp_ge (tgt := 70) dX7_nextByParts_7 (by decide) (fun c1 => ?_) (fun c1 => ?_)
  · replace H := H.1 c1
    refine ew_iconst dX7_nextByParts_70 (inI_of rfl) ?_
    exact ew_ret (o := some (aI 0)) rfl ⟨_, _, rfl, rfl, H⟩ ⟨dX7_nextByParts_71, .boolean, rfl, Or.inr (Or.inl rfl), by decide⟩
  · replace H := H.2 c1
    refine ew_iload_n dX7_nextByParts_10 rfl lm1 ?_
    refine ew_iconst dX7_nextByParts_11 (inI_of rfl) ?_
    obtain ⟨v2, H⟩ := H
    refine ew_iadd dX7_nextByParts_12 v2 ?_
    refine ew_istore_n dX7_nextByParts_13 rfl (by decide) (lv' := [(2, aI (x1 + 1)), (0, aR (some mT)), (1, aI x1)]) rfl ?_
    refine ew_sub (List.forall_mem_cons.mpr ⟨lm1, (List.forall_mem_cons.mpr ⟨lm2, (List.forall_mem_cons.mpr ⟨lm0, e_nm⟩)⟩)⟩) ?_
    exact ew_sub (List.forall_mem_cons.mpr ⟨lm0, (List.forall_mem_cons.mpr ⟨lm1, (List.forall_mem_cons.mpr ⟨lm2, e_nm⟩)⟩)⟩) H
set_option maxHeartbeats 4000000 in
theorem T_nextByParts_14 (d : Nat) (g : AH) (K : Int → MS → Prop) (x1 : Int) (x2 : Int) (s0 : MS) (H : B_nextByParts_14 (W_nextByParts_2 d g K) (W_nextByParts_14 d g K) K x1 x2 s0) : EW mm_nextByParts (d + 2) 0 0 (mQi g K) 14 [(0, aR (some mT)), (1, aI x1), (2, aI x2)] [] (mh s0 g) := by
  refine ew_iload_n dX7_nextByParts_14 rfl lm2 ?_
  refine ew_aload_n dX7_nextByParts_15 rfl lm0 ?_
  refine mw_gI dX7_nextByParts_16 (e_fl.a q1433) mf_27 rfl ?_
  refine ew_icmp_ge (tgt := 64) dX7_nextByParts_19 (by decide) (fun c1 => ?_) (fun c1 => ?_)
  · replace H := H.1 c1
    obtain ⟨v2, H⟩ := H
    refine ew_iinc dX7_nextByParts_64 lm1 (by decide) v2 (lv' := [(1, aI (x1 + 1)), (0, aR (some mT)), (2, aI x2)]) rfl ?_
    refine ew_sub (List.forall_mem_cons.mpr ⟨lm1, (List.forall_mem_cons.mpr ⟨lm0, (List.forall_mem_cons.mpr ⟨lm2, e_nm⟩)⟩)⟩) ?_
    refine ew_goto (tgt := 2) dX7_nextByParts_67 (by decide) ?_
    exact ew_sub (List.forall_mem_cons.mpr ⟨lm0, (List.forall_mem_cons.mpr ⟨lm1, e_nm⟩)⟩) H
  · replace H := H.2 c1
    refine ew_aload_n dX7_nextByParts_22 rfl lm0 ?_
    refine mw_gA dX7_nextByParts_23 (e_fl.a q1450) mf_44 rfl ?_
    refine ew_iload_n dX7_nextByParts_26 rfl lm1 ?_
    obtain ⟨v3, H⟩ := H
    refine mw_iald dX7_nextByParts_27 rfl v3.1 v3.2 ?_
    refine ew_aload_n dX7_nextByParts_28 rfl lm0 ?_
    refine mw_gA dX7_nextByParts_29 (e_fl.a q1450) mf_44 rfl ?_
    refine ew_iload_n dX7_nextByParts_32 rfl lm2 ?_
    obtain ⟨v4, H⟩ := H
    refine mw_iald dX7_nextByParts_33 rfl v4.1 v4.2 ?_
    refine ew_icmp_eq (tgt := 58) dX7_nextByParts_34 (by decide) (fun c5 => ?_) (fun c5 => ?_)
    · replace H := H.1 c5
      obtain ⟨v6, H⟩ := H
      refine ew_iinc dX7_nextByParts_58 lm2 (by decide) v6 (lv' := [(2, aI (x2 + 1)), (0, aR (some mT)), (1, aI x1)]) rfl ?_
      refine ew_sub (List.forall_mem_cons.mpr ⟨lm1, (List.forall_mem_cons.mpr ⟨lm2, (List.forall_mem_cons.mpr ⟨lm0, e_nm⟩)⟩)⟩) ?_
      refine ew_goto (tgt := 14) dX7_nextByParts_61 (by decide) ?_
      exact ew_sub (List.forall_mem_cons.mpr ⟨lm0, (List.forall_mem_cons.mpr ⟨lm1, (List.forall_mem_cons.mpr ⟨lm2, e_nm⟩)⟩)⟩) H
    · replace H := H.2 c5
      refine ew_aload_n dX7_nextByParts_37 rfl lm0 ?_
      refine ew_aload_n dX7_nextByParts_38 rfl lm0 ?_
      refine mw_gA dX7_nextByParts_39 (e_fl.a q1450) mf_44 rfl ?_
      refine ew_iload_n dX7_nextByParts_42 rfl lm1 ?_
      refine ew_iload_n dX7_nextByParts_43 rfl lm2 ?_
      refine ew_callV (d := d + 1) (as := [aR (some (0, 1, 44)), aI x1, aI x2]) rfl dX7_nextByParts_44 me_isAlike rfl (ci := 1) rfl rfl (mh_o _ _) (Or.inl q1688) q1690 qs78 (Nat.le_of_ble_eq_true rfl) (Nat.le_refl 0) (Nat.le_refl 0) (S_isAlike (d := d + 0) H) (fun o h' hq8 _ => ?_) (fun E i h' q _ => (mQi_no q).elim)
      obtain ⟨r10, s7, E9, rfl, H⟩ := hq8
      cases E9
      refine ew_if_eq (tgt := 58) dX7_nextByParts_47 (by decide) (fun c11 => ?_) (fun c11 => ?_)
      · replace H := H.1 c11
        obtain ⟨v12, H⟩ := H
        refine ew_iinc dX7_nextByParts_58 lm2 (by decide) v12 (lv' := [(2, aI (x2 + 1)), (0, aR (some mT)), (1, aI x1)]) rfl ?_
        refine ew_sub (List.forall_mem_cons.mpr ⟨lm1, (List.forall_mem_cons.mpr ⟨lm2, (List.forall_mem_cons.mpr ⟨lm0, e_nm⟩)⟩)⟩) ?_
        refine ew_goto (tgt := 14) dX7_nextByParts_61 (by decide) ?_
        exact ew_sub (List.forall_mem_cons.mpr ⟨lm0, (List.forall_mem_cons.mpr ⟨lm1, (List.forall_mem_cons.mpr ⟨lm2, e_nm⟩)⟩)⟩) H
      · replace H := H.2 c11
        refine ew_aload_n dX7_nextByParts_50 rfl lm0 ?_
        refine ew_iload_n dX7_nextByParts_51 rfl lm1 ?_
        refine ew_iload_n dX7_nextByParts_52 rfl lm2 ?_
        refine ew_callV (d := d + 1) (as := [aI x1, aI x2]) rfl dX7_nextByParts_53 me_nextJoin rfl (ci := 1) rfl rfl (mh_o _ _) (Or.inl q1910) q1912 qs103 (Nat.le_of_ble_eq_true rfl) (Nat.le_refl 0) (Nat.le_refl 0) (S_nextJoin (d := d + 0) H) (fun o h' hq14 _ => ?_) (fun E i h' q _ => (mQ_no q).elim)
        obtain ⟨s13, E15, rfl, H⟩ := hq14
        cases E15
        refine ew_iconst dX7_nextByParts_56 (inI_of rfl) ?_
        exact ew_ret (o := some (aI 1)) rfl ⟨_, _, rfl, rfl, H⟩ ⟨dX7_nextByParts_57, .boolean, rfl, Or.inr (Or.inl rfl), by decide⟩
set_option maxHeartbeats 4000000 in
theorem T_nextByParts_E (d : Nat) (g : AH) (K : Int → MS → Prop)  (s0 : MS) (H : B_nextByParts_E (W_nextByParts_2 d g K) (W_nextByParts_14 d g K) K  s0) : EW mm_nextByParts (d + 2) 0 0 (mQi g K) 0 [(0, aR (some mT))] [] (mh s0 g) := by
  refine ew_iconst dX7_nextByParts_0 (inI_of rfl) ?_
  refine ew_istore_n dX7_nextByParts_1 rfl (by decide) (lv' := [(1, aI 0), (0, aR (some mT))]) rfl ?_
  refine ew_sub (List.forall_mem_cons.mpr ⟨lm1, (List.forall_mem_cons.mpr ⟨lm0, e_nm⟩)⟩) ?_
  exact ew_sub (List.forall_mem_cons.mpr ⟨lm0, (List.forall_mem_cons.mpr ⟨lm1, e_nm⟩)⟩) H
def C_nextByParts  (s0 : MS) (K : Int → MS → Prop) : Prop := ∀ (X2 : Int → MS → Prop) (X14 : Int → Int → MS → Prop), (∀ (x1 : Int) (s0 : MS), B_nextByParts_2 X2 X14 K x1 s0 → X2 x1 s0) → (∀ (x1 : Int) (x2 : Int) (s0 : MS), B_nextByParts_14 X2 X14 K x1 x2 s0 → X14 x1 x2 s0) → B_nextByParts_E X2 X14 K  s0
theorem S_nextByParts {d : Nat} {g : AH} {K : Int → MS → Prop}  {s0 : MS} (H : C_nextByParts  s0 K) : Sp mm_nextByParts (d + 2) 0 0 [aR (some mT)] (mh s0 g) (mQi g K) :=
  ew_sp rfl (Nat.le_of_ble_eq_true rfl) (T_nextByParts_E d g K  s0 (H _ _ (fun x1 s0 H => T_nextByParts_2 d g K x1 s0 H) (fun x1 x2 s0 H => T_nextByParts_14 d g K x1 x2 s0 H)))
abbrev mm_laysNext : EM := (yX7_laysNext, cX7_laysNext, 4, none, [])
theorem me_laysNext : e_mth mm_laysNext 2 := ⟨rfl, q1909, q117, by decide +kernel, by decide⟩
def B_laysNext_2 (X2 : Int → Int → Int → MS → Prop) (X57 : Int → MS → Prop) (K : MS → Prop) (x1 : Int) (x2 : Int) (x3 : Int) (s0 : MS) : Prop :=
  (((s0.1 27) ≤ x3 → (∀ s2 : MS, s2 = ms s0 55 0 → ((0 ≤ x1 ∧ x1 < 24) ∧ ((0 ≤ x2 ∧ x2 < 24) ∧ (((s2.2 44 x1) = (s2.2 44 x2) → K s2) ∧ (¬ (s2.2 44 x1) = (s2.2 44 x2) → (C_nextJoin x1 x2 s2 (fun s7 => X57 1 s7)))))))) ∧ (¬ (s0.1 27) ≤ x3 → ((0 ≤ x3 ∧ x3 < 24) ∧ ((0 ≤ x3 ∧ x3 < 24) ∧ ∀ s11 : MS, s11 = ma s0 44 x3 (s0.2 36 x3) → (inI (x3 + 1) ∧ X2 x1 x2 (x3 + 1) s11)))))
def B_laysNext_57 (X2 : Int → Int → Int → MS → Prop) (X57 : Int → MS → Prop) (K : MS → Prop) (x3 : Int) (s0 : MS) : Prop :=
  ((x3 = 0 → K s0) ∧ (¬ x3 = 0 → (C_nextByParts s0 (fun r5 s2 => X57 r5 s2))))
def B_laysNext_E (X2 : Int → Int → Int → MS → Prop) (X57 : Int → MS → Prop) (K : MS → Prop) (a : Int) (b : Int) (s0 : MS) : Prop :=
  X2 a b 0 s0
def W_laysNext_2 (d : Nat) (g : AH) (K : MS → Prop) (x1 : Int) (x2 : Int) (x3 : Int) (s0 : MS) : Prop := EW mm_laysNext (d + 3) 0 0 (mQ g K) 2 [(0, aR (some mT)), (1, aI x1), (2, aI x2), (3, aI x3)] [] (mh s0 g)
def W_laysNext_57 (d : Nat) (g : AH) (K : MS → Prop) (x3 : Int) (s0 : MS) : Prop := EW mm_laysNext (d + 3) 0 0 (mQ g K) 57 [(0, aR (some mT)), (3, aI x3)] [] (mh s0 g)
set_option maxHeartbeats 4000000 in
theorem T_laysNext_2 (d : Nat) (g : AH) (K : MS → Prop) (x1 : Int) (x2 : Int) (x3 : Int) (s0 : MS) (H : B_laysNext_2 (W_laysNext_2 d g K) (W_laysNext_57 d g K) K x1 x2 x3 s0) : EW mm_laysNext (d + 3) 0 0 (mQ g K) 2 [(0, aR (some mT)), (1, aI x1), (2, aI x2), (3, aI x3)] [] (mh s0 g) := by
  refine ew_iload_n dX7_laysNext_2 rfl lm3 ?_
  refine ew_aload_n dX7_laysNext_3 rfl lm0 ?_
  refine mw_gI dX7_laysNext_4 (e_fl.a q1433) mf_27 rfl ?_
  refine ew_icmp_ge (tgt := 28) dX7_laysNext_7 (by decide) (fun c1 => ?_) (fun c1 => ?_)
  · replace H := H.1 c1
    refine ew_aload_n dX7_laysNext_28 rfl lm0 ?_
    refine ew_iconst dX7_laysNext_29 (inI_of rfl) ?_
    refine mw_pI dX7_laysNext_30 (e_fl.a q1461) mf_55 (Or.inl rfl) (ty := .int) (by decide +kernel) trivial (fun s2 e3 => ?_)
    replace H := H s2 e3
    refine ew_aload_n dX7_laysNext_33 rfl lm0 ?_
    refine mw_gA dX7_laysNext_34 (e_fl.a q1450) mf_44 rfl ?_
    refine ew_iload_n dX7_laysNext_37 rfl lm1 ?_
    obtain ⟨v4, H⟩ := H
    refine mw_iald dX7_laysNext_38 rfl v4.1 v4.2 ?_
    refine ew_aload_n dX7_laysNext_39 rfl lm0 ?_
    refine mw_gA dX7_laysNext_40 (e_fl.a q1450) mf_44 rfl ?_
    refine ew_iload_n dX7_laysNext_43 rfl lm2 ?_
    obtain ⟨v5, H⟩ := H
    refine mw_iald dX7_laysNext_44 rfl v5.1 v5.2 ?_
    refine ew_icmp_ne (tgt := 49) dX7_laysNext_45 (by decide) (fun c6 => ?_) (fun c6 => ?_)
    · replace H := H.2 c6
      refine ew_aload_n dX7_laysNext_49 rfl lm0 ?_
      refine ew_iload_n dX7_laysNext_50 rfl lm1 ?_
      refine ew_iload_n dX7_laysNext_51 rfl lm2 ?_
      refine ew_callV (d := d + 2) (as := [aI x1, aI x2]) rfl dX7_laysNext_52 me_nextJoin rfl (ci := 1) rfl rfl (mh_o _ _) (Or.inl q1910) q1912 qs103 (Nat.le_of_ble_eq_true rfl) (Nat.le_refl 0) (Nat.le_refl 0) (S_nextJoin (d := d + 1) H) (fun o h' hq8 _ => ?_) (fun E i h' q _ => (mQ_no q).elim)
      obtain ⟨s7, E9, rfl, H⟩ := hq8
      cases E9
      refine ew_iconst dX7_laysNext_55 (inI_of rfl) ?_
      refine ew_istore_n dX7_laysNext_56 rfl (by decide) (lv' := [(3, aI 1), (0, aR (some mT)), (1, aI x1), (2, aI x2)]) rfl ?_
      refine ew_sub (List.forall_mem_cons.mpr ⟨lm1, (List.forall_mem_cons.mpr ⟨lm2, (List.forall_mem_cons.mpr ⟨lm3, (List.forall_mem_cons.mpr ⟨lm0, e_nm⟩)⟩)⟩)⟩) ?_
      exact ew_sub (List.forall_mem_cons.mpr ⟨lm0, (List.forall_mem_cons.mpr ⟨lm3, e_nm⟩)⟩) H
    · replace H := H.1 c6
      exact ew_ret (o := none) rfl ⟨_, rfl, rfl, H⟩ ⟨rfl, dX7_laysNext_48⟩
  · replace H := H.2 c1
    refine ew_aload_n dX7_laysNext_10 rfl lm0 ?_
    refine mw_gA dX7_laysNext_11 (e_fl.a q1450) mf_44 rfl ?_
    refine ew_iload_n dX7_laysNext_14 rfl lm3 ?_
    refine ew_aload_n dX7_laysNext_15 rfl lm0 ?_
    refine mw_gA dX7_laysNext_16 (e_fl.a q1442) mf_36 rfl ?_
    refine ew_iload_n dX7_laysNext_19 rfl lm3 ?_
    obtain ⟨v10, H⟩ := H
    refine mw_iald dX7_laysNext_20 rfl v10.1 v10.2 ?_
    obtain ⟨v13, H⟩ := H
    refine mw_iast dX7_laysNext_21 rfl v13.1 v13.2 (fun s11 e12 => ?_)
    replace H := H s11 e12
    obtain ⟨v14, H⟩ := H
    refine ew_iinc dX7_laysNext_22 lm3 (by decide) v14 (lv' := [(3, aI (x3 + 1)), (0, aR (some mT)), (1, aI x1), (2, aI x2)]) rfl ?_
    refine ew_sub (List.forall_mem_cons.mpr ⟨lm1, (List.forall_mem_cons.mpr ⟨lm2, (List.forall_mem_cons.mpr ⟨lm3, (List.forall_mem_cons.mpr ⟨lm0, e_nm⟩)⟩)⟩)⟩) ?_
    refine ew_goto (tgt := 2) dX7_laysNext_25 (by decide) ?_
    exact ew_sub (List.forall_mem_cons.mpr ⟨lm0, (List.forall_mem_cons.mpr ⟨lm1, (List.forall_mem_cons.mpr ⟨lm2, (List.forall_mem_cons.mpr ⟨lm3, e_nm⟩)⟩)⟩)⟩) H
set_option maxHeartbeats 4000000 in
theorem T_laysNext_57 (d : Nat) (g : AH) (K : MS → Prop) (x3 : Int) (s0 : MS) (H : B_laysNext_57 (W_laysNext_2 d g K) (W_laysNext_57 d g K) K x3 s0) : EW mm_laysNext (d + 3) 0 0 (mQ g K) 57 [(0, aR (some mT)), (3, aI x3)] [] (mh s0 g) := by
  refine ew_iload_n dX7_laysNext_57 rfl lm1 ?_
  refine ew_if_eq (tgt := 69) dX7_laysNext_58 (by decide) (fun c1 => ?_) (fun c1 => ?_)
  · replace H := H.1 c1
    exact ew_ret (o := none) rfl ⟨_, rfl, rfl, H⟩ ⟨rfl, dX7_laysNext_69⟩
  · replace H := H.2 c1
    refine ew_aload_n dX7_laysNext_61 rfl lm0 ?_
    refine ew_callV (d := d + 2) (as := []) rfl dX7_laysNext_62 me_nextByParts rfl (ci := 1) rfl rfl (mh_o _ _) (Or.inl q1914) q1916 qs104 (Nat.le_of_ble_eq_true rfl) (Nat.le_refl 0) (Nat.le_refl 0) (S_nextByParts (d := d + 0) H) (fun o h' hq3 _ => ?_) (fun E i h' q _ => (mQi_no q).elim)
    obtain ⟨r5, s2, E4, rfl, H⟩ := hq3
    cases E4
    refine ew_istore_n dX7_laysNext_65 rfl (by decide) (lv' := [(3, aI r5), (0, aR (some mT))]) rfl ?_
    refine ew_sub (List.forall_mem_cons.mpr ⟨lm1, (List.forall_mem_cons.mpr ⟨lm0, e_nm⟩)⟩) ?_
    refine ew_goto (tgt := 57) dX7_laysNext_66 (by decide) ?_
    exact ew_sub (List.forall_mem_cons.mpr ⟨lm0, (List.forall_mem_cons.mpr ⟨lm1, e_nm⟩)⟩) H
set_option maxHeartbeats 4000000 in
theorem T_laysNext_E (d : Nat) (g : AH) (K : MS → Prop) (a : Int) (b : Int) (s0 : MS) (H : B_laysNext_E (W_laysNext_2 d g K) (W_laysNext_57 d g K) K a b s0) : EW mm_laysNext (d + 3) 0 0 (mQ g K) 0 [(0, aR (some mT)), (1, aI a), (2, aI b)] [] (mh s0 g) := by
  refine ew_iconst dX7_laysNext_0 (inI_of rfl) ?_
  refine ew_istore_n dX7_laysNext_1 rfl (by decide) (lv' := [(3, aI 0), (0, aR (some mT)), (1, aI a), (2, aI b)]) rfl ?_
  refine ew_sub (List.forall_mem_cons.mpr ⟨lm1, (List.forall_mem_cons.mpr ⟨lm2, (List.forall_mem_cons.mpr ⟨lm3, (List.forall_mem_cons.mpr ⟨lm0, e_nm⟩)⟩)⟩)⟩) ?_
  exact ew_sub (List.forall_mem_cons.mpr ⟨lm0, (List.forall_mem_cons.mpr ⟨lm1, (List.forall_mem_cons.mpr ⟨lm2, (List.forall_mem_cons.mpr ⟨lm3, e_nm⟩)⟩)⟩)⟩) H
def C_laysNext (a : Int) (b : Int) (s0 : MS) (K : MS → Prop) : Prop := ∀ (X2 : Int → Int → Int → MS → Prop) (X57 : Int → MS → Prop), (∀ (x1 : Int) (x2 : Int) (x3 : Int) (s0 : MS), B_laysNext_2 X2 X57 K x1 x2 x3 s0 → X2 x1 x2 x3 s0) → (∀ (x3 : Int) (s0 : MS), B_laysNext_57 X2 X57 K x3 s0 → X57 x3 s0) → B_laysNext_E X2 X57 K a b s0
theorem S_laysNext {d : Nat} {g : AH} {K : MS → Prop} {a : Int} {b : Int} {s0 : MS} (H : C_laysNext a b s0 K) : Sp mm_laysNext (d + 3) 0 0 [aR (some mT), aI a, aI b] (mh s0 g) (mQ g K) :=
  ew_sp rfl (Nat.le_of_ble_eq_true rfl) (T_laysNext_E d g K a b s0 (H _ _ (fun x1 x2 x3 s0 H => T_laysNext_2 d g K x1 x2 x3 s0 H) (fun x3 s0 H => T_laysNext_57 d g K x3 s0 H)))
abbrev mm_next : EM := (yX7_next, cX7_next, 5, some .int, [])
theorem me_next : e_mth mm_next 4 := ⟨rfl, q1905, q117, by decide +kernel, by decide⟩
def B_next_E  (K : Int → MS → Prop) (a : Int) (b : Int) (c : Int) (e : Int) (s0 : MS) : Prop :=
  (C_isTerm a s0 (fun r4 s1 => ((r4 = 0 → (C_unless 0 s1 (fun r9 s6 => (C_isRefused r9 s6 (fun r13 s10 => ((r13 = 0 → (C_laysNext a b s10 (fun s15 => ((c < (s15.1 55) → ((e = 0 → ((0 ≤ c ∧ c < 24) ∧ K (s15.2 53 c) s15)) ∧ (¬ e = 0 → ((e = 1 → ((0 ≤ c ∧ c < 24) ∧ K (s15.2 54 c) s15)) ∧ (¬ e = 1 → ((c = 0 → K 1 s15) ∧ (¬ c = 0 → K 0 s15))))))) ∧ (¬ c < (s15.1 55) → K (-2) s15))))) ∧ (¬ r13 = 0 → K (-1) s10))))))) ∧ (¬ r4 = 0 → (C_isTerm b s1 (fun r27 s24 => ((r27 = 0 → (C_unless 0 s24 (fun r32 s29 => (C_isRefused r32 s29 (fun r36 s33 => ((r36 = 0 → (C_laysNext a b s33 (fun s38 => ((c < (s38.1 55) → ((e = 0 → ((0 ≤ c ∧ c < 24) ∧ K (s38.2 53 c) s38)) ∧ (¬ e = 0 → ((e = 1 → ((0 ≤ c ∧ c < 24) ∧ K (s38.2 54 c) s38)) ∧ (¬ e = 1 → ((c = 0 → K 1 s38) ∧ (¬ c = 0 → K 0 s38))))))) ∧ (¬ c < (s38.1 55) → K (-2) s38))))) ∧ (¬ r36 = 0 → K (-1) s33))))))) ∧ (¬ r27 = 0 → ((c < 0 → (C_unless 0 s24 (fun r51 s48 => (C_isRefused r51 s48 (fun r55 s52 => ((r55 = 0 → (C_laysNext a b s52 (fun s57 => ((c < (s57.1 55) → ((e = 0 → ((0 ≤ c ∧ c < 24) ∧ K (s57.2 53 c) s57)) ∧ (¬ e = 0 → ((e = 1 → ((0 ≤ c ∧ c < 24) ∧ K (s57.2 54 c) s57)) ∧ (¬ e = 1 → ((c = 0 → K 1 s57) ∧ (¬ c = 0 → K 0 s57))))))) ∧ (¬ c < (s57.1 55) → K (-2) s57))))) ∧ (¬ r55 = 0 → K (-1) s52))))))) ∧ (¬ c < 0 → (C_in e 0 2 s24 (fun r69 s66 => ((r69 = 0 → (C_unless 0 s66 (fun r74 s71 => (C_isRefused r74 s71 (fun r78 s75 => ((r78 = 0 → (C_laysNext a b s75 (fun s80 => ((c < (s80.1 55) → ((e = 0 → ((0 ≤ c ∧ c < 24) ∧ K (s80.2 53 c) s80)) ∧ (¬ e = 0 → ((e = 1 → ((0 ≤ c ∧ c < 24) ∧ K (s80.2 54 c) s80)) ∧ (¬ e = 1 → ((c = 0 → K 1 s80) ∧ (¬ c = 0 → K 0 s80))))))) ∧ (¬ c < (s80.1 55) → K (-2) s80))))) ∧ (¬ r78 = 0 → K (-1) s75))))))) ∧ (¬ r69 = 0 → (C_unless 1 s66 (fun r92 s89 => (C_isRefused r92 s89 (fun r96 s93 => ((r96 = 0 → (C_laysNext a b s93 (fun s98 => ((c < (s98.1 55) → ((e = 0 → ((0 ≤ c ∧ c < 24) ∧ K (s98.2 53 c) s98)) ∧ (¬ e = 0 → ((e = 1 → ((0 ≤ c ∧ c < 24) ∧ K (s98.2 54 c) s98)) ∧ (¬ e = 1 → ((c = 0 → K 1 s98) ∧ (¬ c = 0 → K 0 s98))))))) ∧ (¬ c < (s98.1 55) → K (-2) s98))))) ∧ (¬ r96 = 0 → K (-1) s93))))))))))))))))))))
set_option maxHeartbeats 4000000 in
theorem T_next_E (d : Nat) (g : AH) (K : Int → MS → Prop) (a : Int) (b : Int) (c : Int) (e : Int) (s0 : MS) (H : B_next_E  K a b c e s0) : EW mm_next (d + 4) 0 0 (mQi g K) 0 [(0, aR (some mT)), (1, aI a), (2, aI b), (3, aI c), (4, aI e)] [] (mh s0 g) := by
  refine ew_aload_n dX7_next_0 rfl lm0 ?_
  refine ew_aload_n dX7_next_1 rfl lm0 ?_
  refine ew_iload_n dX7_next_2 rfl lm1 ?_
  refine ew_callV (d := d + 3) (as := [aI a]) rfl dX7_next_3 me_isTerm rfl (ci := 1) rfl rfl (mh_o _ _) (Or.inl q1751) q1753 qs88 (Nat.le_of_ble_eq_true rfl) (Nat.le_refl 0) (Nat.le_refl 0) (S_isTerm (d := d + 2) H) (fun o h' hq2 _ => ?_) (fun E i h' q _ => (mQi_no q).elim)
  obtain ⟨r4, s1, E3, rfl, H⟩ := hq2
  cases E3
  refine ew_if_eq (tgt := 35) dX7_next_6 (by decide) (fun c5 => ?_) (fun c5 => ?_)
  · replace H := H.1 c5
    refine ew_iconst dX7_next_35 (inI_of rfl) ?_
    refine ew_callS (d := d + 3) (as := [aI 0]) rfl dX7_next_36 me_unless rfl (Or.inl q1732) q1733 (Nat.le_of_ble_eq_true rfl) (Nat.le_refl 0) (Nat.le_refl 0) (S_unless (d := d + 3) H) (fun o h' hq7 _ => ?_) (fun E i h' q _ => (mQi_no q).elim)
    obtain ⟨r9, s6, E8, rfl, H⟩ := hq7
    cases E8
    refine ew_callV (d := d + 3) (as := [aI r9]) rfl dX7_next_39 me_isRefused rfl (ci := 1) rfl rfl (mh_o _ _) (Or.inl q1594) q1596 qs56 (Nat.le_of_ble_eq_true rfl) (Nat.le_refl 0) (Nat.le_refl 0) (S_isRefused (d := d + 3) H) (fun o h' hq11 _ => ?_) (fun E i h' q _ => (mQi_no q).elim)
    obtain ⟨r13, s10, E12, rfl, H⟩ := hq11
    cases E12
    refine ew_if_eq (tgt := 47) dX7_next_42 (by decide) (fun c14 => ?_) (fun c14 => ?_)
    · replace H := H.1 c14
      refine ew_aload_n dX7_next_47 rfl lm0 ?_
      refine ew_iload_n dX7_next_48 rfl lm1 ?_
      refine ew_iload_n dX7_next_49 rfl lm2 ?_
      refine ew_callV (d := d + 3) (as := [aI a, aI b]) rfl dX7_next_50 me_laysNext rfl (ci := 1) rfl rfl (mh_o _ _) (Or.inl q1906) q1908 qs102 (Nat.le_of_ble_eq_true rfl) (Nat.le_refl 0) (Nat.le_refl 0) (S_laysNext (d := d + 0) H) (fun o h' hq16 _ => ?_) (fun E i h' q _ => (mQ_no q).elim)
      obtain ⟨s15, E17, rfl, H⟩ := hq16
      cases E17
      refine ew_iload_n dX7_next_53 rfl lm3 ?_
      refine ew_aload_n dX7_next_54 rfl lm0 ?_
      refine mw_gI dX7_next_55 (e_fl.a q1461) mf_55 rfl ?_
      refine ew_icmp_lt (tgt := 64) dX7_next_58 (by decide) (fun c18 => ?_) (fun c18 => ?_)
      · replace H := H.1 c18
        refine ew_iload dX7_next_64 lm4 ?_
        refine ew_if_ne (tgt := 78) dX7_next_66 (by decide) (fun c19 => ?_) (fun c19 => ?_)
        · replace H := H.2 c19
          refine ew_iload dX7_next_78 lm4 ?_
          refine ew_iconst dX7_next_80 (inI_of rfl) ?_
          refine ew_icmp_ne (tgt := 93) dX7_next_81 (by decide) (fun c20 => ?_) (fun c20 => ?_)
          · replace H := H.2 c20
            refine ew_iload_n dX7_next_93 rfl lm3 ?_
            refine ew_if_ne (tgt := 101) dX7_next_94 (by decide) (fun c21 => ?_) (fun c21 => ?_)
            · replace H := H.2 c21
              refine ew_iconst dX7_next_101 (inI_of rfl) ?_
              exact ew_ret (o := some (aI 0)) rfl ⟨_, _, rfl, rfl, H⟩ ⟨dX7_next_102, .int, rfl, Or.inl rfl, rfl⟩
            · replace H := H.1 c21
              refine ew_iconst dX7_next_97 (inI_of rfl) ?_
              refine ew_goto (tgt := 102) dX7_next_98 (by decide) ?_
              exact ew_ret (o := some (aI 1)) rfl ⟨_, _, rfl, rfl, H⟩ ⟨dX7_next_102, .int, rfl, Or.inl rfl, rfl⟩
          · replace H := H.1 c20
            refine ew_aload_n dX7_next_84 rfl lm0 ?_
            refine mw_gA dX7_next_85 (e_fl.a q1460) mf_54 rfl ?_
            refine ew_iload_n dX7_next_88 rfl lm3 ?_
            obtain ⟨v22, H⟩ := H
            refine mw_iald dX7_next_89 rfl v22.1 v22.2 ?_
            refine ew_goto (tgt := 102) dX7_next_90 (by decide) ?_
            exact ew_ret (o := some (aI (s15.2 54 c))) rfl ⟨_, _, rfl, rfl, H⟩ ⟨dX7_next_102, .int, rfl, Or.inl rfl, rfl⟩
        · replace H := H.1 c19
          refine ew_aload_n dX7_next_69 rfl lm0 ?_
          refine mw_gA dX7_next_70 (e_fl.a q1459) mf_53 rfl ?_
          refine ew_iload_n dX7_next_73 rfl lm3 ?_
          obtain ⟨v23, H⟩ := H
          refine mw_iald dX7_next_74 rfl v23.1 v23.2 ?_
          refine ew_goto (tgt := 102) dX7_next_75 (by decide) ?_
          exact ew_ret (o := some (aI (s15.2 53 c))) rfl ⟨_, _, rfl, rfl, H⟩ ⟨dX7_next_102, .int, rfl, Or.inl rfl, rfl⟩
      · replace H := H.2 c18
        refine ew_bipush dX7_next_61 (inI_of rfl) (by decide) ?_
        exact ew_ret (o := some (aI (-2))) rfl ⟨_, _, rfl, rfl, H⟩ ⟨dX7_next_63, .int, rfl, Or.inl rfl, rfl⟩
    · replace H := H.2 c14
      refine ew_iconst dX7_next_45 (inI_of rfl) ?_
      exact ew_ret (o := some (aI (-1))) rfl ⟨_, _, rfl, rfl, H⟩ ⟨dX7_next_46, .int, rfl, Or.inl rfl, rfl⟩
  · replace H := H.2 c5
    refine ew_aload_n dX7_next_9 rfl lm0 ?_
    refine ew_iload_n dX7_next_10 rfl lm2 ?_
    refine ew_callV (d := d + 3) (as := [aI b]) rfl dX7_next_11 me_isTerm rfl (ci := 1) rfl rfl (mh_o _ _) (Or.inl q1751) q1753 qs88 (Nat.le_of_ble_eq_true rfl) (Nat.le_refl 0) (Nat.le_refl 0) (S_isTerm (d := d + 2) H) (fun o h' hq25 _ => ?_) (fun E i h' q _ => (mQi_no q).elim)
    obtain ⟨r27, s24, E26, rfl, H⟩ := hq25
    cases E26
    refine ew_if_eq (tgt := 35) dX7_next_14 (by decide) (fun c28 => ?_) (fun c28 => ?_)
    · replace H := H.1 c28
      refine ew_iconst dX7_next_35 (inI_of rfl) ?_
      refine ew_callS (d := d + 3) (as := [aI 0]) rfl dX7_next_36 me_unless rfl (Or.inl q1732) q1733 (Nat.le_of_ble_eq_true rfl) (Nat.le_refl 0) (Nat.le_refl 0) (S_unless (d := d + 3) H) (fun o h' hq30 _ => ?_) (fun E i h' q _ => (mQi_no q).elim)
      obtain ⟨r32, s29, E31, rfl, H⟩ := hq30
      cases E31
      refine ew_callV (d := d + 3) (as := [aI r32]) rfl dX7_next_39 me_isRefused rfl (ci := 1) rfl rfl (mh_o _ _) (Or.inl q1594) q1596 qs56 (Nat.le_of_ble_eq_true rfl) (Nat.le_refl 0) (Nat.le_refl 0) (S_isRefused (d := d + 3) H) (fun o h' hq34 _ => ?_) (fun E i h' q _ => (mQi_no q).elim)
      obtain ⟨r36, s33, E35, rfl, H⟩ := hq34
      cases E35
      refine ew_if_eq (tgt := 47) dX7_next_42 (by decide) (fun c37 => ?_) (fun c37 => ?_)
      · replace H := H.1 c37
        refine ew_aload_n dX7_next_47 rfl lm0 ?_
        refine ew_iload_n dX7_next_48 rfl lm1 ?_
        refine ew_iload_n dX7_next_49 rfl lm2 ?_
        refine ew_callV (d := d + 3) (as := [aI a, aI b]) rfl dX7_next_50 me_laysNext rfl (ci := 1) rfl rfl (mh_o _ _) (Or.inl q1906) q1908 qs102 (Nat.le_of_ble_eq_true rfl) (Nat.le_refl 0) (Nat.le_refl 0) (S_laysNext (d := d + 0) H) (fun o h' hq39 _ => ?_) (fun E i h' q _ => (mQ_no q).elim)
        obtain ⟨s38, E40, rfl, H⟩ := hq39
        cases E40
        refine ew_iload_n dX7_next_53 rfl lm3 ?_
        refine ew_aload_n dX7_next_54 rfl lm0 ?_
        refine mw_gI dX7_next_55 (e_fl.a q1461) mf_55 rfl ?_
        refine ew_icmp_lt (tgt := 64) dX7_next_58 (by decide) (fun c41 => ?_) (fun c41 => ?_)
        · replace H := H.1 c41
          refine ew_iload dX7_next_64 lm4 ?_
          refine ew_if_ne (tgt := 78) dX7_next_66 (by decide) (fun c42 => ?_) (fun c42 => ?_)
          · replace H := H.2 c42
            refine ew_iload dX7_next_78 lm4 ?_
            refine ew_iconst dX7_next_80 (inI_of rfl) ?_
            refine ew_icmp_ne (tgt := 93) dX7_next_81 (by decide) (fun c43 => ?_) (fun c43 => ?_)
            · replace H := H.2 c43
              refine ew_iload_n dX7_next_93 rfl lm3 ?_
              refine ew_if_ne (tgt := 101) dX7_next_94 (by decide) (fun c44 => ?_) (fun c44 => ?_)
              · replace H := H.2 c44
                refine ew_iconst dX7_next_101 (inI_of rfl) ?_
                exact ew_ret (o := some (aI 0)) rfl ⟨_, _, rfl, rfl, H⟩ ⟨dX7_next_102, .int, rfl, Or.inl rfl, rfl⟩
              · replace H := H.1 c44
                refine ew_iconst dX7_next_97 (inI_of rfl) ?_
                refine ew_goto (tgt := 102) dX7_next_98 (by decide) ?_
                exact ew_ret (o := some (aI 1)) rfl ⟨_, _, rfl, rfl, H⟩ ⟨dX7_next_102, .int, rfl, Or.inl rfl, rfl⟩
            · replace H := H.1 c43
              refine ew_aload_n dX7_next_84 rfl lm0 ?_
              refine mw_gA dX7_next_85 (e_fl.a q1460) mf_54 rfl ?_
              refine ew_iload_n dX7_next_88 rfl lm3 ?_
              obtain ⟨v45, H⟩ := H
              refine mw_iald dX7_next_89 rfl v45.1 v45.2 ?_
              refine ew_goto (tgt := 102) dX7_next_90 (by decide) ?_
              exact ew_ret (o := some (aI (s38.2 54 c))) rfl ⟨_, _, rfl, rfl, H⟩ ⟨dX7_next_102, .int, rfl, Or.inl rfl, rfl⟩
          · replace H := H.1 c42
            refine ew_aload_n dX7_next_69 rfl lm0 ?_
            refine mw_gA dX7_next_70 (e_fl.a q1459) mf_53 rfl ?_
            refine ew_iload_n dX7_next_73 rfl lm3 ?_
            obtain ⟨v46, H⟩ := H
            refine mw_iald dX7_next_74 rfl v46.1 v46.2 ?_
            refine ew_goto (tgt := 102) dX7_next_75 (by decide) ?_
            exact ew_ret (o := some (aI (s38.2 53 c))) rfl ⟨_, _, rfl, rfl, H⟩ ⟨dX7_next_102, .int, rfl, Or.inl rfl, rfl⟩
        · replace H := H.2 c41
          refine ew_bipush dX7_next_61 (inI_of rfl) (by decide) ?_
          exact ew_ret (o := some (aI (-2))) rfl ⟨_, _, rfl, rfl, H⟩ ⟨dX7_next_63, .int, rfl, Or.inl rfl, rfl⟩
      · replace H := H.2 c37
        refine ew_iconst dX7_next_45 (inI_of rfl) ?_
        exact ew_ret (o := some (aI (-1))) rfl ⟨_, _, rfl, rfl, H⟩ ⟨dX7_next_46, .int, rfl, Or.inl rfl, rfl⟩
    · replace H := H.2 c28
      refine ew_iload_n dX7_next_17 rfl lm3 ?_
      refine ew_if_lt (tgt := 35) dX7_next_18 (by decide) (fun c47 => ?_) (fun c47 => ?_)
      · replace H := H.1 c47
        refine ew_iconst dX7_next_35 (inI_of rfl) ?_
        refine ew_callS (d := d + 3) (as := [aI 0]) rfl dX7_next_36 me_unless rfl (Or.inl q1732) q1733 (Nat.le_of_ble_eq_true rfl) (Nat.le_refl 0) (Nat.le_refl 0) (S_unless (d := d + 3) H) (fun o h' hq49 _ => ?_) (fun E i h' q _ => (mQi_no q).elim)
        obtain ⟨r51, s48, E50, rfl, H⟩ := hq49
        cases E50
        refine ew_callV (d := d + 3) (as := [aI r51]) rfl dX7_next_39 me_isRefused rfl (ci := 1) rfl rfl (mh_o _ _) (Or.inl q1594) q1596 qs56 (Nat.le_of_ble_eq_true rfl) (Nat.le_refl 0) (Nat.le_refl 0) (S_isRefused (d := d + 3) H) (fun o h' hq53 _ => ?_) (fun E i h' q _ => (mQi_no q).elim)
        obtain ⟨r55, s52, E54, rfl, H⟩ := hq53
        cases E54
        refine ew_if_eq (tgt := 47) dX7_next_42 (by decide) (fun c56 => ?_) (fun c56 => ?_)
        · replace H := H.1 c56
          refine ew_aload_n dX7_next_47 rfl lm0 ?_
          refine ew_iload_n dX7_next_48 rfl lm1 ?_
          refine ew_iload_n dX7_next_49 rfl lm2 ?_
          refine ew_callV (d := d + 3) (as := [aI a, aI b]) rfl dX7_next_50 me_laysNext rfl (ci := 1) rfl rfl (mh_o _ _) (Or.inl q1906) q1908 qs102 (Nat.le_of_ble_eq_true rfl) (Nat.le_refl 0) (Nat.le_refl 0) (S_laysNext (d := d + 0) H) (fun o h' hq58 _ => ?_) (fun E i h' q _ => (mQ_no q).elim)
          obtain ⟨s57, E59, rfl, H⟩ := hq58
          cases E59
          refine ew_iload_n dX7_next_53 rfl lm3 ?_
          refine ew_aload_n dX7_next_54 rfl lm0 ?_
          refine mw_gI dX7_next_55 (e_fl.a q1461) mf_55 rfl ?_
          refine ew_icmp_lt (tgt := 64) dX7_next_58 (by decide) (fun c60 => ?_) (fun c60 => ?_)
          · replace H := H.1 c60
            refine ew_iload dX7_next_64 lm4 ?_
            refine ew_if_ne (tgt := 78) dX7_next_66 (by decide) (fun c61 => ?_) (fun c61 => ?_)
            · replace H := H.2 c61
              refine ew_iload dX7_next_78 lm4 ?_
              refine ew_iconst dX7_next_80 (inI_of rfl) ?_
              refine ew_icmp_ne (tgt := 93) dX7_next_81 (by decide) (fun c62 => ?_) (fun c62 => ?_)
              · replace H := H.2 c62
                refine ew_iload_n dX7_next_93 rfl lm3 ?_
                refine ew_if_ne (tgt := 101) dX7_next_94 (by decide) (fun c63 => ?_) (fun c63 => ?_)
                · replace H := H.2 c63
                  refine ew_iconst dX7_next_101 (inI_of rfl) ?_
                  exact ew_ret (o := some (aI 0)) rfl ⟨_, _, rfl, rfl, H⟩ ⟨dX7_next_102, .int, rfl, Or.inl rfl, rfl⟩
                · replace H := H.1 c63
                  refine ew_iconst dX7_next_97 (inI_of rfl) ?_
                  refine ew_goto (tgt := 102) dX7_next_98 (by decide) ?_
                  exact ew_ret (o := some (aI 1)) rfl ⟨_, _, rfl, rfl, H⟩ ⟨dX7_next_102, .int, rfl, Or.inl rfl, rfl⟩
              · replace H := H.1 c62
                refine ew_aload_n dX7_next_84 rfl lm0 ?_
                refine mw_gA dX7_next_85 (e_fl.a q1460) mf_54 rfl ?_
                refine ew_iload_n dX7_next_88 rfl lm3 ?_
                obtain ⟨v64, H⟩ := H
                refine mw_iald dX7_next_89 rfl v64.1 v64.2 ?_
                refine ew_goto (tgt := 102) dX7_next_90 (by decide) ?_
                exact ew_ret (o := some (aI (s57.2 54 c))) rfl ⟨_, _, rfl, rfl, H⟩ ⟨dX7_next_102, .int, rfl, Or.inl rfl, rfl⟩
            · replace H := H.1 c61
              refine ew_aload_n dX7_next_69 rfl lm0 ?_
              refine mw_gA dX7_next_70 (e_fl.a q1459) mf_53 rfl ?_
              refine ew_iload_n dX7_next_73 rfl lm3 ?_
              obtain ⟨v65, H⟩ := H
              refine mw_iald dX7_next_74 rfl v65.1 v65.2 ?_
              refine ew_goto (tgt := 102) dX7_next_75 (by decide) ?_
              exact ew_ret (o := some (aI (s57.2 53 c))) rfl ⟨_, _, rfl, rfl, H⟩ ⟨dX7_next_102, .int, rfl, Or.inl rfl, rfl⟩
          · replace H := H.2 c60
            refine ew_bipush dX7_next_61 (inI_of rfl) (by decide) ?_
            exact ew_ret (o := some (aI (-2))) rfl ⟨_, _, rfl, rfl, H⟩ ⟨dX7_next_63, .int, rfl, Or.inl rfl, rfl⟩
        · replace H := H.2 c56
          refine ew_iconst dX7_next_45 (inI_of rfl) ?_
          exact ew_ret (o := some (aI (-1))) rfl ⟨_, _, rfl, rfl, H⟩ ⟨dX7_next_46, .int, rfl, Or.inl rfl, rfl⟩
      · replace H := H.2 c47
        refine ew_iload dX7_next_21 lm4 ?_
        refine ew_iconst dX7_next_23 (inI_of rfl) ?_
        refine ew_iconst dX7_next_24 (inI_of rfl) ?_
        refine ew_callS (d := d + 3) (as := [aI e, aI 0, aI 2]) rfl dX7_next_25 me_in rfl (Or.inl q1591) q1592 (Nat.le_of_ble_eq_true rfl) (Nat.le_refl 0) (Nat.le_refl 0) (S_in (d := d + 3) H) (fun o h' hq67 _ => ?_) (fun E i h' q _ => (mQi_no q).elim)
        obtain ⟨r69, s66, E68, rfl, H⟩ := hq67
        cases E68
        refine ew_if_eq (tgt := 35) dX7_next_28 (by decide) (fun c70 => ?_) (fun c70 => ?_)
        · replace H := H.1 c70
          refine ew_iconst dX7_next_35 (inI_of rfl) ?_
          refine ew_callS (d := d + 3) (as := [aI 0]) rfl dX7_next_36 me_unless rfl (Or.inl q1732) q1733 (Nat.le_of_ble_eq_true rfl) (Nat.le_refl 0) (Nat.le_refl 0) (S_unless (d := d + 3) H) (fun o h' hq72 _ => ?_) (fun E i h' q _ => (mQi_no q).elim)
          obtain ⟨r74, s71, E73, rfl, H⟩ := hq72
          cases E73
          refine ew_callV (d := d + 3) (as := [aI r74]) rfl dX7_next_39 me_isRefused rfl (ci := 1) rfl rfl (mh_o _ _) (Or.inl q1594) q1596 qs56 (Nat.le_of_ble_eq_true rfl) (Nat.le_refl 0) (Nat.le_refl 0) (S_isRefused (d := d + 3) H) (fun o h' hq76 _ => ?_) (fun E i h' q _ => (mQi_no q).elim)
          obtain ⟨r78, s75, E77, rfl, H⟩ := hq76
          cases E77
          refine ew_if_eq (tgt := 47) dX7_next_42 (by decide) (fun c79 => ?_) (fun c79 => ?_)
          · replace H := H.1 c79
            refine ew_aload_n dX7_next_47 rfl lm0 ?_
            refine ew_iload_n dX7_next_48 rfl lm1 ?_
            refine ew_iload_n dX7_next_49 rfl lm2 ?_
            refine ew_callV (d := d + 3) (as := [aI a, aI b]) rfl dX7_next_50 me_laysNext rfl (ci := 1) rfl rfl (mh_o _ _) (Or.inl q1906) q1908 qs102 (Nat.le_of_ble_eq_true rfl) (Nat.le_refl 0) (Nat.le_refl 0) (S_laysNext (d := d + 0) H) (fun o h' hq81 _ => ?_) (fun E i h' q _ => (mQ_no q).elim)
            obtain ⟨s80, E82, rfl, H⟩ := hq81
            cases E82
            refine ew_iload_n dX7_next_53 rfl lm3 ?_
            refine ew_aload_n dX7_next_54 rfl lm0 ?_
            refine mw_gI dX7_next_55 (e_fl.a q1461) mf_55 rfl ?_
            refine ew_icmp_lt (tgt := 64) dX7_next_58 (by decide) (fun c83 => ?_) (fun c83 => ?_)
            · replace H := H.1 c83
              refine ew_iload dX7_next_64 lm4 ?_
              refine ew_if_ne (tgt := 78) dX7_next_66 (by decide) (fun c84 => ?_) (fun c84 => ?_)
              · replace H := H.2 c84
                refine ew_iload dX7_next_78 lm4 ?_
                refine ew_iconst dX7_next_80 (inI_of rfl) ?_
                refine ew_icmp_ne (tgt := 93) dX7_next_81 (by decide) (fun c85 => ?_) (fun c85 => ?_)
                · replace H := H.2 c85
                  refine ew_iload_n dX7_next_93 rfl lm3 ?_
                  refine ew_if_ne (tgt := 101) dX7_next_94 (by decide) (fun c86 => ?_) (fun c86 => ?_)
                  · replace H := H.2 c86
                    refine ew_iconst dX7_next_101 (inI_of rfl) ?_
                    exact ew_ret (o := some (aI 0)) rfl ⟨_, _, rfl, rfl, H⟩ ⟨dX7_next_102, .int, rfl, Or.inl rfl, rfl⟩
                  · replace H := H.1 c86
                    refine ew_iconst dX7_next_97 (inI_of rfl) ?_
                    refine ew_goto (tgt := 102) dX7_next_98 (by decide) ?_
                    exact ew_ret (o := some (aI 1)) rfl ⟨_, _, rfl, rfl, H⟩ ⟨dX7_next_102, .int, rfl, Or.inl rfl, rfl⟩
                · replace H := H.1 c85
                  refine ew_aload_n dX7_next_84 rfl lm0 ?_
                  refine mw_gA dX7_next_85 (e_fl.a q1460) mf_54 rfl ?_
                  refine ew_iload_n dX7_next_88 rfl lm3 ?_
                  obtain ⟨v87, H⟩ := H
                  refine mw_iald dX7_next_89 rfl v87.1 v87.2 ?_
                  refine ew_goto (tgt := 102) dX7_next_90 (by decide) ?_
                  exact ew_ret (o := some (aI (s80.2 54 c))) rfl ⟨_, _, rfl, rfl, H⟩ ⟨dX7_next_102, .int, rfl, Or.inl rfl, rfl⟩
              · replace H := H.1 c84
                refine ew_aload_n dX7_next_69 rfl lm0 ?_
                refine mw_gA dX7_next_70 (e_fl.a q1459) mf_53 rfl ?_
                refine ew_iload_n dX7_next_73 rfl lm3 ?_
                obtain ⟨v88, H⟩ := H
                refine mw_iald dX7_next_74 rfl v88.1 v88.2 ?_
                refine ew_goto (tgt := 102) dX7_next_75 (by decide) ?_
                exact ew_ret (o := some (aI (s80.2 53 c))) rfl ⟨_, _, rfl, rfl, H⟩ ⟨dX7_next_102, .int, rfl, Or.inl rfl, rfl⟩
            · replace H := H.2 c83
              refine ew_bipush dX7_next_61 (inI_of rfl) (by decide) ?_
              exact ew_ret (o := some (aI (-2))) rfl ⟨_, _, rfl, rfl, H⟩ ⟨dX7_next_63, .int, rfl, Or.inl rfl, rfl⟩
          · replace H := H.2 c79
            refine ew_iconst dX7_next_45 (inI_of rfl) ?_
            exact ew_ret (o := some (aI (-1))) rfl ⟨_, _, rfl, rfl, H⟩ ⟨dX7_next_46, .int, rfl, Or.inl rfl, rfl⟩
        · replace H := H.2 c70
          refine ew_iconst dX7_next_31 (inI_of rfl) ?_
          refine ew_goto (tgt := 36) dX7_next_32 (by decide) ?_
          refine ew_callS (d := d + 3) (as := [aI 1]) rfl dX7_next_36 me_unless rfl (Or.inl q1732) q1733 (Nat.le_of_ble_eq_true rfl) (Nat.le_refl 0) (Nat.le_refl 0) (S_unless (d := d + 3) H) (fun o h' hq90 _ => ?_) (fun E i h' q _ => (mQi_no q).elim)
          obtain ⟨r92, s89, E91, rfl, H⟩ := hq90
          cases E91
          refine ew_callV (d := d + 3) (as := [aI r92]) rfl dX7_next_39 me_isRefused rfl (ci := 1) rfl rfl (mh_o _ _) (Or.inl q1594) q1596 qs56 (Nat.le_of_ble_eq_true rfl) (Nat.le_refl 0) (Nat.le_refl 0) (S_isRefused (d := d + 3) H) (fun o h' hq94 _ => ?_) (fun E i h' q _ => (mQi_no q).elim)
          obtain ⟨r96, s93, E95, rfl, H⟩ := hq94
          cases E95
          refine ew_if_eq (tgt := 47) dX7_next_42 (by decide) (fun c97 => ?_) (fun c97 => ?_)
          · replace H := H.1 c97
            refine ew_aload_n dX7_next_47 rfl lm0 ?_
            refine ew_iload_n dX7_next_48 rfl lm1 ?_
            refine ew_iload_n dX7_next_49 rfl lm2 ?_
            refine ew_callV (d := d + 3) (as := [aI a, aI b]) rfl dX7_next_50 me_laysNext rfl (ci := 1) rfl rfl (mh_o _ _) (Or.inl q1906) q1908 qs102 (Nat.le_of_ble_eq_true rfl) (Nat.le_refl 0) (Nat.le_refl 0) (S_laysNext (d := d + 0) H) (fun o h' hq99 _ => ?_) (fun E i h' q _ => (mQ_no q).elim)
            obtain ⟨s98, E100, rfl, H⟩ := hq99
            cases E100
            refine ew_iload_n dX7_next_53 rfl lm3 ?_
            refine ew_aload_n dX7_next_54 rfl lm0 ?_
            refine mw_gI dX7_next_55 (e_fl.a q1461) mf_55 rfl ?_
            refine ew_icmp_lt (tgt := 64) dX7_next_58 (by decide) (fun c101 => ?_) (fun c101 => ?_)
            · replace H := H.1 c101
              refine ew_iload dX7_next_64 lm4 ?_
              refine ew_if_ne (tgt := 78) dX7_next_66 (by decide) (fun c102 => ?_) (fun c102 => ?_)
              · replace H := H.2 c102
                refine ew_iload dX7_next_78 lm4 ?_
                refine ew_iconst dX7_next_80 (inI_of rfl) ?_
                refine ew_icmp_ne (tgt := 93) dX7_next_81 (by decide) (fun c103 => ?_) (fun c103 => ?_)
                · replace H := H.2 c103
                  refine ew_iload_n dX7_next_93 rfl lm3 ?_
                  refine ew_if_ne (tgt := 101) dX7_next_94 (by decide) (fun c104 => ?_) (fun c104 => ?_)
                  · replace H := H.2 c104
                    refine ew_iconst dX7_next_101 (inI_of rfl) ?_
                    exact ew_ret (o := some (aI 0)) rfl ⟨_, _, rfl, rfl, H⟩ ⟨dX7_next_102, .int, rfl, Or.inl rfl, rfl⟩
                  · replace H := H.1 c104
                    refine ew_iconst dX7_next_97 (inI_of rfl) ?_
                    refine ew_goto (tgt := 102) dX7_next_98 (by decide) ?_
                    exact ew_ret (o := some (aI 1)) rfl ⟨_, _, rfl, rfl, H⟩ ⟨dX7_next_102, .int, rfl, Or.inl rfl, rfl⟩
                · replace H := H.1 c103
                  refine ew_aload_n dX7_next_84 rfl lm0 ?_
                  refine mw_gA dX7_next_85 (e_fl.a q1460) mf_54 rfl ?_
                  refine ew_iload_n dX7_next_88 rfl lm3 ?_
                  obtain ⟨v105, H⟩ := H
                  refine mw_iald dX7_next_89 rfl v105.1 v105.2 ?_
                  refine ew_goto (tgt := 102) dX7_next_90 (by decide) ?_
                  exact ew_ret (o := some (aI (s98.2 54 c))) rfl ⟨_, _, rfl, rfl, H⟩ ⟨dX7_next_102, .int, rfl, Or.inl rfl, rfl⟩
              · replace H := H.1 c102
                refine ew_aload_n dX7_next_69 rfl lm0 ?_
                refine mw_gA dX7_next_70 (e_fl.a q1459) mf_53 rfl ?_
                refine ew_iload_n dX7_next_73 rfl lm3 ?_
                obtain ⟨v106, H⟩ := H
                refine mw_iald dX7_next_74 rfl v106.1 v106.2 ?_
                refine ew_goto (tgt := 102) dX7_next_75 (by decide) ?_
                exact ew_ret (o := some (aI (s98.2 53 c))) rfl ⟨_, _, rfl, rfl, H⟩ ⟨dX7_next_102, .int, rfl, Or.inl rfl, rfl⟩
            · replace H := H.2 c101
              refine ew_bipush dX7_next_61 (inI_of rfl) (by decide) ?_
              exact ew_ret (o := some (aI (-2))) rfl ⟨_, _, rfl, rfl, H⟩ ⟨dX7_next_63, .int, rfl, Or.inl rfl, rfl⟩
          · replace H := H.2 c97
            refine ew_iconst dX7_next_45 (inI_of rfl) ?_
            exact ew_ret (o := some (aI (-1))) rfl ⟨_, _, rfl, rfl, H⟩ ⟨dX7_next_46, .int, rfl, Or.inl rfl, rfl⟩
def C_next (a : Int) (b : Int) (c : Int) (e : Int) (s0 : MS) (K : Int → MS → Prop) : Prop := B_next_E  K a b c e s0
theorem S_next {d : Nat} {g : AH} {K : Int → MS → Prop} {a : Int} {b : Int} {c : Int} {e : Int} {s0 : MS} (H : C_next a b c e s0 K) : Sp mm_next (d + 4) 0 0 [aR (some mT), aI a, aI b, aI c, aI e] (mh s0 g) (mQi g K) :=
  ew_sp rfl (Nat.le_of_ble_eq_true rfl) (T_next_E d g K a b c e s0 (H  ))
