set_option maxRecDepth 100000
abbrev mm_comesSame : EM := (yX7_comesSame, cX7_comesSame, 3, none, [])
theorem me_comesSame : e_mth mm_comesSame 2 := ⟨rfl, q1719, q117, by decide +kernel, by decide⟩
def B_comesSame_E  (K : MS → Prop) (a : Int) (b : Int) (s0 : MS) : Prop :=
  ((0 ≤ (s0.1 30) ∧ (s0.1 30) < 13) ∧ ∀ s1 : MS, s1 = ma s0 31 (s0.1 30) a → ((0 ≤ (s1.1 30) ∧ (s1.1 30) < 13) ∧ ∀ s4 : MS, s4 = ma s1 32 (s1.1 30) b → ((inI ((s4.1 30) + 1)) ∧ (∀ s8 : MS, s8 = ms s4 30 ((s4.1 30) + 1) → ((0 ≤ a ∧ a < 24) ∧ ((0 ≤ b ∧ b < 24) ∧ (((s8.2 36 a) = (s8.2 36 b) → K s8) ∧ (¬ (s8.2 36 a) = (s8.2 36 b) → ((inI ((s8.1 30) - 1)) ∧ (C_joinsTwo a b ((s8.1 30) - 1) s8 (fun s14 => (C_closes s14 (fun s17 => K s17)))))))))))))
set_option maxHeartbeats 4000000 in
theorem T_comesSame_E (d : Nat) (g : AH) (K : MS → Prop) (a : Int) (b : Int) (s0 : MS) (H : B_comesSame_E  K a b s0) : EW mm_comesSame (d + 5) 0 0 (mQ g K) 0 [(0, aR (some mT)), (1, aI a), (2, aI b)] [] (mh s0 g) := by
  refine ew_aload_n dX7_comesSame_0 rfl lm0 ?_
  refine mw_gA dX7_comesSame_1 (e_fl.a q1437) mf_31 rfl ?_
  refine ew_aload_n dX7_comesSame_4 rfl lm0 ?_
  refine mw_gI dX7_comesSame_5 (e_fl.a q1436) mf_30 rfl ?_
  refine ew_iload_n dX7_comesSame_8 rfl lm1 ?_
  obtain ⟨v3, H⟩ := H
  refine mw_iast dX7_comesSame_9 rfl v3.1 v3.2 (fun s1 e2 => ?_)
  replace H := H s1 e2
  refine ew_aload_n dX7_comesSame_10 rfl lm0 ?_
  refine mw_gA dX7_comesSame_11 (e_fl.a q1438) mf_32 rfl ?_
  refine ew_aload_n dX7_comesSame_14 rfl lm0 ?_
  refine mw_gI dX7_comesSame_15 (e_fl.a q1436) mf_30 rfl ?_
  refine ew_iload_n dX7_comesSame_18 rfl lm2 ?_
  obtain ⟨v6, H⟩ := H
  refine mw_iast dX7_comesSame_19 rfl v6.1 v6.2 (fun s4 e5 => ?_)
  replace H := H s4 e5
  refine ew_aload_n dX7_comesSame_20 rfl lm0 ?_
  refine ew_dup dX7_comesSame_21 rfl ?_
  refine mw_gI dX7_comesSame_22 (e_fl.a q1436) mf_30 rfl ?_
  refine ew_iconst dX7_comesSame_25 (inI_of rfl) ?_
  obtain ⟨v7, H⟩ := H
  refine ew_iadd dX7_comesSame_26 v7 ?_
  refine mw_pI dX7_comesSame_27 (e_fl.a q1436) mf_30 (Or.inl rfl) (ty := .int) (by decide +kernel) trivial (fun s8 e9 => ?_)
  replace H := H s8 e9
  refine ew_aload_n dX7_comesSame_30 rfl lm0 ?_
  refine mw_gA dX7_comesSame_31 (e_fl.a q1442) mf_36 rfl ?_
  refine ew_iload_n dX7_comesSame_34 rfl lm1 ?_
  obtain ⟨v10, H⟩ := H
  refine mw_iald dX7_comesSame_35 rfl v10.1 v10.2 ?_
  refine ew_aload_n dX7_comesSame_36 rfl lm0 ?_
  refine mw_gA dX7_comesSame_37 (e_fl.a q1442) mf_36 rfl ?_
  refine ew_iload_n dX7_comesSame_40 rfl lm2 ?_
  obtain ⟨v11, H⟩ := H
  refine mw_iald dX7_comesSame_41 rfl v11.1 v11.2 ?_
  refine ew_icmp_eq (tgt := 61) dX7_comesSame_42 (by decide) (fun c12 => ?_) (fun c12 => ?_)
  · replace H := H.1 c12
    exact ew_ret (o := none) rfl ⟨_, rfl, rfl, H⟩ ⟨rfl, dX7_comesSame_61⟩
  · replace H := H.2 c12
    refine ew_aload_n dX7_comesSame_45 rfl lm0 ?_
    refine ew_iload_n dX7_comesSame_46 rfl lm1 ?_
    refine ew_iload_n dX7_comesSame_47 rfl lm2 ?_
    refine ew_aload_n dX7_comesSame_48 rfl lm0 ?_
    refine mw_gI dX7_comesSame_49 (e_fl.a q1436) mf_30 rfl ?_
    refine ew_iconst dX7_comesSame_52 (inI_of rfl) ?_
    obtain ⟨v13, H⟩ := H
    refine ew_isub dX7_comesSame_53 v13 ?_
    refine ew_callV (d := d + 4) (as := [aI a, aI b, aI ((s8.1 30) - 1)]) rfl dX7_comesSame_54 me_joinsTwo rfl (ci := 1) rfl rfl (mh_o _ _) (Or.inl q1696) q1698 qs80 (Nat.le_of_ble_eq_true rfl) (Nat.le_refl 0) (Nat.le_refl 0) (S_joinsTwo (d := d + 2) H) (fun o h' hq15 _ => ?_) (fun E i h' q _ => (mQ_no q).elim)
    obtain ⟨s14, E16, rfl, H⟩ := hq15
    cases E16
    refine ew_aload_n dX7_comesSame_57 rfl lm0 ?_
    refine ew_callV (d := d + 4) (as := []) rfl dX7_comesSame_58 me_closes rfl (ci := 1) rfl rfl (mh_o _ _) (Or.inl q1680) q1682 qs76 (Nat.le_of_ble_eq_true rfl) (Nat.le_refl 0) (Nat.le_refl 0) (S_closes (d := d + 0) H) (fun o h' hq18 _ => ?_) (fun E i h' q _ => (mQ_no q).elim)
    obtain ⟨s17, E19, rfl, H⟩ := hq18
    cases E19
    exact ew_ret (o := none) rfl ⟨_, rfl, rfl, H⟩ ⟨rfl, dX7_comesSame_61⟩
def C_comesSame (a : Int) (b : Int) (s0 : MS) (K : MS → Prop) : Prop := B_comesSame_E  K a b s0
theorem S_comesSame {d : Nat} {g : AH} {K : MS → Prop} {a : Int} {b : Int} {s0 : MS} (H : C_comesSame a b s0 K) : Sp mm_comesSame (d + 5) 0 0 [aR (some mT), aI a, aI b] (mh s0 g) (mQ g K) :=
  ew_sp rfl (Nat.le_of_ble_eq_true rfl) (T_comesSame_E d g K a b s0 (H  ))
abbrev mm_comes : EM := (yX7_comes, cX7_comes, 3, none, [])
theorem me_comes : e_mth mm_comes 1 := ⟨rfl, q1675, q117, by decide +kernel, by decide⟩
def B_comes_E  (K : MS → Prop) (a : Int) (s0 : MS) : Prop :=
  ((inI (4 * a)) ∧ ((0 ≤ a ∧ a < 96) ∧ (((s0.2 10 a) = 0 → (C_comesTerm (4 * a) s0 (fun s24 => K s24))) ∧ (¬ (s0.2 10 a) = 0 → ((0 ≤ a ∧ a < 96) ∧ (((s0.2 10 a) = 1 → ((0 ≤ (4 * a) ∧ (4 * a) < 384) ∧ ((inI ((4 * a) + 1)) ∧ ((0 ≤ ((4 * a) + 1) ∧ ((4 * a) + 1) < 384) ∧ (C_comesSame (s0.2 11 (4 * a)) (s0.2 11 ((4 * a) + 1)) s0 (fun s21 => K s21)))))) ∧ (¬ (s0.2 10 a) = 1 → ((0 ≤ (4 * a) ∧ (4 * a) < 384) ∧ ((0 ≤ (s0.1 33) ∧ (s0.1 33) < 8) ∧ ∀ s7 : MS, s7 = ma s0 34 (s0.1 33) (s0.2 11 (4 * a)) → ((inI ((4 * a) + 1)) ∧ ((0 ≤ ((4 * a) + 1) ∧ ((4 * a) + 1) < 384) ∧ ((0 ≤ (s7.1 33) ∧ (s7.1 33) < 8) ∧ ∀ s12 : MS, s12 = ma s7 35 (s7.1 33) (s7.2 11 ((4 * a) + 1)) → ((inI ((s12.1 33) + 1)) ∧ (∀ s16 : MS, s16 = ms s12 33 ((s12.1 33) + 1) → K s16))))))))))))))
set_option maxHeartbeats 4000000 in
theorem T_comes_E (d : Nat) (g : AH) (K : MS → Prop) (a : Int) (s0 : MS) (H : B_comes_E  K a s0) : EW mm_comes (d + 6) 0 0 (mQ g K) 0 [(0, aR (some mT)), (1, aI a)] [] (mh s0 g) := by
  refine ew_iconst dX7_comes_0 (inI_of rfl) ?_
  refine ew_iload_n dX7_comes_1 rfl lm1 ?_
  obtain ⟨v1, H⟩ := H
  refine ew_imul dX7_comes_2 v1 ?_
  refine ew_istore_n dX7_comes_3 rfl (by decide) (lv' := [(2, aI (4 * a)), (0, aR (some mT)), (1, aI a)]) rfl ?_
  refine ew_sub (List.forall_mem_cons.mpr ⟨lm1, (List.forall_mem_cons.mpr ⟨lm2, (List.forall_mem_cons.mpr ⟨lm0, e_nm⟩)⟩)⟩) ?_
  refine ew_aload_n dX7_comes_4 rfl lm0 ?_
  refine mw_gA dX7_comes_5 (e_fl.a q1416) mf_10 rfl ?_
  refine ew_iload_n dX7_comes_8 rfl lm1 ?_
  obtain ⟨v2, H⟩ := H
  refine mw_iald dX7_comes_9 rfl v2.1 v2.2 ?_
  refine ew_if_ne (tgt := 21) dX7_comes_10 (by decide) (fun c3 => ?_) (fun c3 => ?_)
  · replace H := H.2 c3
    refine ew_aload_n dX7_comes_21 rfl lm0 ?_
    refine mw_gA dX7_comes_22 (e_fl.a q1416) mf_10 rfl ?_
    refine ew_iload_n dX7_comes_25 rfl lm1 ?_
    obtain ⟨v4, H⟩ := H
    refine mw_iald dX7_comes_26 rfl v4.1 v4.2 ?_
    refine ew_iconst dX7_comes_27 (inI_of rfl) ?_
    refine ew_icmp_ne (tgt := 52) dX7_comes_28 (by decide) (fun c5 => ?_) (fun c5 => ?_)
    · replace H := H.2 c5
      refine ew_aload_n dX7_comes_52 rfl lm0 ?_
      refine mw_gA dX7_comes_53 (e_fl.a q1440) mf_34 rfl ?_
      refine ew_aload_n dX7_comes_56 rfl lm0 ?_
      refine mw_gI dX7_comes_57 (e_fl.a q1439) mf_33 rfl ?_
      refine ew_aload_n dX7_comes_60 rfl lm0 ?_
      refine mw_gA dX7_comes_61 (e_fl.a q1417) mf_11 rfl ?_
      refine ew_iload_n dX7_comes_64 rfl lm2 ?_
      obtain ⟨v6, H⟩ := H
      refine mw_iald dX7_comes_65 rfl v6.1 v6.2 ?_
      obtain ⟨v9, H⟩ := H
      refine mw_iast dX7_comes_66 rfl v9.1 v9.2 (fun s7 e8 => ?_)
      replace H := H s7 e8
      refine ew_aload_n dX7_comes_67 rfl lm0 ?_
      refine mw_gA dX7_comes_68 (e_fl.a q1441) mf_35 rfl ?_
      refine ew_aload_n dX7_comes_71 rfl lm0 ?_
      refine mw_gI dX7_comes_72 (e_fl.a q1439) mf_33 rfl ?_
      refine ew_aload_n dX7_comes_75 rfl lm0 ?_
      refine mw_gA dX7_comes_76 (e_fl.a q1417) mf_11 rfl ?_
      refine ew_iload_n dX7_comes_79 rfl lm2 ?_
      refine ew_iconst dX7_comes_80 (inI_of rfl) ?_
      obtain ⟨v10, H⟩ := H
      refine ew_iadd dX7_comes_81 v10 ?_
      obtain ⟨v11, H⟩ := H
      refine mw_iald dX7_comes_82 rfl v11.1 v11.2 ?_
      obtain ⟨v14, H⟩ := H
      refine mw_iast dX7_comes_83 rfl v14.1 v14.2 (fun s12 e13 => ?_)
      replace H := H s12 e13
      refine ew_aload_n dX7_comes_84 rfl lm0 ?_
      refine ew_dup dX7_comes_85 rfl ?_
      refine mw_gI dX7_comes_86 (e_fl.a q1439) mf_33 rfl ?_
      refine ew_iconst dX7_comes_89 (inI_of rfl) ?_
      obtain ⟨v15, H⟩ := H
      refine ew_iadd dX7_comes_90 v15 ?_
      refine mw_pI dX7_comes_91 (e_fl.a q1439) mf_33 (Or.inl rfl) (ty := .int) (by decide +kernel) trivial (fun s16 e17 => ?_)
      replace H := H s16 e17
      exact ew_ret (o := none) rfl ⟨_, rfl, rfl, H⟩ ⟨rfl, dX7_comes_94⟩
    · replace H := H.1 c5
      refine ew_aload_n dX7_comes_31 rfl lm0 ?_
      refine ew_aload_n dX7_comes_32 rfl lm0 ?_
      refine mw_gA dX7_comes_33 (e_fl.a q1417) mf_11 rfl ?_
      refine ew_iload_n dX7_comes_36 rfl lm2 ?_
      obtain ⟨v18, H⟩ := H
      refine mw_iald dX7_comes_37 rfl v18.1 v18.2 ?_
      refine ew_aload_n dX7_comes_38 rfl lm0 ?_
      refine mw_gA dX7_comes_39 (e_fl.a q1417) mf_11 rfl ?_
      refine ew_iload_n dX7_comes_42 rfl lm2 ?_
      refine ew_iconst dX7_comes_43 (inI_of rfl) ?_
      obtain ⟨v19, H⟩ := H
      refine ew_iadd dX7_comes_44 v19 ?_
      obtain ⟨v20, H⟩ := H
      refine mw_iald dX7_comes_45 rfl v20.1 v20.2 ?_
      refine ew_callV (d := d + 5) (as := [aI (s0.2 11 (4 * a)), aI (s0.2 11 ((4 * a) + 1))]) rfl dX7_comes_46 me_comesSame rfl (ci := 1) rfl rfl (mh_o _ _) (Or.inl q1716) q1718 qs85 (Nat.le_of_ble_eq_true rfl) (Nat.le_refl 0) (Nat.le_refl 0) (S_comesSame (d := d + 0) H) (fun o h' hq22 _ => ?_) (fun E i h' q _ => (mQ_no q).elim)
      obtain ⟨s21, E23, rfl, H⟩ := hq22
      cases E23
      refine ew_goto (tgt := 94) dX7_comes_49 (by decide) ?_
      exact ew_ret (o := none) rfl ⟨_, rfl, rfl, H⟩ ⟨rfl, dX7_comes_94⟩
  · replace H := H.1 c3
    refine ew_aload_n dX7_comes_13 rfl lm0 ?_
    refine ew_iload_n dX7_comes_14 rfl lm2 ?_
    refine ew_callV (d := d + 5) (as := [aI (4 * a)]) rfl dX7_comes_15 me_comesTerm rfl (ci := 1) rfl rfl (mh_o _ _) (Or.inl q1676) q1678 qs75 (Nat.le_of_ble_eq_true rfl) (Nat.le_refl 0) (Nat.le_refl 0) (S_comesTerm (d := d + 0) H) (fun o h' hq25 _ => ?_) (fun E i h' q _ => (mQ_no q).elim)
    obtain ⟨s24, E26, rfl, H⟩ := hq25
    cases E26
    refine ew_goto (tgt := 94) dX7_comes_18 (by decide) ?_
    exact ew_ret (o := none) rfl ⟨_, rfl, rfl, H⟩ ⟨rfl, dX7_comes_94⟩
def C_comes (a : Int) (s0 : MS) (K : MS → Prop) : Prop := B_comes_E  K a s0
theorem S_comes {d : Nat} {g : AH} {K : MS → Prop} {a : Int} {s0 : MS} (H : C_comes a s0 K) : Sp mm_comes (d + 6) 0 0 [aR (some mT), aI a] (mh s0 g) (mQ g K) :=
  ew_sp rfl (Nat.le_of_ble_eq_true rfl) (T_comes_E d g K a s0 (H  ))
abbrev mm_makes : EM := (yX7_makes, cX7_makes, 2, none, [])
theorem me_makes : e_mth mm_makes 0 := ⟨rfl, q1671, q117, by decide +kernel, by decide⟩
def B_makes_22 (X22 : Int → MS → Prop) (K : MS → Prop) (x1 : Int) (s0 : MS) : Prop :=
  (((s0.1 8) ≤ x1 → K s0) ∧ (¬ (s0.1 8) ≤ x1 → (C_comes x1 s0 (fun s2 => (inI (x1 + 1) ∧ X22 (x1 + 1) s2)))))
def B_makes_E (X22 : Int → MS → Prop) (K : MS → Prop)  (s0 : MS) : Prop :=
  (∀ s1 : MS, s1 = ms s0 27 0 → (∀ s3 : MS, s3 = ms s1 30 0 → (∀ s5 : MS, s5 = ms s3 33 0 → (∀ s7 : MS, s7 = ms s5 39 0 → X22 0 s7))))
def W_makes_22 (d : Nat) (g : AH) (K : MS → Prop) (x1 : Int) (s0 : MS) : Prop := EW mm_makes (d + 7) 0 0 (mQ g K) 22 [(0, aR (some mT)), (1, aI x1)] [] (mh s0 g)
set_option maxHeartbeats 4000000 in
theorem T_makes_22 (d : Nat) (g : AH) (K : MS → Prop) (x1 : Int) (s0 : MS) (H : B_makes_22 (W_makes_22 d g K) K x1 s0) : EW mm_makes (d + 7) 0 0 (mQ g K) 22 [(0, aR (some mT)), (1, aI x1)] [] (mh s0 g) := by
  refine ew_iload_n dX7_makes_22 rfl lm1 ?_
  refine ew_aload_n dX7_makes_23 rfl lm0 ?_
  refine mw_gI dX7_makes_24 (e_fl.a q1414) mf_8 rfl ?_
  refine ew_icmp_ge (tgt := 41) dX7_makes_27 (by decide) (fun c1 => ?_) (fun c1 => ?_)
  · replace H := H.1 c1
    exact ew_ret (o := none) rfl ⟨_, rfl, rfl, H⟩ ⟨rfl, dX7_makes_41⟩
  · replace H := H.2 c1
    refine ew_aload_n dX7_makes_30 rfl lm0 ?_
    refine ew_iload_n dX7_makes_31 rfl lm1 ?_
    refine ew_callV (d := d + 6) (as := [aI x1]) rfl dX7_makes_32 me_comes rfl (ci := 1) rfl rfl (mh_o _ _) (Or.inl q1672) q1674 qs74 (Nat.le_of_ble_eq_true rfl) (Nat.le_refl 0) (Nat.le_refl 0) (S_comes (d := d + 0) H) (fun o h' hq3 _ => ?_) (fun E i h' q _ => (mQ_no q).elim)
    obtain ⟨s2, E4, rfl, H⟩ := hq3
    cases E4
    obtain ⟨v5, H⟩ := H
    refine ew_iinc dX7_makes_35 lm1 (by decide) v5 (lv' := [(1, aI (x1 + 1)), (0, aR (some mT))]) rfl ?_
    refine ew_sub (List.forall_mem_cons.mpr ⟨lm1, (List.forall_mem_cons.mpr ⟨lm0, e_nm⟩)⟩) ?_
    refine ew_goto (tgt := 22) dX7_makes_38 (by decide) ?_
    exact ew_sub (List.forall_mem_cons.mpr ⟨lm0, (List.forall_mem_cons.mpr ⟨lm1, e_nm⟩)⟩) H
set_option maxHeartbeats 4000000 in
theorem T_makes_E (d : Nat) (g : AH) (K : MS → Prop)  (s0 : MS) (H : B_makes_E (W_makes_22 d g K) K  s0) : EW mm_makes (d + 7) 0 0 (mQ g K) 0 [(0, aR (some mT))] [] (mh s0 g) := by
  refine ew_aload_n dX7_makes_0 rfl lm0 ?_
  refine ew_iconst dX7_makes_1 (inI_of rfl) ?_
  refine mw_pI dX7_makes_2 (e_fl.a q1433) mf_27 (Or.inl rfl) (ty := .int) (by decide +kernel) trivial (fun s1 e2 => ?_)
  replace H := H s1 e2
  refine ew_aload_n dX7_makes_5 rfl lm0 ?_
  refine ew_iconst dX7_makes_6 (inI_of rfl) ?_
  refine mw_pI dX7_makes_7 (e_fl.a q1436) mf_30 (Or.inl rfl) (ty := .int) (by decide +kernel) trivial (fun s3 e4 => ?_)
  replace H := H s3 e4
  refine ew_aload_n dX7_makes_10 rfl lm0 ?_
  refine ew_iconst dX7_makes_11 (inI_of rfl) ?_
  refine mw_pI dX7_makes_12 (e_fl.a q1439) mf_33 (Or.inl rfl) (ty := .int) (by decide +kernel) trivial (fun s5 e6 => ?_)
  replace H := H s5 e6
  refine ew_aload_n dX7_makes_15 rfl lm0 ?_
  refine ew_iconst dX7_makes_16 (inI_of rfl) ?_
  refine mw_pI dX7_makes_17 (e_fl.a q1445) mf_39 (Or.inl rfl) (ty := .int) (by decide +kernel) trivial (fun s7 e8 => ?_)
  replace H := H s7 e8
  refine ew_iconst dX7_makes_20 (inI_of rfl) ?_
  refine ew_istore_n dX7_makes_21 rfl (by decide) (lv' := [(1, aI 0), (0, aR (some mT))]) rfl ?_
  refine ew_sub (List.forall_mem_cons.mpr ⟨lm1, (List.forall_mem_cons.mpr ⟨lm0, e_nm⟩)⟩) ?_
  exact ew_sub (List.forall_mem_cons.mpr ⟨lm0, (List.forall_mem_cons.mpr ⟨lm1, e_nm⟩)⟩) H
def C_makes  (s0 : MS) (K : MS → Prop) : Prop := ∀ (X22 : Int → MS → Prop), (∀ (x1 : Int) (s0 : MS), B_makes_22 X22 K x1 s0 → X22 x1 s0) → B_makes_E X22 K  s0
theorem S_makes {d : Nat} {g : AH} {K : MS → Prop}  {s0 : MS} (H : C_makes  s0 K) : Sp mm_makes (d + 7) 0 0 [aR (some mT)] (mh s0 g) (mQ g K) :=
  ew_sp rfl (Nat.le_of_ble_eq_true rfl) (T_makes_E d g K  s0 (H _ (fun x1 s0 H => T_makes_22 d g K x1 s0 H)))
abbrev mm_text : EM := (yX7_text, cX7_text, 4, some .int, [])
theorem me_text : e_mth mm_text 1 := ⟨rfl, q1590, q117, by decide +kernel, by decide⟩
def B_text_76 (X76 : Int → MS → Prop) (X123 : Int → MS → Prop) (X148 : Int → Int → MS → Prop) (X198 : Int → MS → Prop) (K : Int → MS → Prop) (x2 : Int) (s0 : MS) : Prop :=
  (((s0.1 6) ≤ x2 → (∀ s2 : MS, s2 = ms s0 8 (s0.1 24) → (∀ s4 : MS, s4 = ms s2 9 (s2.1 8) → X123 0 s4))) ∧ (¬ (s0.1 6) ≤ x2 → ((inI (8 + x2)) ∧ ((0 ≤ (8 + x2) ∧ (8 + x2) < 16) ∧ ((0 ≤ x2 ∧ x2 < 16) ∧ ∀ s8 : MS, s8 = ma s0 7 x2 (s0.2 7 (8 + x2)) → (inI (x2 + 1) ∧ X76 (x2 + 1) s8))))))
def B_text_123 (X76 : Int → MS → Prop) (X123 : Int → MS → Prop) (X148 : Int → Int → MS → Prop) (X198 : Int → MS → Prop) (K : Int → MS → Prop) (x2 : Int) (s0 : MS) : Prop :=
  (((s0.1 8) ≤ x2 → (∀ s2 : MS, s2 = ms s0 26 (s0.1 21) → X198 0 s2)) ∧ (¬ (s0.1 8) ≤ x2 → ((inI (48 + x2)) ∧ ((0 ≤ (48 + x2) ∧ (48 + x2) < 96) ∧ ((0 ≤ x2 ∧ x2 < 96) ∧ ∀ s6 : MS, s6 = ma s0 10 x2 (s0.2 10 (48 + x2)) → X148 x2 0 s6)))))
def B_text_148 (X76 : Int → MS → Prop) (X123 : Int → MS → Prop) (X148 : Int → Int → MS → Prop) (X198 : Int → MS → Prop) (K : Int → MS → Prop) (x2 : Int) (x3 : Int) (s0 : MS) : Prop :=
  ((4 ≤ x3 → (inI (x2 + 1) ∧ X123 (x2 + 1) s0)) ∧ (¬ 4 ≤ x3 → ((inI (4 * x2)) ∧ ((inI ((4 * x2) + x3)) ∧ ((inI (48 + x2)) ∧ ((inI (4 * (48 + x2))) ∧ ((inI ((4 * (48 + x2)) + x3)) ∧ ((0 ≤ ((4 * (48 + x2)) + x3) ∧ ((4 * (48 + x2)) + x3) < 384) ∧ ((0 ≤ ((4 * x2) + x3) ∧ ((4 * x2) + x3) < 384) ∧ ∀ s9 : MS, s9 = ma s0 11 ((4 * x2) + x3) (s0.2 11 ((4 * (48 + x2)) + x3)) → (inI (x3 + 1) ∧ X148 x2 (x3 + 1) s9))))))))))
def B_text_198 (X76 : Int → MS → Prop) (X123 : Int → MS → Prop) (X148 : Int → Int → MS → Prop) (X198 : Int → MS → Prop) (K : Int → MS → Prop) (x2 : Int) (s0 : MS) : Prop :=
  ((144 ≤ x2 → (C_makes s0 (fun s2 => K (s2.1 27) s2))) ∧ (¬ 144 ≤ x2 → ((inI (144 + x2)) ∧ ((0 ≤ (144 + x2) ∧ (144 + x2) < 288) ∧ ((0 ≤ x2 ∧ x2 < 288) ∧ ∀ s7 : MS, s7 = ma s0 12 x2 (s0.2 12 (144 + x2)) → (inI (x2 + 1) ∧ X198 (x2 + 1) s7))))))
def B_text_E (X76 : Int → MS → Prop) (X123 : Int → MS → Prop) (X148 : Int → Int → MS → Prop) (X198 : Int → MS → Prop) (K : Int → MS → Prop) (a : Int) (s0 : MS) : Prop :=
  (C_in a 0 (s0.1 5) s0 (fun r4 s1 => ((r4 = 0 → (C_isRefused 2 s1 (fun r9 s6 => ((r9 = 0 → (∀ s11 : MS, s11 = ms s6 5 0 → (∀ s13 : MS, s13 = ms s11 2 0 → (C_readAll a s13 (fun r18 s15 => ((r18 = 0 → (∀ s22 : MS, s22 = ms s15 2 (s15.1 18) → (∀ s24 : MS, s24 = ms s22 3 (s22.1 19) → (C_no 4 s24 (fun r29 s26 => K r29 s26))))) ∧ (¬ r18 = 0 → (∀ s20 : MS, s20 = ms s15 6 (s15.1 20) → X76 0 s20)))))))) ∧ (¬ r9 = 0 → K (-1) s6))))) ∧ (¬ r4 = 0 → (C_isRefused 0 s1 (fun r33 s30 => ((r33 = 0 → (∀ s35 : MS, s35 = ms s30 5 0 → (∀ s37 : MS, s37 = ms s35 2 0 → (C_readAll a s37 (fun r42 s39 => ((r42 = 0 → (∀ s46 : MS, s46 = ms s39 2 (s39.1 18) → (∀ s48 : MS, s48 = ms s46 3 (s46.1 19) → (C_no 4 s48 (fun r53 s50 => K r53 s50))))) ∧ (¬ r42 = 0 → (∀ s44 : MS, s44 = ms s39 6 (s39.1 20) → X76 0 s44)))))))) ∧ (¬ r33 = 0 → K (-1) s30))))))))
def W_text_76 (d : Nat) (g : AH) (K : Int → MS → Prop) (x2 : Int) (s0 : MS) : Prop := EW mm_text (d + 12) 0 0 (mQi g K) 76 [(0, aR (some mT)), (2, aI x2)] [] (mh s0 g)
def W_text_123 (d : Nat) (g : AH) (K : Int → MS → Prop) (x2 : Int) (s0 : MS) : Prop := EW mm_text (d + 12) 0 0 (mQi g K) 123 [(0, aR (some mT)), (2, aI x2)] [] (mh s0 g)
def W_text_148 (d : Nat) (g : AH) (K : Int → MS → Prop) (x2 : Int) (x3 : Int) (s0 : MS) : Prop := EW mm_text (d + 12) 0 0 (mQi g K) 148 [(0, aR (some mT)), (2, aI x2), (3, aI x3)] [] (mh s0 g)
def W_text_198 (d : Nat) (g : AH) (K : Int → MS → Prop) (x2 : Int) (s0 : MS) : Prop := EW mm_text (d + 12) 0 0 (mQi g K) 198 [(0, aR (some mT)), (2, aI x2)] [] (mh s0 g)
set_option maxHeartbeats 4000000 in
theorem T_text_76 (d : Nat) (g : AH) (K : Int → MS → Prop) (x2 : Int) (s0 : MS) (H : B_text_76 (W_text_76 d g K) (W_text_123 d g K) (W_text_148 d g K) (W_text_198 d g K) K x2 s0) : EW mm_text (d + 12) 0 0 (mQi g K) 76 [(0, aR (some mT)), (2, aI x2)] [] (mh s0 g) := by
  refine ew_iload_n dX7_text_76 rfl lm1 ?_
  refine ew_aload_n dX7_text_77 rfl lm0 ?_
  refine mw_gI dX7_text_78 (e_fl.a q1412) mf_6 rfl ?_
  refine ew_icmp_ge (tgt := 105) dX7_text_81 (by decide) (fun c1 => ?_) (fun c1 => ?_)
  · replace H := H.1 c1
    refine ew_aload_n dX7_text_105 rfl lm0 ?_
    refine ew_aload_n dX7_text_106 rfl lm0 ?_
    refine mw_gI dX7_text_107 (e_fl.a q1430) mf_24 rfl ?_
    refine mw_pI dX7_text_110 (e_fl.a q1414) mf_8 (Or.inl rfl) (ty := .int) (by decide +kernel) trivial (fun s2 e3 => ?_)
    replace H := H s2 e3
    refine ew_aload_n dX7_text_113 rfl lm0 ?_
    refine ew_aload_n dX7_text_114 rfl lm0 ?_
    refine mw_gI dX7_text_115 (e_fl.a q1414) mf_8 rfl ?_
    refine mw_pI dX7_text_118 (e_fl.a q1415) mf_9 (Or.inl rfl) (ty := .int) (by decide +kernel) trivial (fun s4 e5 => ?_)
    replace H := H s4 e5
    refine ew_iconst dX7_text_121 (inI_of rfl) ?_
    refine ew_istore_n dX7_text_122 rfl (by decide) (lv' := [(2, aI 0), (0, aR (some mT))]) rfl ?_
    refine ew_sub (List.forall_mem_cons.mpr ⟨lm1, (List.forall_mem_cons.mpr ⟨lm0, e_nm⟩)⟩) ?_
    exact ew_sub (List.forall_mem_cons.mpr ⟨lm0, (List.forall_mem_cons.mpr ⟨lm1, e_nm⟩)⟩) H
  · replace H := H.2 c1
    refine ew_aload_n dX7_text_84 rfl lm0 ?_
    refine mw_gA dX7_text_85 (e_fl.a q1413) mf_7 rfl ?_
    refine ew_iload_n dX7_text_88 rfl lm1 ?_
    refine ew_aload_n dX7_text_89 rfl lm0 ?_
    refine mw_gA dX7_text_90 (e_fl.a q1413) mf_7 rfl ?_
    refine ew_bipush dX7_text_93 (inI_of rfl) (by decide) ?_
    refine ew_iload_n dX7_text_95 rfl lm1 ?_
    obtain ⟨v6, H⟩ := H
    refine ew_iadd dX7_text_96 v6 ?_
    obtain ⟨v7, H⟩ := H
    refine mw_iald dX7_text_97 rfl v7.1 v7.2 ?_
    obtain ⟨v10, H⟩ := H
    refine mw_iast dX7_text_98 rfl v10.1 v10.2 (fun s8 e9 => ?_)
    replace H := H s8 e9
    obtain ⟨v11, H⟩ := H
    refine ew_iinc dX7_text_99 lm1 (by decide) v11 (lv' := [(2, aI (x2 + 1)), (0, aR (some mT))]) rfl ?_
    refine ew_sub (List.forall_mem_cons.mpr ⟨lm1, (List.forall_mem_cons.mpr ⟨lm0, e_nm⟩)⟩) ?_
    refine ew_goto (tgt := 76) dX7_text_102 (by decide) ?_
    exact ew_sub (List.forall_mem_cons.mpr ⟨lm0, (List.forall_mem_cons.mpr ⟨lm1, e_nm⟩)⟩) H
set_option maxHeartbeats 4000000 in
theorem T_text_123 (d : Nat) (g : AH) (K : Int → MS → Prop) (x2 : Int) (s0 : MS) (H : B_text_123 (W_text_76 d g K) (W_text_123 d g K) (W_text_148 d g K) (W_text_198 d g K) K x2 s0) : EW mm_text (d + 12) 0 0 (mQi g K) 123 [(0, aR (some mT)), (2, aI x2)] [] (mh s0 g) := by
  refine ew_iload_n dX7_text_123 rfl lm1 ?_
  refine ew_aload_n dX7_text_124 rfl lm0 ?_
  refine mw_gI dX7_text_125 (e_fl.a q1414) mf_8 rfl ?_
  refine ew_icmp_ge (tgt := 188) dX7_text_128 (by decide) (fun c1 => ?_) (fun c1 => ?_)
  · replace H := H.1 c1
    refine ew_aload_n dX7_text_188 rfl lm0 ?_
    refine ew_aload_n dX7_text_189 rfl lm0 ?_
    refine mw_gI dX7_text_190 (e_fl.a q1427) mf_21 rfl ?_
    refine mw_pI dX7_text_193 (e_fl.a q1432) mf_26 (Or.inl rfl) (ty := .int) (by decide +kernel) trivial (fun s2 e3 => ?_)
    replace H := H s2 e3
    refine ew_iconst dX7_text_196 (inI_of rfl) ?_
    refine ew_istore_n dX7_text_197 rfl (by decide) (lv' := [(2, aI 0), (0, aR (some mT))]) rfl ?_
    refine ew_sub (List.forall_mem_cons.mpr ⟨lm1, (List.forall_mem_cons.mpr ⟨lm0, e_nm⟩)⟩) ?_
    exact ew_sub (List.forall_mem_cons.mpr ⟨lm0, (List.forall_mem_cons.mpr ⟨lm1, e_nm⟩)⟩) H
  · replace H := H.2 c1
    refine ew_aload_n dX7_text_131 rfl lm0 ?_
    refine mw_gA dX7_text_132 (e_fl.a q1416) mf_10 rfl ?_
    refine ew_iload_n dX7_text_135 rfl lm1 ?_
    refine ew_aload_n dX7_text_136 rfl lm0 ?_
    refine mw_gA dX7_text_137 (e_fl.a q1416) mf_10 rfl ?_
    refine ew_bipush dX7_text_140 (inI_of rfl) (by decide) ?_
    refine ew_iload_n dX7_text_142 rfl lm1 ?_
    obtain ⟨v4, H⟩ := H
    refine ew_iadd dX7_text_143 v4 ?_
    obtain ⟨v5, H⟩ := H
    refine mw_iald dX7_text_144 rfl v5.1 v5.2 ?_
    obtain ⟨v8, H⟩ := H
    refine mw_iast dX7_text_145 rfl v8.1 v8.2 (fun s6 e7 => ?_)
    replace H := H s6 e7
    refine ew_iconst dX7_text_146 (inI_of rfl) ?_
    refine ew_istore_n dX7_text_147 rfl (by decide) (lv' := [(3, aI 0), (0, aR (some mT)), (2, aI x2)]) rfl ?_
    refine ew_sub (List.forall_mem_cons.mpr ⟨lm1, (List.forall_mem_cons.mpr ⟨lm2, (List.forall_mem_cons.mpr ⟨lm0, e_nm⟩)⟩)⟩) ?_
    exact ew_sub (List.forall_mem_cons.mpr ⟨lm0, (List.forall_mem_cons.mpr ⟨lm1, (List.forall_mem_cons.mpr ⟨lm2, e_nm⟩)⟩)⟩) H
set_option maxHeartbeats 4000000 in
theorem T_text_148 (d : Nat) (g : AH) (K : Int → MS → Prop) (x2 : Int) (x3 : Int) (s0 : MS) (H : B_text_148 (W_text_76 d g K) (W_text_123 d g K) (W_text_148 d g K) (W_text_198 d g K) K x2 x3 s0) : EW mm_text (d + 12) 0 0 (mQi g K) 148 [(0, aR (some mT)), (2, aI x2), (3, aI x3)] [] (mh s0 g) := by
  refine ew_iload_n dX7_text_148 rfl lm2 ?_
  refine ew_iconst dX7_text_149 (inI_of rfl) ?_
  refine ew_icmp_ge (tgt := 182) dX7_text_150 (by decide) (fun c1 => ?_) (fun c1 => ?_)
  · replace H := H.1 c1
    obtain ⟨v2, H⟩ := H
    refine ew_iinc dX7_text_182 lm1 (by decide) v2 (lv' := [(2, aI (x2 + 1)), (0, aR (some mT)), (3, aI x3)]) rfl ?_
    refine ew_sub (List.forall_mem_cons.mpr ⟨lm1, (List.forall_mem_cons.mpr ⟨lm0, (List.forall_mem_cons.mpr ⟨lm2, e_nm⟩)⟩)⟩) ?_
    refine ew_goto (tgt := 123) dX7_text_185 (by decide) ?_
    exact ew_sub (List.forall_mem_cons.mpr ⟨lm0, (List.forall_mem_cons.mpr ⟨lm1, e_nm⟩)⟩) H
  · replace H := H.2 c1
    refine ew_aload_n dX7_text_153 rfl lm0 ?_
    refine mw_gA dX7_text_154 (e_fl.a q1417) mf_11 rfl ?_
    refine ew_iconst dX7_text_157 (inI_of rfl) ?_
    refine ew_iload_n dX7_text_158 rfl lm1 ?_
    obtain ⟨v3, H⟩ := H
    refine ew_imul dX7_text_159 v3 ?_
    refine ew_iload_n dX7_text_160 rfl lm2 ?_
    obtain ⟨v4, H⟩ := H
    refine ew_iadd dX7_text_161 v4 ?_
    refine ew_aload_n dX7_text_162 rfl lm0 ?_
    refine mw_gA dX7_text_163 (e_fl.a q1417) mf_11 rfl ?_
    refine ew_iconst dX7_text_166 (inI_of rfl) ?_
    refine ew_bipush dX7_text_167 (inI_of rfl) (by decide) ?_
    refine ew_iload_n dX7_text_169 rfl lm1 ?_
    obtain ⟨v5, H⟩ := H
    refine ew_iadd dX7_text_170 v5 ?_
    obtain ⟨v6, H⟩ := H
    refine ew_imul dX7_text_171 v6 ?_
    refine ew_iload_n dX7_text_172 rfl lm2 ?_
    obtain ⟨v7, H⟩ := H
    refine ew_iadd dX7_text_173 v7 ?_
    obtain ⟨v8, H⟩ := H
    refine mw_iald dX7_text_174 rfl v8.1 v8.2 ?_
    obtain ⟨v11, H⟩ := H
    refine mw_iast dX7_text_175 rfl v11.1 v11.2 (fun s9 e10 => ?_)
    replace H := H s9 e10
    obtain ⟨v12, H⟩ := H
    refine ew_iinc dX7_text_176 lm2 (by decide) v12 (lv' := [(3, aI (x3 + 1)), (0, aR (some mT)), (2, aI x2)]) rfl ?_
    refine ew_sub (List.forall_mem_cons.mpr ⟨lm1, (List.forall_mem_cons.mpr ⟨lm2, (List.forall_mem_cons.mpr ⟨lm0, e_nm⟩)⟩)⟩) ?_
    refine ew_goto (tgt := 148) dX7_text_179 (by decide) ?_
    exact ew_sub (List.forall_mem_cons.mpr ⟨lm0, (List.forall_mem_cons.mpr ⟨lm1, (List.forall_mem_cons.mpr ⟨lm2, e_nm⟩)⟩)⟩) H
set_option maxHeartbeats 4000000 in
theorem T_text_198 (d : Nat) (g : AH) (K : Int → MS → Prop) (x2 : Int) (s0 : MS) (H : B_text_198 (W_text_76 d g K) (W_text_123 d g K) (W_text_148 d g K) (W_text_198 d g K) K x2 s0) : EW mm_text (d + 12) 0 0 (mQi g K) 198 [(0, aR (some mT)), (2, aI x2)] [] (mh s0 g) := by
  refine ew_iload_n dX7_text_198 rfl lm1 ?_
  refine ew_sipush dX7_text_199 (inI_of rfl) (by decide) ?_
  refine ew_icmp_ge (tgt := 227) dX7_text_202 (by decide) (fun c1 => ?_) (fun c1 => ?_)
  · replace H := H.1 c1
    refine ew_aload_n dX7_text_227 rfl lm0 ?_
    refine ew_callV (d := d + 11) (as := []) rfl dX7_text_228 me_makes rfl (ci := 1) rfl rfl (mh_o _ _) (Or.inl q1668) q1670 qs73 (Nat.le_of_ble_eq_true rfl) (Nat.le_refl 0) (Nat.le_refl 0) (S_makes (d := d + 4) H) (fun o h' hq3 _ => ?_) (fun E i h' q _ => (mQ_no q).elim)
    obtain ⟨s2, E4, rfl, H⟩ := hq3
    cases E4
    refine ew_aload_n dX7_text_231 rfl lm0 ?_
    refine mw_gI dX7_text_232 (e_fl.a q1433) mf_27 rfl ?_
    exact ew_ret (o := some (aI (s2.1 27))) rfl ⟨_, _, rfl, rfl, H⟩ ⟨dX7_text_235, .int, rfl, Or.inl rfl, rfl⟩
  · replace H := H.2 c1
    refine ew_aload_n dX7_text_205 rfl lm0 ?_
    refine mw_gA dX7_text_206 (e_fl.a q1418) mf_12 rfl ?_
    refine ew_iload_n dX7_text_209 rfl lm1 ?_
    refine ew_aload_n dX7_text_210 rfl lm0 ?_
    refine mw_gA dX7_text_211 (e_fl.a q1418) mf_12 rfl ?_
    refine ew_sipush dX7_text_214 (inI_of rfl) (by decide) ?_
    refine ew_iload_n dX7_text_217 rfl lm1 ?_
    obtain ⟨v5, H⟩ := H
    refine ew_iadd dX7_text_218 v5 ?_
    obtain ⟨v6, H⟩ := H
    refine mw_iald dX7_text_219 rfl v6.1 v6.2 ?_
    obtain ⟨v9, H⟩ := H
    refine mw_iast dX7_text_220 rfl v9.1 v9.2 (fun s7 e8 => ?_)
    replace H := H s7 e8
    obtain ⟨v10, H⟩ := H
    refine ew_iinc dX7_text_221 lm1 (by decide) v10 (lv' := [(2, aI (x2 + 1)), (0, aR (some mT))]) rfl ?_
    refine ew_sub (List.forall_mem_cons.mpr ⟨lm1, (List.forall_mem_cons.mpr ⟨lm0, e_nm⟩)⟩) ?_
    refine ew_goto (tgt := 198) dX7_text_224 (by decide) ?_
    exact ew_sub (List.forall_mem_cons.mpr ⟨lm0, (List.forall_mem_cons.mpr ⟨lm1, e_nm⟩)⟩) H
set_option maxHeartbeats 4000000 in
theorem T_text_E (d : Nat) (g : AH) (K : Int → MS → Prop) (a : Int) (s0 : MS) (H : B_text_E (W_text_76 d g K) (W_text_123 d g K) (W_text_148 d g K) (W_text_198 d g K) K a s0) : EW mm_text (d + 12) 0 0 (mQi g K) 0 [(0, aR (some mT)), (1, aI a)] [] (mh s0 g) := by
  refine ew_aload_n dX7_text_0 rfl lm0 ?_
  refine ew_iload_n dX7_text_1 rfl lm1 ?_
  refine ew_iconst dX7_text_2 (inI_of rfl) ?_
  refine ew_aload_n dX7_text_3 rfl lm0 ?_
  refine mw_gI dX7_text_4 (e_fl.a q1411) mf_5 rfl ?_
  refine ew_callS (d := d + 11) (as := [aI a, aI 0, aI (s0.1 5)]) rfl dX7_text_7 me_in rfl (Or.inl q1591) q1592 (Nat.le_of_ble_eq_true rfl) (Nat.le_refl 0) (Nat.le_refl 0) (S_in (d := d + 11) H) (fun o h' hq2 _ => ?_) (fun E i h' q _ => (mQi_no q).elim)
  obtain ⟨r4, s1, E3, rfl, H⟩ := hq2
  cases E3
  refine ew_if_eq (tgt := 17) dX7_text_10 (by decide) (fun c5 => ?_) (fun c5 => ?_)
  · replace H := H.1 c5
    refine ew_iconst dX7_text_17 (inI_of rfl) ?_
    refine ew_callV (d := d + 11) (as := [aI 2]) rfl dX7_text_18 me_isRefused rfl (ci := 1) rfl rfl (mh_o _ _) (Or.inl q1594) q1596 qs56 (Nat.le_of_ble_eq_true rfl) (Nat.le_refl 0) (Nat.le_refl 0) (S_isRefused (d := d + 11) H) (fun o h' hq7 _ => ?_) (fun E i h' q _ => (mQi_no q).elim)
    obtain ⟨r9, s6, E8, rfl, H⟩ := hq7
    cases E8
    refine ew_if_eq (tgt := 26) dX7_text_21 (by decide) (fun c10 => ?_) (fun c10 => ?_)
    · replace H := H.1 c10
      refine ew_aload_n dX7_text_26 rfl lm0 ?_
      refine ew_iconst dX7_text_27 (inI_of rfl) ?_
      refine mw_pI dX7_text_28 (e_fl.a q1411) mf_5 (Or.inl rfl) (ty := .int) (by decide +kernel) trivial (fun s11 e12 => ?_)
      replace H := H s11 e12
      refine ew_aload_n dX7_text_31 rfl lm0 ?_
      refine ew_iconst dX7_text_32 (inI_of rfl) ?_
      refine mw_pI dX7_text_33 (e_fl.a q1408) mf_2 (Or.inl rfl) (ty := .int) (by decide +kernel) trivial (fun s13 e14 => ?_)
      replace H := H s13 e14
      refine ew_aload_n dX7_text_36 rfl lm0 ?_
      refine ew_iload_n dX7_text_37 rfl lm1 ?_
      refine ew_callV (d := d + 11) (as := [aI a]) rfl dX7_text_38 me_readAll rfl (ci := 1) rfl rfl (mh_o _ _) (Or.inl q1598) q1600 qs57 (Nat.le_of_ble_eq_true rfl) (Nat.le_refl 0) (Nat.le_refl 0) (S_readAll (d := d + 0) H) (fun o h' hq16 _ => ?_) (fun E i h' q _ => (mQi_no q).elim)
      obtain ⟨r18, s15, E17, rfl, H⟩ := hq16
      cases E17
      refine ew_if_ne (tgt := 66) dX7_text_41 (by decide) (fun c19 => ?_) (fun c19 => ?_)
      · replace H := H.2 c19
        refine ew_aload_n dX7_text_66 rfl lm0 ?_
        refine ew_aload_n dX7_text_67 rfl lm0 ?_
        refine mw_gI dX7_text_68 (e_fl.a q1426) mf_20 rfl ?_
        refine mw_pI dX7_text_71 (e_fl.a q1412) mf_6 (Or.inl rfl) (ty := .int) (by decide +kernel) trivial (fun s20 e21 => ?_)
        replace H := H s20 e21
        refine ew_iconst dX7_text_74 (inI_of rfl) ?_
        refine ew_istore_n dX7_text_75 rfl (by decide) (lv' := [(2, aI 0), (0, aR (some mT)), (1, aI a)]) rfl ?_
        refine ew_sub (List.forall_mem_cons.mpr ⟨lm1, (List.forall_mem_cons.mpr ⟨lm2, (List.forall_mem_cons.mpr ⟨lm0, e_nm⟩)⟩)⟩) ?_
        exact ew_sub (List.forall_mem_cons.mpr ⟨lm0, (List.forall_mem_cons.mpr ⟨lm2, e_nm⟩)⟩) H
      · replace H := H.1 c19
        refine ew_aload_n dX7_text_44 rfl lm0 ?_
        refine ew_aload_n dX7_text_45 rfl lm0 ?_
        refine mw_gI dX7_text_46 (e_fl.a q1424) mf_18 rfl ?_
        refine mw_pI dX7_text_49 (e_fl.a q1408) mf_2 (Or.inl rfl) (ty := .int) (by decide +kernel) trivial (fun s22 e23 => ?_)
        replace H := H s22 e23
        refine ew_aload_n dX7_text_52 rfl lm0 ?_
        refine ew_aload_n dX7_text_53 rfl lm0 ?_
        refine mw_gI dX7_text_54 (e_fl.a q1425) mf_19 rfl ?_
        refine mw_pI dX7_text_57 (e_fl.a q1409) mf_3 (Or.inl rfl) (ty := .int) (by decide +kernel) trivial (fun s24 e25 => ?_)
        replace H := H s24 e25
        refine ew_aload_n dX7_text_60 rfl lm0 ?_
        refine ew_iconst dX7_text_61 (inI_of rfl) ?_
        refine ew_callV (d := d + 11) (as := [aI 4]) rfl dX7_text_62 me_no rfl (ci := 1) rfl rfl (mh_o _ _) (Or.inl q1664) q1666 qs72 (Nat.le_of_ble_eq_true rfl) (Nat.le_refl 0) (Nat.le_refl 0) (S_no (d := d + 11) H) (fun o h' hq27 _ => ?_) (fun E i h' q _ => (mQi_no q).elim)
        obtain ⟨r29, s26, E28, rfl, H⟩ := hq27
        cases E28
        exact ew_ret (o := some (aI r29)) rfl ⟨_, _, rfl, rfl, H⟩ ⟨dX7_text_65, .int, rfl, Or.inl rfl, rfl⟩
    · replace H := H.2 c10
      refine ew_iconst dX7_text_24 (inI_of rfl) ?_
      exact ew_ret (o := some (aI (-1))) rfl ⟨_, _, rfl, rfl, H⟩ ⟨dX7_text_25, .int, rfl, Or.inl rfl, rfl⟩
  · replace H := H.2 c5
    refine ew_iconst dX7_text_13 (inI_of rfl) ?_
    refine ew_goto (tgt := 18) dX7_text_14 (by decide) ?_
    refine ew_callV (d := d + 11) (as := [aI 0]) rfl dX7_text_18 me_isRefused rfl (ci := 1) rfl rfl (mh_o _ _) (Or.inl q1594) q1596 qs56 (Nat.le_of_ble_eq_true rfl) (Nat.le_refl 0) (Nat.le_refl 0) (S_isRefused (d := d + 11) H) (fun o h' hq31 _ => ?_) (fun E i h' q _ => (mQi_no q).elim)
    obtain ⟨r33, s30, E32, rfl, H⟩ := hq31
    cases E32
    refine ew_if_eq (tgt := 26) dX7_text_21 (by decide) (fun c34 => ?_) (fun c34 => ?_)
    · replace H := H.1 c34
      refine ew_aload_n dX7_text_26 rfl lm0 ?_
      refine ew_iconst dX7_text_27 (inI_of rfl) ?_
      refine mw_pI dX7_text_28 (e_fl.a q1411) mf_5 (Or.inl rfl) (ty := .int) (by decide +kernel) trivial (fun s35 e36 => ?_)
      replace H := H s35 e36
      refine ew_aload_n dX7_text_31 rfl lm0 ?_
      refine ew_iconst dX7_text_32 (inI_of rfl) ?_
      refine mw_pI dX7_text_33 (e_fl.a q1408) mf_2 (Or.inl rfl) (ty := .int) (by decide +kernel) trivial (fun s37 e38 => ?_)
      replace H := H s37 e38
      refine ew_aload_n dX7_text_36 rfl lm0 ?_
      refine ew_iload_n dX7_text_37 rfl lm1 ?_
      refine ew_callV (d := d + 11) (as := [aI a]) rfl dX7_text_38 me_readAll rfl (ci := 1) rfl rfl (mh_o _ _) (Or.inl q1598) q1600 qs57 (Nat.le_of_ble_eq_true rfl) (Nat.le_refl 0) (Nat.le_refl 0) (S_readAll (d := d + 0) H) (fun o h' hq40 _ => ?_) (fun E i h' q _ => (mQi_no q).elim)
      obtain ⟨r42, s39, E41, rfl, H⟩ := hq40
      cases E41
      refine ew_if_ne (tgt := 66) dX7_text_41 (by decide) (fun c43 => ?_) (fun c43 => ?_)
      · replace H := H.2 c43
        refine ew_aload_n dX7_text_66 rfl lm0 ?_
        refine ew_aload_n dX7_text_67 rfl lm0 ?_
        refine mw_gI dX7_text_68 (e_fl.a q1426) mf_20 rfl ?_
        refine mw_pI dX7_text_71 (e_fl.a q1412) mf_6 (Or.inl rfl) (ty := .int) (by decide +kernel) trivial (fun s44 e45 => ?_)
        replace H := H s44 e45
        refine ew_iconst dX7_text_74 (inI_of rfl) ?_
        refine ew_istore_n dX7_text_75 rfl (by decide) (lv' := [(2, aI 0), (0, aR (some mT)), (1, aI a)]) rfl ?_
        refine ew_sub (List.forall_mem_cons.mpr ⟨lm1, (List.forall_mem_cons.mpr ⟨lm2, (List.forall_mem_cons.mpr ⟨lm0, e_nm⟩)⟩)⟩) ?_
        exact ew_sub (List.forall_mem_cons.mpr ⟨lm0, (List.forall_mem_cons.mpr ⟨lm2, e_nm⟩)⟩) H
      · replace H := H.1 c43
        refine ew_aload_n dX7_text_44 rfl lm0 ?_
        refine ew_aload_n dX7_text_45 rfl lm0 ?_
        refine mw_gI dX7_text_46 (e_fl.a q1424) mf_18 rfl ?_
        refine mw_pI dX7_text_49 (e_fl.a q1408) mf_2 (Or.inl rfl) (ty := .int) (by decide +kernel) trivial (fun s46 e47 => ?_)
        replace H := H s46 e47
        refine ew_aload_n dX7_text_52 rfl lm0 ?_
        refine ew_aload_n dX7_text_53 rfl lm0 ?_
        refine mw_gI dX7_text_54 (e_fl.a q1425) mf_19 rfl ?_
        refine mw_pI dX7_text_57 (e_fl.a q1409) mf_3 (Or.inl rfl) (ty := .int) (by decide +kernel) trivial (fun s48 e49 => ?_)
        replace H := H s48 e49
        refine ew_aload_n dX7_text_60 rfl lm0 ?_
        refine ew_iconst dX7_text_61 (inI_of rfl) ?_
        refine ew_callV (d := d + 11) (as := [aI 4]) rfl dX7_text_62 me_no rfl (ci := 1) rfl rfl (mh_o _ _) (Or.inl q1664) q1666 qs72 (Nat.le_of_ble_eq_true rfl) (Nat.le_refl 0) (Nat.le_refl 0) (S_no (d := d + 11) H) (fun o h' hq51 _ => ?_) (fun E i h' q _ => (mQi_no q).elim)
        obtain ⟨r53, s50, E52, rfl, H⟩ := hq51
        cases E52
        exact ew_ret (o := some (aI r53)) rfl ⟨_, _, rfl, rfl, H⟩ ⟨dX7_text_65, .int, rfl, Or.inl rfl, rfl⟩
    · replace H := H.2 c34
      refine ew_iconst dX7_text_24 (inI_of rfl) ?_
      exact ew_ret (o := some (aI (-1))) rfl ⟨_, _, rfl, rfl, H⟩ ⟨dX7_text_25, .int, rfl, Or.inl rfl, rfl⟩
def C_text (a : Int) (s0 : MS) (K : Int → MS → Prop) : Prop := ∀ (X76 : Int → MS → Prop) (X123 : Int → MS → Prop) (X148 : Int → Int → MS → Prop) (X198 : Int → MS → Prop), (∀ (x2 : Int) (s0 : MS), B_text_76 X76 X123 X148 X198 K x2 s0 → X76 x2 s0) → (∀ (x2 : Int) (s0 : MS), B_text_123 X76 X123 X148 X198 K x2 s0 → X123 x2 s0) → (∀ (x2 : Int) (x3 : Int) (s0 : MS), B_text_148 X76 X123 X148 X198 K x2 x3 s0 → X148 x2 x3 s0) → (∀ (x2 : Int) (s0 : MS), B_text_198 X76 X123 X148 X198 K x2 s0 → X198 x2 s0) → B_text_E X76 X123 X148 X198 K a s0
theorem S_text {d : Nat} {g : AH} {K : Int → MS → Prop} {a : Int} {s0 : MS} (H : C_text a s0 K) : Sp mm_text (d + 12) 0 0 [aR (some mT), aI a] (mh s0 g) (mQi g K) :=
  ew_sp rfl (Nat.le_of_ble_eq_true rfl) (T_text_E d g K a s0 (H _ _ _ _ (fun x2 s0 H => T_text_76 d g K x2 s0 H) (fun x2 s0 H => T_text_123 d g K x2 s0 H) (fun x2 x3 s0 H => T_text_148 d g K x2 x3 s0 H) (fun x2 s0 H => T_text_198 d g K x2 s0 H)))
abbrev mm_fault : EM := (yX7_fault, cX7_fault, 1, some .int, [])
theorem me_fault : e_mth mm_fault 0 := ⟨rfl, q1723, q117, by decide +kernel, by decide⟩
def B_fault_E  (K : Int → MS → Prop)  (s0 : MS) : Prop :=
  (∀ s1 : MS, s1 = ms s0 0 0 → K (s1.1 2) s1)
set_option maxHeartbeats 4000000 in
theorem T_fault_E (d : Nat) (g : AH) (K : Int → MS → Prop)  (s0 : MS) (H : B_fault_E  K  s0) : EW mm_fault (d + 0) 0 0 (mQi g K) 0 [(0, aR (some mT))] [] (mh s0 g) := by
  refine ew_aload_n dX7_fault_0 rfl lm0 ?_
  refine ew_iconst dX7_fault_1 (inI_of rfl) ?_
  refine mw_pI dX7_fault_2 (e_fl.a q1406) mf_0 (Or.inl rfl) (ty := .int) (by decide +kernel) trivial (fun s1 e2 => ?_)
  replace H := H s1 e2
  refine ew_aload_n dX7_fault_5 rfl lm0 ?_
  refine mw_gI dX7_fault_6 (e_fl.a q1408) mf_2 rfl ?_
  exact ew_ret (o := some (aI (s1.1 2))) rfl ⟨_, _, rfl, rfl, H⟩ ⟨dX7_fault_9, .int, rfl, Or.inl rfl, rfl⟩
def C_fault  (s0 : MS) (K : Int → MS → Prop) : Prop := B_fault_E  K  s0
theorem S_fault {d : Nat} {g : AH} {K : Int → MS → Prop}  {s0 : MS} (H : C_fault  s0 K) : Sp mm_fault (d + 0) 0 0 [aR (some mT)] (mh s0 g) (mQi g K) :=
  ew_sp rfl (Nat.le_of_ble_eq_true rfl) (T_fault_E d g K  s0 (H  ))
abbrev mm_where : EM := (yX7_where, cX7_where, 1, some .int, [])
theorem me_where : e_mth mm_where 0 := ⟨rfl, q1727, q117, by decide +kernel, by decide⟩
def B_where_E  (K : Int → MS → Prop)  (s0 : MS) : Prop :=
  (∀ s1 : MS, s1 = ms s0 0 0 → (((s1.1 1) = 4 → K (s1.1 3) s1) ∧ (¬ (s1.1 1) = 4 → K (-1) s1)))
set_option maxHeartbeats 4000000 in
theorem T_where_E (d : Nat) (g : AH) (K : Int → MS → Prop)  (s0 : MS) (H : B_where_E  K  s0) : EW mm_where (d + 0) 0 0 (mQi g K) 0 [(0, aR (some mT))] [] (mh s0 g) := by
  refine ew_aload_n dX7_where_0 rfl lm0 ?_
  refine ew_iconst dX7_where_1 (inI_of rfl) ?_
  refine mw_pI dX7_where_2 (e_fl.a q1406) mf_0 (Or.inl rfl) (ty := .int) (by decide +kernel) trivial (fun s1 e2 => ?_)
  replace H := H s1 e2
  refine ew_aload_n dX7_where_5 rfl lm0 ?_
  refine mw_gI dX7_where_6 (e_fl.a q1407) mf_1 rfl ?_
  refine ew_iconst dX7_where_9 (inI_of rfl) ?_
  refine ew_icmp_ne (tgt := 20) dX7_where_10 (by decide) (fun c3 => ?_) (fun c3 => ?_)
  · replace H := H.2 c3
    refine ew_iconst dX7_where_20 (inI_of rfl) ?_
    exact ew_ret (o := some (aI (-1))) rfl ⟨_, _, rfl, rfl, H⟩ ⟨dX7_where_21, .int, rfl, Or.inl rfl, rfl⟩
  · replace H := H.1 c3
    refine ew_aload_n dX7_where_13 rfl lm0 ?_
    refine mw_gI dX7_where_14 (e_fl.a q1409) mf_3 rfl ?_
    refine ew_goto (tgt := 21) dX7_where_17 (by decide) ?_
    exact ew_ret (o := some (aI (s1.1 3))) rfl ⟨_, _, rfl, rfl, H⟩ ⟨dX7_where_21, .int, rfl, Or.inl rfl, rfl⟩
def C_where  (s0 : MS) (K : Int → MS → Prop) : Prop := B_where_E  K  s0
theorem S_where {d : Nat} {g : AH} {K : Int → MS → Prop}  {s0 : MS} (H : C_where  s0 K) : Sp mm_where (d + 0) 0 0 [aR (some mT)] (mh s0 g) (mQi g K) :=
  ew_sp rfl (Nat.le_of_ble_eq_true rfl) (T_where_E d g K  s0 (H  ))
abbrev mm_unless : EM := (yX7_unless, cX7_unless, 1, some .int, [])
theorem me_unless : e_mth mm_unless 1 := ⟨rfl, q1734, q117, by decide +kernel, by decide⟩
def B_unless_E  (K : Int → MS → Prop) (a : Int) (s0 : MS) : Prop :=
  ((a = 0 → K 1 s0) ∧ (¬ a = 0 → K 0 s0))
set_option maxHeartbeats 4000000 in
theorem T_unless_E (d : Nat) (g : AH) (K : Int → MS → Prop) (a : Int) (s0 : MS) (H : B_unless_E  K a s0) : EW mm_unless (d + 0) 0 0 (mQi g K) 0 [(0, aI a)] [] (mh s0 g) := by
  refine ew_iload_n dX7_unless_0 rfl lm0 ?_
  refine ew_if_eq (tgt := 8) dX7_unless_1 (by decide) (fun c1 => ?_) (fun c1 => ?_)
  · replace H := H.1 c1
    refine ew_iconst dX7_unless_8 (inI_of rfl) ?_
    exact ew_ret (o := some (aI 1)) rfl ⟨_, _, rfl, rfl, H⟩ ⟨dX7_unless_9, .int, rfl, Or.inl rfl, rfl⟩
  · replace H := H.2 c1
    refine ew_iconst dX7_unless_4 (inI_of rfl) ?_
    refine ew_goto (tgt := 9) dX7_unless_5 (by decide) ?_
    exact ew_ret (o := some (aI 0)) rfl ⟨_, _, rfl, rfl, H⟩ ⟨dX7_unless_9, .int, rfl, Or.inl rfl, rfl⟩
def C_unless (a : Int) (s0 : MS) (K : Int → MS → Prop) : Prop := B_unless_E  K a s0
theorem S_unless {d : Nat} {g : AH} {K : Int → MS → Prop} {a : Int} {s0 : MS} (H : C_unless a s0 K) : Sp mm_unless (d + 0) 0 0 [aI a] (mh s0 g) (mQi g K) :=
  ew_sp rfl (Nat.le_of_ble_eq_true rfl) (T_unless_E d g K a s0 (H  ))
