set_option maxRecDepth 100000
abbrev mm_groupsIn : EM := (yX7_groupsIn, cX7_groupsIn, 4, some .int, [])
theorem me_groupsIn : e_mth mm_groupsIn 1 := ⟨rfl, q1738, q117, by decide +kernel, by decide⟩
def B_groupsIn_4 (X4 : Nat → Int → Int → MS → Prop) (K : Int → MS → Prop) (x1 : Nat) (x2 : Int) (x3 : Int) (s0 : MS) : Prop :=
  (((s0.1 27) ≤ x3 → K x2 s0) ∧ (¬ (s0.1 27) ≤ x3 → ((mK x1 = 1 ∧ 0 ≤ x3 ∧ x3 < (mL x1 : Int)) ∧ (((s0.2 x1 x3) = x3 → ((inI (x2 + 1)) ∧ (inI (x3 + 1) ∧ X4 x1 (x2 + 1) (x3 + 1) s0))) ∧ (¬ (s0.2 x1 x3) = x3 → ((inI (x2 + 0)) ∧ (inI (x3 + 1) ∧ X4 x1 (x2 + 0) (x3 + 1) s0)))))))
def B_groupsIn_E (X4 : Nat → Int → Int → MS → Prop) (K : Int → MS → Prop) (a : Nat) (s0 : MS) : Prop :=
  X4 a 0 0 s0
def W_groupsIn_4 (d : Nat) (g : AH) (K : Int → MS → Prop) (x1 : Nat) (x2 : Int) (x3 : Int) (s0 : MS) : Prop := EW mm_groupsIn (d + 0) 0 0 (mQi g K) 4 [(0, aR (some mT)), (1, aR (some (0, 1, x1))), (2, aI x2), (3, aI x3)] [] (mh s0 g)
set_option maxHeartbeats 4000000 in
theorem T_groupsIn_4 (d : Nat) (g : AH) (K : Int → MS → Prop) (x1 : Nat) (x2 : Int) (x3 : Int) (s0 : MS) (H : B_groupsIn_4 (W_groupsIn_4 d g K) K x1 x2 x3 s0) : EW mm_groupsIn (d + 0) 0 0 (mQi g K) 4 [(0, aR (some mT)), (1, aR (some (0, 1, x1))), (2, aI x2), (3, aI x3)] [] (mh s0 g) := by
  refine ew_iload_n dX7_groupsIn_4 rfl lm3 ?_
  refine ew_aload_n dX7_groupsIn_5 rfl lm0 ?_
  refine mw_gI dX7_groupsIn_6 (e_fl.a q1433) mf_27 rfl ?_
  refine ew_icmp_ge (tgt := 33) dX7_groupsIn_9 (by decide) (fun c1 => ?_) (fun c1 => ?_)
  · replace H := H.1 c1
    refine ew_iload_n dX7_groupsIn_33 rfl lm2 ?_
    exact ew_ret (o := some (aI x2)) rfl ⟨_, _, rfl, rfl, H⟩ ⟨dX7_groupsIn_34, .int, rfl, Or.inl rfl, rfl⟩
  · replace H := H.2 c1
    refine ew_iload_n dX7_groupsIn_12 rfl lm2 ?_
    refine ew_aload_n dX7_groupsIn_13 rfl lm1 ?_
    refine ew_iload_n dX7_groupsIn_14 rfl lm3 ?_
    obtain ⟨v2, H⟩ := H
    refine mw_iald dX7_groupsIn_15 v2.1 v2.2.1 v2.2.2 ?_
    refine ew_iload_n dX7_groupsIn_16 rfl lm3 ?_
    refine ew_icmp_ne (tgt := 24) dX7_groupsIn_17 (by decide) (fun c3 => ?_) (fun c3 => ?_)
    · replace H := H.2 c3
      refine ew_iconst dX7_groupsIn_24 (inI_of rfl) ?_
      obtain ⟨v4, H⟩ := H
      refine ew_iadd dX7_groupsIn_25 v4 ?_
      refine ew_istore_n dX7_groupsIn_26 rfl (by decide) (lv' := [(2, aI (x2 + 0)), (0, aR (some mT)), (1, aR (some (0, 1, x1))), (3, aI x3)]) rfl ?_
      refine ew_sub (List.forall_mem_cons.mpr ⟨lm1, (List.forall_mem_cons.mpr ⟨lm2, (List.forall_mem_cons.mpr ⟨lm0, (List.forall_mem_cons.mpr ⟨lm3, e_nm⟩)⟩)⟩)⟩) ?_
      obtain ⟨v5, H⟩ := H
      refine ew_iinc dX7_groupsIn_27 lm3 (by decide) v5 (lv' := [(3, aI (x3 + 1)), (0, aR (some mT)), (1, aR (some (0, 1, x1))), (2, aI (x2 + 0))]) rfl ?_
      refine ew_sub (List.forall_mem_cons.mpr ⟨lm1, (List.forall_mem_cons.mpr ⟨lm2, (List.forall_mem_cons.mpr ⟨lm3, (List.forall_mem_cons.mpr ⟨lm0, e_nm⟩)⟩)⟩)⟩) ?_
      refine ew_goto (tgt := 4) dX7_groupsIn_30 (by decide) ?_
      exact ew_sub (List.forall_mem_cons.mpr ⟨lm0, (List.forall_mem_cons.mpr ⟨lm1, (List.forall_mem_cons.mpr ⟨lm2, (List.forall_mem_cons.mpr ⟨lm3, e_nm⟩)⟩)⟩)⟩) H
    · replace H := H.1 c3
      refine ew_iconst dX7_groupsIn_20 (inI_of rfl) ?_
      refine ew_goto (tgt := 25) dX7_groupsIn_21 (by decide) ?_
      obtain ⟨v6, H⟩ := H
      refine ew_iadd dX7_groupsIn_25 v6 ?_
      refine ew_istore_n dX7_groupsIn_26 rfl (by decide) (lv' := [(2, aI (x2 + 1)), (0, aR (some mT)), (1, aR (some (0, 1, x1))), (3, aI x3)]) rfl ?_
      refine ew_sub (List.forall_mem_cons.mpr ⟨lm1, (List.forall_mem_cons.mpr ⟨lm2, (List.forall_mem_cons.mpr ⟨lm0, (List.forall_mem_cons.mpr ⟨lm3, e_nm⟩)⟩)⟩)⟩) ?_
      obtain ⟨v7, H⟩ := H
      refine ew_iinc dX7_groupsIn_27 lm3 (by decide) v7 (lv' := [(3, aI (x3 + 1)), (0, aR (some mT)), (1, aR (some (0, 1, x1))), (2, aI (x2 + 1))]) rfl ?_
      refine ew_sub (List.forall_mem_cons.mpr ⟨lm1, (List.forall_mem_cons.mpr ⟨lm2, (List.forall_mem_cons.mpr ⟨lm3, (List.forall_mem_cons.mpr ⟨lm0, e_nm⟩)⟩)⟩)⟩) ?_
      refine ew_goto (tgt := 4) dX7_groupsIn_30 (by decide) ?_
      exact ew_sub (List.forall_mem_cons.mpr ⟨lm0, (List.forall_mem_cons.mpr ⟨lm1, (List.forall_mem_cons.mpr ⟨lm2, (List.forall_mem_cons.mpr ⟨lm3, e_nm⟩)⟩)⟩)⟩) H
set_option maxHeartbeats 4000000 in
theorem T_groupsIn_E (d : Nat) (g : AH) (K : Int → MS → Prop) (a : Nat) (s0 : MS) (H : B_groupsIn_E (W_groupsIn_4 d g K) K a s0) : EW mm_groupsIn (d + 0) 0 0 (mQi g K) 0 [(0, aR (some mT)), (1, aR (some (0, 1, a)))] [] (mh s0 g) := by
  refine ew_iconst dX7_groupsIn_0 (inI_of rfl) ?_
  refine ew_istore_n dX7_groupsIn_1 rfl (by decide) (lv' := [(2, aI 0), (0, aR (some mT)), (1, aR (some (0, 1, a)))]) rfl ?_
  refine ew_sub (List.forall_mem_cons.mpr ⟨lm1, (List.forall_mem_cons.mpr ⟨lm2, (List.forall_mem_cons.mpr ⟨lm0, e_nm⟩)⟩)⟩) ?_
  refine ew_iconst dX7_groupsIn_2 (inI_of rfl) ?_
  refine ew_istore_n dX7_groupsIn_3 rfl (by decide) (lv' := [(3, aI 0), (0, aR (some mT)), (1, aR (some (0, 1, a))), (2, aI 0)]) rfl ?_
  refine ew_sub (List.forall_mem_cons.mpr ⟨lm1, (List.forall_mem_cons.mpr ⟨lm2, (List.forall_mem_cons.mpr ⟨lm3, (List.forall_mem_cons.mpr ⟨lm0, e_nm⟩)⟩)⟩)⟩) ?_
  exact ew_sub (List.forall_mem_cons.mpr ⟨lm0, (List.forall_mem_cons.mpr ⟨lm1, (List.forall_mem_cons.mpr ⟨lm2, (List.forall_mem_cons.mpr ⟨lm3, e_nm⟩)⟩)⟩)⟩) H
def C_groupsIn (a : Nat) (s0 : MS) (K : Int → MS → Prop) : Prop := ∀ (X4 : Nat → Int → Int → MS → Prop), (∀ (x1 : Nat) (x2 : Int) (x3 : Int) (s0 : MS), B_groupsIn_4 X4 K x1 x2 x3 s0 → X4 x1 x2 x3 s0) → B_groupsIn_E X4 K a s0
theorem S_groupsIn {d : Nat} {g : AH} {K : Int → MS → Prop} {a : Nat} {s0 : MS} (H : C_groupsIn a s0 K) : Sp mm_groupsIn (d + 0) 0 0 [aR (some mT), aR (some (0, 1, a))] (mh s0 g) (mQi g K) :=
  ew_sp rfl (Nat.le_of_ble_eq_true rfl) (T_groupsIn_E d g K a s0 (H _ (fun x1 x2 x3 s0 H => T_groupsIn_4 d g K x1 x2 x3 s0 H)))
abbrev mm_clashIn : EM := (yX7_clashIn, cX7_clashIn, 3, some .int, [])
theorem me_clashIn : e_mth mm_clashIn 1 := ⟨rfl, q1742, q117, by decide +kernel, by decide⟩
def B_clashIn_2 (X2 : Nat → Int → MS → Prop) (K : Int → MS → Prop) (x1 : Nat) (x2 : Int) (s0 : MS) : Prop :=
  (((s0.1 33) ≤ x2 → K (-2) s0) ∧ (¬ (s0.1 33) ≤ x2 → ((0 ≤ x2 ∧ x2 < 8) ∧ ((mK x1 = 1 ∧ 0 ≤ (s0.2 34 x2) ∧ (s0.2 34 x2) < (mL x1 : Int)) ∧ ((0 ≤ x2 ∧ x2 < 8) ∧ ((mK x1 = 1 ∧ 0 ≤ (s0.2 35 x2) ∧ (s0.2 35 x2) < (mL x1 : Int)) ∧ (((s0.2 x1 (s0.2 34 x2)) = (s0.2 x1 (s0.2 35 x2)) → K x2 s0) ∧ (¬ (s0.2 x1 (s0.2 34 x2)) = (s0.2 x1 (s0.2 35 x2)) → (inI (x2 + 1) ∧ X2 x1 (x2 + 1) s0)))))))))
def B_clashIn_E (X2 : Nat → Int → MS → Prop) (K : Int → MS → Prop) (a : Nat) (s0 : MS) : Prop :=
  X2 a 0 s0
def W_clashIn_2 (d : Nat) (g : AH) (K : Int → MS → Prop) (x1 : Nat) (x2 : Int) (s0 : MS) : Prop := EW mm_clashIn (d + 0) 0 0 (mQi g K) 2 [(0, aR (some mT)), (1, aR (some (0, 1, x1))), (2, aI x2)] [] (mh s0 g)
set_option maxHeartbeats 4000000 in
theorem T_clashIn_2 (d : Nat) (g : AH) (K : Int → MS → Prop) (x1 : Nat) (x2 : Int) (s0 : MS) (H : B_clashIn_2 (W_clashIn_2 d g K) K x1 x2 s0) : EW mm_clashIn (d + 0) 0 0 (mQi g K) 2 [(0, aR (some mT)), (1, aR (some (0, 1, x1))), (2, aI x2)] [] (mh s0 g) := by
  refine ew_iload_n dX7_clashIn_2 rfl lm2 ?_
  refine ew_aload_n dX7_clashIn_3 rfl lm0 ?_
  refine mw_gI dX7_clashIn_4 (e_fl.a q1439) mf_33 rfl ?_
  refine ew_icmp_ge (tgt := 37) dX7_clashIn_7 (by decide) (fun c1 => ?_) (fun c1 => ?_)
  · replace H := H.1 c1
    refine ew_bipush dX7_clashIn_37 (inI_of rfl) (by decide) ?_
    exact ew_ret (o := some (aI (-2))) rfl ⟨_, _, rfl, rfl, H⟩ ⟨dX7_clashIn_39, .int, rfl, Or.inl rfl, rfl⟩
  · replace H := H.2 c1
    refine ew_aload_n dX7_clashIn_10 rfl lm1 ?_
    refine ew_aload_n dX7_clashIn_11 rfl lm0 ?_
    refine mw_gA dX7_clashIn_12 (e_fl.a q1440) mf_34 rfl ?_
    refine ew_iload_n dX7_clashIn_15 rfl lm2 ?_
    obtain ⟨v2, H⟩ := H
    refine mw_iald dX7_clashIn_16 rfl v2.1 v2.2 ?_
    obtain ⟨v3, H⟩ := H
    refine mw_iald dX7_clashIn_17 v3.1 v3.2.1 v3.2.2 ?_
    refine ew_aload_n dX7_clashIn_18 rfl lm1 ?_
    refine ew_aload_n dX7_clashIn_19 rfl lm0 ?_
    refine mw_gA dX7_clashIn_20 (e_fl.a q1441) mf_35 rfl ?_
    refine ew_iload_n dX7_clashIn_23 rfl lm2 ?_
    obtain ⟨v4, H⟩ := H
    refine mw_iald dX7_clashIn_24 rfl v4.1 v4.2 ?_
    obtain ⟨v5, H⟩ := H
    refine mw_iald dX7_clashIn_25 v5.1 v5.2.1 v5.2.2 ?_
    refine ew_icmp_ne (tgt := 31) dX7_clashIn_26 (by decide) (fun c6 => ?_) (fun c6 => ?_)
    · replace H := H.2 c6
      obtain ⟨v7, H⟩ := H
      refine ew_iinc dX7_clashIn_31 lm2 (by decide) v7 (lv' := [(2, aI (x2 + 1)), (0, aR (some mT)), (1, aR (some (0, 1, x1)))]) rfl ?_
      refine ew_sub (List.forall_mem_cons.mpr ⟨lm1, (List.forall_mem_cons.mpr ⟨lm2, (List.forall_mem_cons.mpr ⟨lm0, e_nm⟩)⟩)⟩) ?_
      refine ew_goto (tgt := 2) dX7_clashIn_34 (by decide) ?_
      exact ew_sub (List.forall_mem_cons.mpr ⟨lm0, (List.forall_mem_cons.mpr ⟨lm1, (List.forall_mem_cons.mpr ⟨lm2, e_nm⟩)⟩)⟩) H
    · replace H := H.1 c6
      refine ew_iload_n dX7_clashIn_29 rfl lm2 ?_
      exact ew_ret (o := some (aI x2)) rfl ⟨_, _, rfl, rfl, H⟩ ⟨dX7_clashIn_30, .int, rfl, Or.inl rfl, rfl⟩
set_option maxHeartbeats 4000000 in
theorem T_clashIn_E (d : Nat) (g : AH) (K : Int → MS → Prop) (a : Nat) (s0 : MS) (H : B_clashIn_E (W_clashIn_2 d g K) K a s0) : EW mm_clashIn (d + 0) 0 0 (mQi g K) 0 [(0, aR (some mT)), (1, aR (some (0, 1, a)))] [] (mh s0 g) := by
  refine ew_iconst dX7_clashIn_0 (inI_of rfl) ?_
  refine ew_istore_n dX7_clashIn_1 rfl (by decide) (lv' := [(2, aI 0), (0, aR (some mT)), (1, aR (some (0, 1, a)))]) rfl ?_
  refine ew_sub (List.forall_mem_cons.mpr ⟨lm1, (List.forall_mem_cons.mpr ⟨lm2, (List.forall_mem_cons.mpr ⟨lm0, e_nm⟩)⟩)⟩) ?_
  exact ew_sub (List.forall_mem_cons.mpr ⟨lm0, (List.forall_mem_cons.mpr ⟨lm1, (List.forall_mem_cons.mpr ⟨lm2, e_nm⟩)⟩)⟩) H
def C_clashIn (a : Nat) (s0 : MS) (K : Int → MS → Prop) : Prop := ∀ (X2 : Nat → Int → MS → Prop), (∀ (x1 : Nat) (x2 : Int) (s0 : MS), B_clashIn_2 X2 K x1 x2 s0 → X2 x1 x2 s0) → B_clashIn_E X2 K a s0
theorem S_clashIn {d : Nat} {g : AH} {K : Int → MS → Prop} {a : Nat} {s0 : MS} (H : C_clashIn a s0 K) : Sp mm_clashIn (d + 0) 0 0 [aR (some mT), aR (some (0, 1, a))] (mh s0 g) (mQi g K) :=
  ew_sp rfl (Nat.le_of_ble_eq_true rfl) (T_clashIn_E d g K a s0 (H _ (fun x1 x2 s0 H => T_clashIn_2 d g K x1 x2 s0 H)))
abbrev mm_about : EM := (yX7_about, cX7_about, 2, some .int, [])
theorem me_about : e_mth mm_about 1 := ⟨rfl, q1731, q117, by decide +kernel, by decide⟩
def B_about_E  (K : Int → MS → Prop) (a : Int) (s0 : MS) : Prop :=
  (C_in a 0 7 s0 (fun r4 s1 => (C_unless r4 s1 (fun r8 s5 => (C_isRefused r8 s5 (fun r12 s9 => ((r12 = 0 → ((a = 0 → K (s9.1 6) s9) ∧ (¬ a = 0 → ((a = 1 → K (s9.1 27) s9) ∧ (¬ a = 1 → ((a = 2 → K (s9.1 30) s9) ∧ (¬ a = 2 → ((a = 3 → K (s9.1 33) s9) ∧ (¬ a = 3 → ((a = 4 → (C_groupsIn 36 s9 (fun r22 s19 => K r22 s19))) ∧ (¬ a = 4 → ((a = 5 → ((inI ((s9.1 8) - (s9.1 9))) ∧ K ((s9.1 8) - (s9.1 9)) s9)) ∧ (¬ a = 5 → ((a = 6 → K (s9.1 39) s9) ∧ (¬ a = 6 → (C_clashIn 36 s9 (fun r29 s26 => K r29 s26))))))))))))))))) ∧ (¬ r12 = 0 → K (-1) s9))))))))
set_option maxHeartbeats 4000000 in
theorem T_about_E (d : Nat) (g : AH) (K : Int → MS → Prop) (a : Int) (s0 : MS) (H : B_about_E  K a s0) : EW mm_about (d + 1) 0 0 (mQi g K) 0 [(0, aR (some mT)), (1, aI a)] [] (mh s0 g) := by
  refine ew_aload_n dX7_about_0 rfl lm0 ?_
  refine ew_iload_n dX7_about_1 rfl lm1 ?_
  refine ew_iconst dX7_about_2 (inI_of rfl) ?_
  refine ew_bipush dX7_about_3 (inI_of rfl) (by decide) ?_
  refine ew_callS (d := d + 0) (as := [aI a, aI 0, aI 7]) rfl dX7_about_5 me_in rfl (Or.inl q1591) q1592 (Nat.le_of_ble_eq_true rfl) (Nat.le_refl 0) (Nat.le_refl 0) (S_in (d := d + 0) H) (fun o h' hq2 _ => ?_) (fun E i h' q _ => (mQi_no q).elim)
  obtain ⟨r4, s1, E3, rfl, H⟩ := hq2
  cases E3
  refine ew_callS (d := d + 0) (as := [aI r4]) rfl dX7_about_8 me_unless rfl (Or.inl q1732) q1733 (Nat.le_of_ble_eq_true rfl) (Nat.le_refl 0) (Nat.le_refl 0) (S_unless (d := d + 0) H) (fun o h' hq6 _ => ?_) (fun E i h' q _ => (mQi_no q).elim)
  obtain ⟨r8, s5, E7, rfl, H⟩ := hq6
  cases E7
  refine ew_callV (d := d + 0) (as := [aI r8]) rfl dX7_about_11 me_isRefused rfl (ci := 1) rfl rfl (mh_o _ _) (Or.inl q1594) q1596 qs56 (Nat.le_of_ble_eq_true rfl) (Nat.le_refl 0) (Nat.le_refl 0) (S_isRefused (d := d + 0) H) (fun o h' hq10 _ => ?_) (fun E i h' q _ => (mQi_no q).elim)
  obtain ⟨r12, s9, E11, rfl, H⟩ := hq10
  cases E11
  refine ew_if_eq (tgt := 19) dX7_about_14 (by decide) (fun c13 => ?_) (fun c13 => ?_)
  · replace H := H.1 c13
    refine ew_iload_n dX7_about_19 rfl lm1 ?_
    by_cases c14 : a = 0
    · replace H := H.1 c14
      refine ew_tableK (tgt := 64) dX7_about_20 c14 rfl rfl (by decide) ?_
      refine ew_aload_n dX7_about_64 rfl lm0 ?_
      refine mw_gI dX7_about_65 (e_fl.a q1412) mf_6 rfl ?_
      exact ew_ret (o := some (aI (s9.1 6))) rfl ⟨_, _, rfl, rfl, H⟩ ⟨dX7_about_68, .int, rfl, Or.inl rfl, rfl⟩
    replace H := H.2 c14
    by_cases c15 : a = 1
    · replace H := H.1 c15
      refine ew_tableK (tgt := 69) dX7_about_20 c15 rfl rfl (by decide) ?_
      refine ew_aload_n dX7_about_69 rfl lm0 ?_
      refine mw_gI dX7_about_70 (e_fl.a q1433) mf_27 rfl ?_
      exact ew_ret (o := some (aI (s9.1 27))) rfl ⟨_, _, rfl, rfl, H⟩ ⟨dX7_about_73, .int, rfl, Or.inl rfl, rfl⟩
    replace H := H.2 c15
    by_cases c16 : a = 2
    · replace H := H.1 c16
      refine ew_tableK (tgt := 74) dX7_about_20 c16 rfl rfl (by decide) ?_
      refine ew_aload_n dX7_about_74 rfl lm0 ?_
      refine mw_gI dX7_about_75 (e_fl.a q1436) mf_30 rfl ?_
      exact ew_ret (o := some (aI (s9.1 30))) rfl ⟨_, _, rfl, rfl, H⟩ ⟨dX7_about_78, .int, rfl, Or.inl rfl, rfl⟩
    replace H := H.2 c16
    by_cases c17 : a = 3
    · replace H := H.1 c17
      refine ew_tableK (tgt := 79) dX7_about_20 c17 rfl rfl (by decide) ?_
      refine ew_aload_n dX7_about_79 rfl lm0 ?_
      refine mw_gI dX7_about_80 (e_fl.a q1439) mf_33 rfl ?_
      exact ew_ret (o := some (aI (s9.1 33))) rfl ⟨_, _, rfl, rfl, H⟩ ⟨dX7_about_83, .int, rfl, Or.inl rfl, rfl⟩
    replace H := H.2 c17
    by_cases c18 : a = 4
    · replace H := H.1 c18
      refine ew_tableK (tgt := 84) dX7_about_20 c18 rfl rfl (by decide) ?_
      refine ew_aload_n dX7_about_84 rfl lm0 ?_
      refine ew_aload_n dX7_about_85 rfl lm0 ?_
      refine mw_gA dX7_about_86 (e_fl.a q1442) mf_36 rfl ?_
      refine ew_callV (d := d + 0) (as := [aR (some (0, 1, 36))]) rfl dX7_about_89 me_groupsIn rfl (ci := 1) rfl rfl (mh_o _ _) (Or.inl q1735) q1737 qs86 (Nat.le_of_ble_eq_true rfl) (Nat.le_refl 0) (Nat.le_refl 0) (S_groupsIn (d := d + 0) H) (fun o h' hq20 _ => ?_) (fun E i h' q _ => (mQi_no q).elim)
      obtain ⟨r22, s19, E21, rfl, H⟩ := hq20
      cases E21
      exact ew_ret (o := some (aI r22)) rfl ⟨_, _, rfl, rfl, H⟩ ⟨dX7_about_92, .int, rfl, Or.inl rfl, rfl⟩
    replace H := H.2 c18
    by_cases c23 : a = 5
    · replace H := H.1 c23
      refine ew_tableK (tgt := 93) dX7_about_20 c23 rfl rfl (by decide) ?_
      refine ew_aload_n dX7_about_93 rfl lm0 ?_
      refine mw_gI dX7_about_94 (e_fl.a q1414) mf_8 rfl ?_
      refine ew_aload_n dX7_about_97 rfl lm0 ?_
      refine mw_gI dX7_about_98 (e_fl.a q1415) mf_9 rfl ?_
      obtain ⟨v24, H⟩ := H
      refine ew_isub dX7_about_101 v24 ?_
      exact ew_ret (o := some (aI ((s9.1 8) - (s9.1 9)))) rfl ⟨_, _, rfl, rfl, H⟩ ⟨dX7_about_102, .int, rfl, Or.inl rfl, rfl⟩
    replace H := H.2 c23
    by_cases c25 : a = 6
    · replace H := H.1 c25
      refine ew_tableK (tgt := 103) dX7_about_20 c25 rfl rfl (by decide) ?_
      refine ew_aload_n dX7_about_103 rfl lm0 ?_
      refine mw_gI dX7_about_104 (e_fl.a q1445) mf_39 rfl ?_
      exact ew_ret (o := some (aI (s9.1 39))) rfl ⟨_, _, rfl, rfl, H⟩ ⟨dX7_about_107, .int, rfl, Or.inl rfl, rfl⟩
    replace H := H.2 c25
    refine ew_tableOut (tgt := 108) dX7_about_20 (by clear H; omega) (by decide) ?_
    refine ew_aload_n dX7_about_108 rfl lm0 ?_
    refine ew_aload_n dX7_about_109 rfl lm0 ?_
    refine mw_gA dX7_about_110 (e_fl.a q1442) mf_36 rfl ?_
    refine ew_callV (d := d + 0) (as := [aR (some (0, 1, 36))]) rfl dX7_about_113 me_clashIn rfl (ci := 1) rfl rfl (mh_o _ _) (Or.inl q1739) q1741 qs87 (Nat.le_of_ble_eq_true rfl) (Nat.le_refl 0) (Nat.le_refl 0) (S_clashIn (d := d + 0) H) (fun o h' hq27 _ => ?_) (fun E i h' q _ => (mQi_no q).elim)
    obtain ⟨r29, s26, E28, rfl, H⟩ := hq27
    cases E28
    exact ew_ret (o := some (aI r29)) rfl ⟨_, _, rfl, rfl, H⟩ ⟨dX7_about_116, .int, rfl, Or.inl rfl, rfl⟩
  · replace H := H.2 c13
    refine ew_iconst dX7_about_17 (inI_of rfl) ?_
    exact ew_ret (o := some (aI (-1))) rfl ⟨_, _, rfl, rfl, H⟩ ⟨dX7_about_18, .int, rfl, Or.inl rfl, rfl⟩
def C_about (a : Int) (s0 : MS) (K : Int → MS → Prop) : Prop := B_about_E  K a s0
theorem S_about {d : Nat} {g : AH} {K : Int → MS → Prop} {a : Int} {s0 : MS} (H : C_about a s0 K) : Sp mm_about (d + 1) 0 0 [aR (some mT), aI a] (mh s0 g) (mQi g K) :=
  ew_sp rfl (Nat.le_of_ble_eq_true rfl) (T_about_E d g K a s0 (H  ))
abbrev mm_function : EM := (yX7_function, cX7_function, 7, some .int, [])
theorem me_function : e_mth mm_function 2 := ⟨rfl, q1746, q117, by decide +kernel, by decide⟩
def B_function_51 (X51 : Int → Int → Int → Int → Int → Int → MS → Prop) (K : Int → MS → Prop) (x1 : Int) (x2 : Int) (x3 : Int) (x4 : Int) (x5 : Int) (x6 : Int) (s0 : MS) : Prop :=
  (((s0.1 27) ≤ x6 → ((x2 = 0 → ((0 ≤ x1 ∧ x1 < 16) ∧ K (s0.2 7 x1) s0)) ∧ (¬ x2 = 0 → ((x2 = 1 → K x3 s0) ∧ (¬ x2 = 1 → K x4 s0))))) ∧ (¬ (s0.1 27) ≤ x6 → ((0 ≤ x6 ∧ x6 < 24) ∧ (((s0.2 28 x6) = x1 → (inI (x3 + 1) ∧ ((0 ≤ x6 ∧ x6 < 24) ∧ (((jand (jshr x5 (s0.2 36 x6)) 1) = 0 → ((inI (x4 + 1)) ∧ ((0 ≤ x6 ∧ x6 < 24) ∧ (inI (x6 + 1) ∧ X51 x1 x2 (x3 + 1) (x4 + 1) (jor x5 (jshl 1 (s0.2 36 x6))) (x6 + 1) s0)))) ∧ (¬ (jand (jshr x5 (s0.2 36 x6)) 1) = 0 → ((inI (x4 + 0)) ∧ ((0 ≤ x6 ∧ x6 < 24) ∧ (inI (x6 + 1) ∧ X51 x1 x2 (x3 + 1) (x4 + 0) (jor x5 (jshl 1 (s0.2 36 x6))) (x6 + 1) s0)))))))) ∧ (¬ (s0.2 28 x6) = x1 → (inI (x6 + 1) ∧ X51 x1 x2 x3 x4 x5 (x6 + 1) s0))))))
def B_function_E (X51 : Int → Int → Int → Int → Int → Int → MS → Prop) (K : Int → MS → Prop) (a : Int) (b : Int) (s0 : MS) : Prop :=
  ((inI ((s0.1 6) - 1)) ∧ (C_in a 0 ((s0.1 6) - 1) s0 (fun r5 s2 => ((r5 = 0 → (C_unless 0 s2 (fun r10 s7 => (C_isRefused r10 s7 (fun r14 s11 => ((r14 = 0 → X51 a b 0 0 0 0 s11) ∧ (¬ r14 = 0 → K (-1) s11))))))) ∧ (¬ r5 = 0 → (C_in b 0 2 s2 (fun r19 s16 => ((r19 = 0 → (C_unless 0 s16 (fun r24 s21 => (C_isRefused r24 s21 (fun r28 s25 => ((r28 = 0 → X51 a b 0 0 0 0 s25) ∧ (¬ r28 = 0 → K (-1) s25))))))) ∧ (¬ r19 = 0 → (C_unless 1 s16 (fun r33 s30 => (C_isRefused r33 s30 (fun r37 s34 => ((r37 = 0 → X51 a b 0 0 0 0 s34) ∧ (¬ r37 = 0 → K (-1) s34)))))))))))))))
def W_function_51 (d : Nat) (g : AH) (K : Int → MS → Prop) (x1 : Int) (x2 : Int) (x3 : Int) (x4 : Int) (x5 : Int) (x6 : Int) (s0 : MS) : Prop := EW mm_function (d + 1) 0 0 (mQi g K) 51 [(0, aR (some mT)), (1, aI x1), (2, aI x2), (3, aI x3), (4, aI x4), (5, aI x5), (6, aI x6)] [] (mh s0 g)
set_option maxHeartbeats 4000000 in
theorem T_function_51 (d : Nat) (g : AH) (K : Int → MS → Prop) (x1 : Int) (x2 : Int) (x3 : Int) (x4 : Int) (x5 : Int) (x6 : Int) (s0 : MS) (H : B_function_51 (W_function_51 d g K) K x1 x2 x3 x4 x5 x6 s0) : EW mm_function (d + 1) 0 0 (mQi g K) 51 [(0, aR (some mT)), (1, aI x1), (2, aI x2), (3, aI x3), (4, aI x4), (5, aI x5), (6, aI x6)] [] (mh s0 g) := by
  refine ew_iload dX7_function_51 lm6 ?_
  refine ew_aload_n dX7_function_53 rfl lm0 ?_
  refine mw_gI dX7_function_54 (e_fl.a q1433) mf_27 rfl ?_
  refine ew_icmp_ge (tgt := 119) dX7_function_57 (by decide) (fun c1 => ?_) (fun c1 => ?_)
  · replace H := H.1 c1
    refine ew_iload_n dX7_function_119 rfl lm2 ?_
    refine ew_if_ne (tgt := 132) dX7_function_120 (by decide) (fun c2 => ?_) (fun c2 => ?_)
    · replace H := H.2 c2
      refine ew_iload_n dX7_function_132 rfl lm2 ?_
      refine ew_iconst dX7_function_133 (inI_of rfl) ?_
      refine ew_icmp_ne (tgt := 141) dX7_function_134 (by decide) (fun c3 => ?_) (fun c3 => ?_)
      · replace H := H.2 c3
        refine ew_iload dX7_function_141 lm4 ?_
        exact ew_ret (o := some (aI x4)) rfl ⟨_, _, rfl, rfl, H⟩ ⟨dX7_function_143, .int, rfl, Or.inl rfl, rfl⟩
      · replace H := H.1 c3
        refine ew_iload_n dX7_function_137 rfl lm3 ?_
        refine ew_goto (tgt := 143) dX7_function_138 (by decide) ?_
        exact ew_ret (o := some (aI x3)) rfl ⟨_, _, rfl, rfl, H⟩ ⟨dX7_function_143, .int, rfl, Or.inl rfl, rfl⟩
    · replace H := H.1 c2
      refine ew_aload_n dX7_function_123 rfl lm0 ?_
      refine mw_gA dX7_function_124 (e_fl.a q1413) mf_7 rfl ?_
      refine ew_iload_n dX7_function_127 rfl lm1 ?_
      obtain ⟨v4, H⟩ := H
      refine mw_iald dX7_function_128 rfl v4.1 v4.2 ?_
      refine ew_goto (tgt := 143) dX7_function_129 (by decide) ?_
      exact ew_ret (o := some (aI (s0.2 7 x1))) rfl ⟨_, _, rfl, rfl, H⟩ ⟨dX7_function_143, .int, rfl, Or.inl rfl, rfl⟩
  · replace H := H.2 c1
    refine ew_aload_n dX7_function_60 rfl lm0 ?_
    refine mw_gA dX7_function_61 (e_fl.a q1434) mf_28 rfl ?_
    refine ew_iload dX7_function_64 lm6 ?_
    obtain ⟨v5, H⟩ := H
    refine mw_iald dX7_function_66 rfl v5.1 v5.2 ?_
    refine ew_iload_n dX7_function_67 rfl lm1 ?_
    refine ew_icmp_ne (tgt := 113) dX7_function_68 (by decide) (fun c6 => ?_) (fun c6 => ?_)
    · replace H := H.2 c6
      obtain ⟨v7, H⟩ := H
      refine ew_iinc dX7_function_113 lm6 (by decide) v7 (lv' := [(6, aI (x6 + 1)), (0, aR (some mT)), (1, aI x1), (2, aI x2), (3, aI x3), (4, aI x4), (5, aI x5)]) rfl ?_
      refine ew_sub (List.forall_mem_cons.mpr ⟨lm1, (List.forall_mem_cons.mpr ⟨lm2, (List.forall_mem_cons.mpr ⟨lm3, (List.forall_mem_cons.mpr ⟨lm4, (List.forall_mem_cons.mpr ⟨lm5, (List.forall_mem_cons.mpr ⟨lm6, (List.forall_mem_cons.mpr ⟨lm0, e_nm⟩)⟩)⟩)⟩)⟩)⟩)⟩) ?_
      refine ew_goto (tgt := 51) dX7_function_116 (by decide) ?_
      exact ew_sub (List.forall_mem_cons.mpr ⟨lm0, (List.forall_mem_cons.mpr ⟨lm1, (List.forall_mem_cons.mpr ⟨lm2, (List.forall_mem_cons.mpr ⟨lm3, (List.forall_mem_cons.mpr ⟨lm4, (List.forall_mem_cons.mpr ⟨lm5, (List.forall_mem_cons.mpr ⟨lm6, e_nm⟩)⟩)⟩)⟩)⟩)⟩)⟩) H
    · replace H := H.1 c6
      obtain ⟨v8, H⟩ := H
      refine ew_iinc dX7_function_71 lm3 (by decide) v8 (lv' := [(3, aI (x3 + 1)), (0, aR (some mT)), (1, aI x1), (2, aI x2), (4, aI x4), (5, aI x5), (6, aI x6)]) rfl ?_
      refine ew_sub (List.forall_mem_cons.mpr ⟨lm1, (List.forall_mem_cons.mpr ⟨lm2, (List.forall_mem_cons.mpr ⟨lm3, (List.forall_mem_cons.mpr ⟨lm0, (List.forall_mem_cons.mpr ⟨lm4, (List.forall_mem_cons.mpr ⟨lm5, (List.forall_mem_cons.mpr ⟨lm6, e_nm⟩)⟩)⟩)⟩)⟩)⟩)⟩) ?_
      refine ew_iload dX7_function_74 lm4 ?_
      refine ew_iload dX7_function_76 lm5 ?_
      refine ew_aload_n dX7_function_78 rfl lm0 ?_
      refine mw_gA dX7_function_79 (e_fl.a q1442) mf_36 rfl ?_
      refine ew_iload dX7_function_82 lm6 ?_
      obtain ⟨v9, H⟩ := H
      refine mw_iald dX7_function_84 rfl v9.1 v9.2 ?_
      refine ew_ishr dX7_function_85 ?_
      refine ew_iconst dX7_function_86 (inI_of rfl) ?_
      refine ew_iand dX7_function_87 ?_
      refine ew_if_ne (tgt := 95) dX7_function_88 (by decide) (fun c10 => ?_) (fun c10 => ?_)
      · replace H := H.2 c10
        refine ew_iconst dX7_function_95 (inI_of rfl) ?_
        obtain ⟨v11, H⟩ := H
        refine ew_iadd dX7_function_96 v11 ?_
        refine ew_istore dX7_function_97 (by decide) (lv' := [(4, aI (x4 + 0)), (0, aR (some mT)), (1, aI x1), (2, aI x2), (3, aI (x3 + 1)), (5, aI x5), (6, aI x6)]) rfl ?_
        refine ew_sub (List.forall_mem_cons.mpr ⟨lm1, (List.forall_mem_cons.mpr ⟨lm2, (List.forall_mem_cons.mpr ⟨lm3, (List.forall_mem_cons.mpr ⟨lm4, (List.forall_mem_cons.mpr ⟨lm0, (List.forall_mem_cons.mpr ⟨lm5, (List.forall_mem_cons.mpr ⟨lm6, e_nm⟩)⟩)⟩)⟩)⟩)⟩)⟩) ?_
        refine ew_iload dX7_function_99 lm5 ?_
        refine ew_iconst dX7_function_101 (inI_of rfl) ?_
        refine ew_aload_n dX7_function_102 rfl lm0 ?_
        refine mw_gA dX7_function_103 (e_fl.a q1442) mf_36 rfl ?_
        refine ew_iload dX7_function_106 lm6 ?_
        obtain ⟨v12, H⟩ := H
        refine mw_iald dX7_function_108 rfl v12.1 v12.2 ?_
        refine ew_ishl dX7_function_109 ?_
        refine ew_ior dX7_function_110 ?_
        refine ew_istore dX7_function_111 (by decide) (lv' := [(5, aI (jor x5 (jshl 1 (s0.2 36 x6)))), (0, aR (some mT)), (1, aI x1), (2, aI x2), (3, aI (x3 + 1)), (4, aI (x4 + 0)), (6, aI x6)]) rfl ?_
        refine ew_sub (List.forall_mem_cons.mpr ⟨lm1, (List.forall_mem_cons.mpr ⟨lm2, (List.forall_mem_cons.mpr ⟨lm3, (List.forall_mem_cons.mpr ⟨lm4, (List.forall_mem_cons.mpr ⟨lm5, (List.forall_mem_cons.mpr ⟨lm0, (List.forall_mem_cons.mpr ⟨lm6, e_nm⟩)⟩)⟩)⟩)⟩)⟩)⟩) ?_
        obtain ⟨v13, H⟩ := H
        refine ew_iinc dX7_function_113 lm6 (by decide) v13 (lv' := [(6, aI (x6 + 1)), (0, aR (some mT)), (1, aI x1), (2, aI x2), (3, aI (x3 + 1)), (4, aI (x4 + 0)), (5, aI (jor x5 (jshl 1 (s0.2 36 x6))))]) rfl ?_
        refine ew_sub (List.forall_mem_cons.mpr ⟨lm1, (List.forall_mem_cons.mpr ⟨lm2, (List.forall_mem_cons.mpr ⟨lm3, (List.forall_mem_cons.mpr ⟨lm4, (List.forall_mem_cons.mpr ⟨lm5, (List.forall_mem_cons.mpr ⟨lm6, (List.forall_mem_cons.mpr ⟨lm0, e_nm⟩)⟩)⟩)⟩)⟩)⟩)⟩) ?_
        refine ew_goto (tgt := 51) dX7_function_116 (by decide) ?_
        exact ew_sub (List.forall_mem_cons.mpr ⟨lm0, (List.forall_mem_cons.mpr ⟨lm1, (List.forall_mem_cons.mpr ⟨lm2, (List.forall_mem_cons.mpr ⟨lm3, (List.forall_mem_cons.mpr ⟨lm4, (List.forall_mem_cons.mpr ⟨lm5, (List.forall_mem_cons.mpr ⟨lm6, e_nm⟩)⟩)⟩)⟩)⟩)⟩)⟩) H
      · replace H := H.1 c10
        refine ew_iconst dX7_function_91 (inI_of rfl) ?_
        refine ew_goto (tgt := 96) dX7_function_92 (by decide) ?_
        obtain ⟨v14, H⟩ := H
        refine ew_iadd dX7_function_96 v14 ?_
        refine ew_istore dX7_function_97 (by decide) (lv' := [(4, aI (x4 + 1)), (0, aR (some mT)), (1, aI x1), (2, aI x2), (3, aI (x3 + 1)), (5, aI x5), (6, aI x6)]) rfl ?_
        refine ew_sub (List.forall_mem_cons.mpr ⟨lm1, (List.forall_mem_cons.mpr ⟨lm2, (List.forall_mem_cons.mpr ⟨lm3, (List.forall_mem_cons.mpr ⟨lm4, (List.forall_mem_cons.mpr ⟨lm0, (List.forall_mem_cons.mpr ⟨lm5, (List.forall_mem_cons.mpr ⟨lm6, e_nm⟩)⟩)⟩)⟩)⟩)⟩)⟩) ?_
        refine ew_iload dX7_function_99 lm5 ?_
        refine ew_iconst dX7_function_101 (inI_of rfl) ?_
        refine ew_aload_n dX7_function_102 rfl lm0 ?_
        refine mw_gA dX7_function_103 (e_fl.a q1442) mf_36 rfl ?_
        refine ew_iload dX7_function_106 lm6 ?_
        obtain ⟨v15, H⟩ := H
        refine mw_iald dX7_function_108 rfl v15.1 v15.2 ?_
        refine ew_ishl dX7_function_109 ?_
        refine ew_ior dX7_function_110 ?_
        refine ew_istore dX7_function_111 (by decide) (lv' := [(5, aI (jor x5 (jshl 1 (s0.2 36 x6)))), (0, aR (some mT)), (1, aI x1), (2, aI x2), (3, aI (x3 + 1)), (4, aI (x4 + 1)), (6, aI x6)]) rfl ?_
        refine ew_sub (List.forall_mem_cons.mpr ⟨lm1, (List.forall_mem_cons.mpr ⟨lm2, (List.forall_mem_cons.mpr ⟨lm3, (List.forall_mem_cons.mpr ⟨lm4, (List.forall_mem_cons.mpr ⟨lm5, (List.forall_mem_cons.mpr ⟨lm0, (List.forall_mem_cons.mpr ⟨lm6, e_nm⟩)⟩)⟩)⟩)⟩)⟩)⟩) ?_
        obtain ⟨v16, H⟩ := H
        refine ew_iinc dX7_function_113 lm6 (by decide) v16 (lv' := [(6, aI (x6 + 1)), (0, aR (some mT)), (1, aI x1), (2, aI x2), (3, aI (x3 + 1)), (4, aI (x4 + 1)), (5, aI (jor x5 (jshl 1 (s0.2 36 x6))))]) rfl ?_
        refine ew_sub (List.forall_mem_cons.mpr ⟨lm1, (List.forall_mem_cons.mpr ⟨lm2, (List.forall_mem_cons.mpr ⟨lm3, (List.forall_mem_cons.mpr ⟨lm4, (List.forall_mem_cons.mpr ⟨lm5, (List.forall_mem_cons.mpr ⟨lm6, (List.forall_mem_cons.mpr ⟨lm0, e_nm⟩)⟩)⟩)⟩)⟩)⟩)⟩) ?_
        refine ew_goto (tgt := 51) dX7_function_116 (by decide) ?_
        exact ew_sub (List.forall_mem_cons.mpr ⟨lm0, (List.forall_mem_cons.mpr ⟨lm1, (List.forall_mem_cons.mpr ⟨lm2, (List.forall_mem_cons.mpr ⟨lm3, (List.forall_mem_cons.mpr ⟨lm4, (List.forall_mem_cons.mpr ⟨lm5, (List.forall_mem_cons.mpr ⟨lm6, e_nm⟩)⟩)⟩)⟩)⟩)⟩)⟩) H
set_option maxHeartbeats 4000000 in
theorem T_function_E (d : Nat) (g : AH) (K : Int → MS → Prop) (a : Int) (b : Int) (s0 : MS) (H : B_function_E (W_function_51 d g K) K a b s0) : EW mm_function (d + 1) 0 0 (mQi g K) 0 [(0, aR (some mT)), (1, aI a), (2, aI b)] [] (mh s0 g) := by
  refine ew_aload_n dX7_function_0 rfl lm0 ?_
  refine ew_iload_n dX7_function_1 rfl lm1 ?_
  refine ew_iconst dX7_function_2 (inI_of rfl) ?_
  refine ew_aload_n dX7_function_3 rfl lm0 ?_
  refine mw_gI dX7_function_4 (e_fl.a q1412) mf_6 rfl ?_
  refine ew_iconst dX7_function_7 (inI_of rfl) ?_
  obtain ⟨v1, H⟩ := H
  refine ew_isub dX7_function_8 v1 ?_
  refine ew_callS (d := d + 0) (as := [aI a, aI 0, aI ((s0.1 6) - 1)]) rfl dX7_function_9 me_in rfl (Or.inl q1591) q1592 (Nat.le_of_ble_eq_true rfl) (Nat.le_refl 0) (Nat.le_refl 0) (S_in (d := d + 0) H) (fun o h' hq3 _ => ?_) (fun E i h' q _ => (mQi_no q).elim)
  obtain ⟨r5, s2, E4, rfl, H⟩ := hq3
  cases E4
  refine ew_if_eq (tgt := 28) dX7_function_12 (by decide) (fun c6 => ?_) (fun c6 => ?_)
  · replace H := H.1 c6
    refine ew_iconst dX7_function_28 (inI_of rfl) ?_
    refine ew_callS (d := d + 0) (as := [aI 0]) rfl dX7_function_29 me_unless rfl (Or.inl q1732) q1733 (Nat.le_of_ble_eq_true rfl) (Nat.le_refl 0) (Nat.le_refl 0) (S_unless (d := d + 0) H) (fun o h' hq8 _ => ?_) (fun E i h' q _ => (mQi_no q).elim)
    obtain ⟨r10, s7, E9, rfl, H⟩ := hq8
    cases E9
    refine ew_callV (d := d + 0) (as := [aI r10]) rfl dX7_function_32 me_isRefused rfl (ci := 1) rfl rfl (mh_o _ _) (Or.inl q1594) q1596 qs56 (Nat.le_of_ble_eq_true rfl) (Nat.le_refl 0) (Nat.le_refl 0) (S_isRefused (d := d + 0) H) (fun o h' hq12 _ => ?_) (fun E i h' q _ => (mQi_no q).elim)
    obtain ⟨r14, s11, E13, rfl, H⟩ := hq12
    cases E13
    refine ew_if_eq (tgt := 40) dX7_function_35 (by decide) (fun c15 => ?_) (fun c15 => ?_)
    · replace H := H.1 c15
      refine ew_iconst dX7_function_40 (inI_of rfl) ?_
      refine ew_istore_n dX7_function_41 rfl (by decide) (lv' := [(3, aI 0), (0, aR (some mT)), (1, aI a), (2, aI b)]) rfl ?_
      refine ew_sub (List.forall_mem_cons.mpr ⟨lm1, (List.forall_mem_cons.mpr ⟨lm2, (List.forall_mem_cons.mpr ⟨lm3, (List.forall_mem_cons.mpr ⟨lm0, e_nm⟩)⟩)⟩)⟩) ?_
      refine ew_iconst dX7_function_42 (inI_of rfl) ?_
      refine ew_istore dX7_function_43 (by decide) (lv' := [(4, aI 0), (0, aR (some mT)), (1, aI a), (2, aI b), (3, aI 0)]) rfl ?_
      refine ew_sub (List.forall_mem_cons.mpr ⟨lm1, (List.forall_mem_cons.mpr ⟨lm2, (List.forall_mem_cons.mpr ⟨lm3, (List.forall_mem_cons.mpr ⟨lm4, (List.forall_mem_cons.mpr ⟨lm0, e_nm⟩)⟩)⟩)⟩)⟩) ?_
      refine ew_iconst dX7_function_45 (inI_of rfl) ?_
      refine ew_istore dX7_function_46 (by decide) (lv' := [(5, aI 0), (0, aR (some mT)), (1, aI a), (2, aI b), (3, aI 0), (4, aI 0)]) rfl ?_
      refine ew_sub (List.forall_mem_cons.mpr ⟨lm1, (List.forall_mem_cons.mpr ⟨lm2, (List.forall_mem_cons.mpr ⟨lm3, (List.forall_mem_cons.mpr ⟨lm4, (List.forall_mem_cons.mpr ⟨lm5, (List.forall_mem_cons.mpr ⟨lm0, e_nm⟩)⟩)⟩)⟩)⟩)⟩) ?_
      refine ew_iconst dX7_function_48 (inI_of rfl) ?_
      refine ew_istore dX7_function_49 (by decide) (lv' := [(6, aI 0), (0, aR (some mT)), (1, aI a), (2, aI b), (3, aI 0), (4, aI 0), (5, aI 0)]) rfl ?_
      refine ew_sub (List.forall_mem_cons.mpr ⟨lm1, (List.forall_mem_cons.mpr ⟨lm2, (List.forall_mem_cons.mpr ⟨lm3, (List.forall_mem_cons.mpr ⟨lm4, (List.forall_mem_cons.mpr ⟨lm5, (List.forall_mem_cons.mpr ⟨lm6, (List.forall_mem_cons.mpr ⟨lm0, e_nm⟩)⟩)⟩)⟩)⟩)⟩)⟩) ?_
      exact ew_sub (List.forall_mem_cons.mpr ⟨lm0, (List.forall_mem_cons.mpr ⟨lm1, (List.forall_mem_cons.mpr ⟨lm2, (List.forall_mem_cons.mpr ⟨lm3, (List.forall_mem_cons.mpr ⟨lm4, (List.forall_mem_cons.mpr ⟨lm5, (List.forall_mem_cons.mpr ⟨lm6, e_nm⟩)⟩)⟩)⟩)⟩)⟩)⟩) H
    · replace H := H.2 c15
      refine ew_iconst dX7_function_38 (inI_of rfl) ?_
      exact ew_ret (o := some (aI (-1))) rfl ⟨_, _, rfl, rfl, H⟩ ⟨dX7_function_39, .int, rfl, Or.inl rfl, rfl⟩
  · replace H := H.2 c6
    refine ew_iload_n dX7_function_15 rfl lm2 ?_
    refine ew_iconst dX7_function_16 (inI_of rfl) ?_
    refine ew_iconst dX7_function_17 (inI_of rfl) ?_
    refine ew_callS (d := d + 0) (as := [aI b, aI 0, aI 2]) rfl dX7_function_18 me_in rfl (Or.inl q1591) q1592 (Nat.le_of_ble_eq_true rfl) (Nat.le_refl 0) (Nat.le_refl 0) (S_in (d := d + 0) H) (fun o h' hq17 _ => ?_) (fun E i h' q _ => (mQi_no q).elim)
    obtain ⟨r19, s16, E18, rfl, H⟩ := hq17
    cases E18
    refine ew_if_eq (tgt := 28) dX7_function_21 (by decide) (fun c20 => ?_) (fun c20 => ?_)
    · replace H := H.1 c20
      refine ew_iconst dX7_function_28 (inI_of rfl) ?_
      refine ew_callS (d := d + 0) (as := [aI 0]) rfl dX7_function_29 me_unless rfl (Or.inl q1732) q1733 (Nat.le_of_ble_eq_true rfl) (Nat.le_refl 0) (Nat.le_refl 0) (S_unless (d := d + 0) H) (fun o h' hq22 _ => ?_) (fun E i h' q _ => (mQi_no q).elim)
      obtain ⟨r24, s21, E23, rfl, H⟩ := hq22
      cases E23
      refine ew_callV (d := d + 0) (as := [aI r24]) rfl dX7_function_32 me_isRefused rfl (ci := 1) rfl rfl (mh_o _ _) (Or.inl q1594) q1596 qs56 (Nat.le_of_ble_eq_true rfl) (Nat.le_refl 0) (Nat.le_refl 0) (S_isRefused (d := d + 0) H) (fun o h' hq26 _ => ?_) (fun E i h' q _ => (mQi_no q).elim)
      obtain ⟨r28, s25, E27, rfl, H⟩ := hq26
      cases E27
      refine ew_if_eq (tgt := 40) dX7_function_35 (by decide) (fun c29 => ?_) (fun c29 => ?_)
      · replace H := H.1 c29
        refine ew_iconst dX7_function_40 (inI_of rfl) ?_
        refine ew_istore_n dX7_function_41 rfl (by decide) (lv' := [(3, aI 0), (0, aR (some mT)), (1, aI a), (2, aI b)]) rfl ?_
        refine ew_sub (List.forall_mem_cons.mpr ⟨lm1, (List.forall_mem_cons.mpr ⟨lm2, (List.forall_mem_cons.mpr ⟨lm3, (List.forall_mem_cons.mpr ⟨lm0, e_nm⟩)⟩)⟩)⟩) ?_
        refine ew_iconst dX7_function_42 (inI_of rfl) ?_
        refine ew_istore dX7_function_43 (by decide) (lv' := [(4, aI 0), (0, aR (some mT)), (1, aI a), (2, aI b), (3, aI 0)]) rfl ?_
        refine ew_sub (List.forall_mem_cons.mpr ⟨lm1, (List.forall_mem_cons.mpr ⟨lm2, (List.forall_mem_cons.mpr ⟨lm3, (List.forall_mem_cons.mpr ⟨lm4, (List.forall_mem_cons.mpr ⟨lm0, e_nm⟩)⟩)⟩)⟩)⟩) ?_
        refine ew_iconst dX7_function_45 (inI_of rfl) ?_
        refine ew_istore dX7_function_46 (by decide) (lv' := [(5, aI 0), (0, aR (some mT)), (1, aI a), (2, aI b), (3, aI 0), (4, aI 0)]) rfl ?_
        refine ew_sub (List.forall_mem_cons.mpr ⟨lm1, (List.forall_mem_cons.mpr ⟨lm2, (List.forall_mem_cons.mpr ⟨lm3, (List.forall_mem_cons.mpr ⟨lm4, (List.forall_mem_cons.mpr ⟨lm5, (List.forall_mem_cons.mpr ⟨lm0, e_nm⟩)⟩)⟩)⟩)⟩)⟩) ?_
        refine ew_iconst dX7_function_48 (inI_of rfl) ?_
        refine ew_istore dX7_function_49 (by decide) (lv' := [(6, aI 0), (0, aR (some mT)), (1, aI a), (2, aI b), (3, aI 0), (4, aI 0), (5, aI 0)]) rfl ?_
        refine ew_sub (List.forall_mem_cons.mpr ⟨lm1, (List.forall_mem_cons.mpr ⟨lm2, (List.forall_mem_cons.mpr ⟨lm3, (List.forall_mem_cons.mpr ⟨lm4, (List.forall_mem_cons.mpr ⟨lm5, (List.forall_mem_cons.mpr ⟨lm6, (List.forall_mem_cons.mpr ⟨lm0, e_nm⟩)⟩)⟩)⟩)⟩)⟩)⟩) ?_
        exact ew_sub (List.forall_mem_cons.mpr ⟨lm0, (List.forall_mem_cons.mpr ⟨lm1, (List.forall_mem_cons.mpr ⟨lm2, (List.forall_mem_cons.mpr ⟨lm3, (List.forall_mem_cons.mpr ⟨lm4, (List.forall_mem_cons.mpr ⟨lm5, (List.forall_mem_cons.mpr ⟨lm6, e_nm⟩)⟩)⟩)⟩)⟩)⟩)⟩) H
      · replace H := H.2 c29
        refine ew_iconst dX7_function_38 (inI_of rfl) ?_
        exact ew_ret (o := some (aI (-1))) rfl ⟨_, _, rfl, rfl, H⟩ ⟨dX7_function_39, .int, rfl, Or.inl rfl, rfl⟩
    · replace H := H.2 c20
      refine ew_iconst dX7_function_24 (inI_of rfl) ?_
      refine ew_goto (tgt := 29) dX7_function_25 (by decide) ?_
      refine ew_callS (d := d + 0) (as := [aI 1]) rfl dX7_function_29 me_unless rfl (Or.inl q1732) q1733 (Nat.le_of_ble_eq_true rfl) (Nat.le_refl 0) (Nat.le_refl 0) (S_unless (d := d + 0) H) (fun o h' hq31 _ => ?_) (fun E i h' q _ => (mQi_no q).elim)
      obtain ⟨r33, s30, E32, rfl, H⟩ := hq31
      cases E32
      refine ew_callV (d := d + 0) (as := [aI r33]) rfl dX7_function_32 me_isRefused rfl (ci := 1) rfl rfl (mh_o _ _) (Or.inl q1594) q1596 qs56 (Nat.le_of_ble_eq_true rfl) (Nat.le_refl 0) (Nat.le_refl 0) (S_isRefused (d := d + 0) H) (fun o h' hq35 _ => ?_) (fun E i h' q _ => (mQi_no q).elim)
      obtain ⟨r37, s34, E36, rfl, H⟩ := hq35
      cases E36
      refine ew_if_eq (tgt := 40) dX7_function_35 (by decide) (fun c38 => ?_) (fun c38 => ?_)
      · replace H := H.1 c38
        refine ew_iconst dX7_function_40 (inI_of rfl) ?_
        refine ew_istore_n dX7_function_41 rfl (by decide) (lv' := [(3, aI 0), (0, aR (some mT)), (1, aI a), (2, aI b)]) rfl ?_
        refine ew_sub (List.forall_mem_cons.mpr ⟨lm1, (List.forall_mem_cons.mpr ⟨lm2, (List.forall_mem_cons.mpr ⟨lm3, (List.forall_mem_cons.mpr ⟨lm0, e_nm⟩)⟩)⟩)⟩) ?_
        refine ew_iconst dX7_function_42 (inI_of rfl) ?_
        refine ew_istore dX7_function_43 (by decide) (lv' := [(4, aI 0), (0, aR (some mT)), (1, aI a), (2, aI b), (3, aI 0)]) rfl ?_
        refine ew_sub (List.forall_mem_cons.mpr ⟨lm1, (List.forall_mem_cons.mpr ⟨lm2, (List.forall_mem_cons.mpr ⟨lm3, (List.forall_mem_cons.mpr ⟨lm4, (List.forall_mem_cons.mpr ⟨lm0, e_nm⟩)⟩)⟩)⟩)⟩) ?_
        refine ew_iconst dX7_function_45 (inI_of rfl) ?_
        refine ew_istore dX7_function_46 (by decide) (lv' := [(5, aI 0), (0, aR (some mT)), (1, aI a), (2, aI b), (3, aI 0), (4, aI 0)]) rfl ?_
        refine ew_sub (List.forall_mem_cons.mpr ⟨lm1, (List.forall_mem_cons.mpr ⟨lm2, (List.forall_mem_cons.mpr ⟨lm3, (List.forall_mem_cons.mpr ⟨lm4, (List.forall_mem_cons.mpr ⟨lm5, (List.forall_mem_cons.mpr ⟨lm0, e_nm⟩)⟩)⟩)⟩)⟩)⟩) ?_
        refine ew_iconst dX7_function_48 (inI_of rfl) ?_
        refine ew_istore dX7_function_49 (by decide) (lv' := [(6, aI 0), (0, aR (some mT)), (1, aI a), (2, aI b), (3, aI 0), (4, aI 0), (5, aI 0)]) rfl ?_
        refine ew_sub (List.forall_mem_cons.mpr ⟨lm1, (List.forall_mem_cons.mpr ⟨lm2, (List.forall_mem_cons.mpr ⟨lm3, (List.forall_mem_cons.mpr ⟨lm4, (List.forall_mem_cons.mpr ⟨lm5, (List.forall_mem_cons.mpr ⟨lm6, (List.forall_mem_cons.mpr ⟨lm0, e_nm⟩)⟩)⟩)⟩)⟩)⟩)⟩) ?_
        exact ew_sub (List.forall_mem_cons.mpr ⟨lm0, (List.forall_mem_cons.mpr ⟨lm1, (List.forall_mem_cons.mpr ⟨lm2, (List.forall_mem_cons.mpr ⟨lm3, (List.forall_mem_cons.mpr ⟨lm4, (List.forall_mem_cons.mpr ⟨lm5, (List.forall_mem_cons.mpr ⟨lm6, e_nm⟩)⟩)⟩)⟩)⟩)⟩)⟩) H
      · replace H := H.2 c38
        refine ew_iconst dX7_function_38 (inI_of rfl) ?_
        exact ew_ret (o := some (aI (-1))) rfl ⟨_, _, rfl, rfl, H⟩ ⟨dX7_function_39, .int, rfl, Or.inl rfl, rfl⟩
def C_function (a : Int) (b : Int) (s0 : MS) (K : Int → MS → Prop) : Prop := ∀ (X51 : Int → Int → Int → Int → Int → Int → MS → Prop), (∀ (x1 : Int) (x2 : Int) (x3 : Int) (x4 : Int) (x5 : Int) (x6 : Int) (s0 : MS), B_function_51 X51 K x1 x2 x3 x4 x5 x6 s0 → X51 x1 x2 x3 x4 x5 x6 s0) → B_function_E X51 K a b s0
theorem S_function {d : Nat} {g : AH} {K : Int → MS → Prop} {a : Int} {b : Int} {s0 : MS} (H : C_function a b s0 K) : Sp mm_function (d + 1) 0 0 [aR (some mT), aI a, aI b] (mh s0 g) (mQi g K) :=
  ew_sp rfl (Nat.le_of_ble_eq_true rfl) (T_function_E d g K a b s0 (H _ (fun x1 x2 x3 x4 x5 x6 s0 H => T_function_51 d g K x1 x2 x3 x4 x5 x6 s0 H)))
abbrev mm_isTerm : EM := (yX7_isTerm, cX7_isTerm, 2, some .boolean, [])
theorem me_isTerm : e_mth mm_isTerm 1 := ⟨rfl, q1754, q117, by decide +kernel, by decide⟩
def B_isTerm_E  (K : Int → MS → Prop) (a : Int) (s0 : MS) : Prop :=
  ((inI ((s0.1 27) - 1)) ∧ (C_in a 0 ((s0.1 27) - 1) s0 (fun r5 s2 => ((r5 = 0 ∨ r5 = 1) ∧ K r5 s2))))
set_option maxHeartbeats 4000000 in
theorem T_isTerm_E (d : Nat) (g : AH) (K : Int → MS → Prop) (a : Int) (s0 : MS) (H : B_isTerm_E  K a s0) : EW mm_isTerm (d + 1) 0 0 (mQi g K) 0 [(0, aR (some mT)), (1, aI a)] [] (mh s0 g) := by
  refine ew_iload_n dX7_isTerm_0 rfl lm1 ?_
  refine ew_iconst dX7_isTerm_1 (inI_of rfl) ?_
  refine ew_aload_n dX7_isTerm_2 rfl lm0 ?_
  refine mw_gI dX7_isTerm_3 (e_fl.a q1433) mf_27 rfl ?_
  refine ew_iconst dX7_isTerm_6 (inI_of rfl) ?_
  obtain ⟨v1, H⟩ := H
  refine ew_isub dX7_isTerm_7 v1 ?_
  refine ew_callS (d := d + 0) (as := [aI a, aI 0, aI ((s0.1 27) - 1)]) rfl dX7_isTerm_8 me_in rfl (Or.inl q1591) q1592 (Nat.le_of_ble_eq_true rfl) (Nat.le_refl 0) (Nat.le_refl 0) (S_in (d := d + 0) H) (fun o h' hq3 _ => ?_) (fun E i h' q _ => (mQi_no q).elim)
  obtain ⟨r5, s2, E4, rfl, H⟩ := hq3
  cases E4
  obtain ⟨v6, H⟩ := H
  exact ew_ret (o := some (aI r5)) rfl ⟨_, _, rfl, rfl, H⟩ ⟨dX7_isTerm_11, .boolean, rfl, Or.inr (Or.inl rfl), by rcases v6 with z | z <;> rw [z] <;> decide⟩
def C_isTerm (a : Int) (s0 : MS) (K : Int → MS → Prop) : Prop := B_isTerm_E  K a s0
theorem S_isTerm {d : Nat} {g : AH} {K : Int → MS → Prop} {a : Int} {s0 : MS} (H : C_isTerm a s0 K) : Sp mm_isTerm (d + 1) 0 0 [aR (some mT), aI a] (mh s0 g) (mQi g K) :=
  ew_sp rfl (Nat.le_of_ble_eq_true rfl) (T_isTerm_E d g K a s0 (H  ))
