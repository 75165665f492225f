set_option maxRecDepth 100000
abbrev mm_equal : EM := (yX7_equal, cX7_equal, 3, some .int, [])
theorem me_equal : e_mth mm_equal 2 := ⟨rfl, q1806, q117, by decide +kernel, by decide⟩
def B_equal_E  (K : Int → MS → Prop) (a : Int) (b : Int) (s0 : MS) : Prop :=
  (C_isTerm a s0 (fun r4 s1 => ((r4 = 0 → (C_unless 0 s1 (fun r9 s6 => (C_isRefused r9 s6 (fun r13 s10 => ((r13 = 0 → ((0 ≤ a ∧ a < 24) ∧ ((0 ≤ b ∧ b < 24) ∧ (((s10.2 36 a) = (s10.2 36 b) → K 1 s10) ∧ (¬ (s10.2 36 a) = (s10.2 36 b) → K 0 s10))))) ∧ (¬ r13 = 0 → K (-1) s10))))))) ∧ (¬ r4 = 0 → (C_isTerm b s1 (fun r21 s18 => ((r21 = 0 → (C_unless 0 s18 (fun r26 s23 => (C_isRefused r26 s23 (fun r30 s27 => ((r30 = 0 → ((0 ≤ a ∧ a < 24) ∧ ((0 ≤ b ∧ b < 24) ∧ (((s27.2 36 a) = (s27.2 36 b) → K 1 s27) ∧ (¬ (s27.2 36 a) = (s27.2 36 b) → K 0 s27))))) ∧ (¬ r30 = 0 → K (-1) s27))))))) ∧ (¬ r21 = 0 → (C_unless 1 s18 (fun r38 s35 => (C_isRefused r38 s35 (fun r42 s39 => ((r42 = 0 → ((0 ≤ a ∧ a < 24) ∧ ((0 ≤ b ∧ b < 24) ∧ (((s39.2 36 a) = (s39.2 36 b) → K 1 s39) ∧ (¬ (s39.2 36 a) = (s39.2 36 b) → K 0 s39))))) ∧ (¬ r42 = 0 → K (-1) s39))))))))))))))
set_option maxHeartbeats 4000000 in
theorem T_equal_E (d : Nat) (g : AH) (K : Int → MS → Prop) (a : Int) (b : Int) (s0 : MS) (H : B_equal_E  K a b s0) : EW mm_equal (d + 2) 0 0 (mQi g K) 0 [(0, aR (some mT)), (1, aI a), (2, aI b)] [] (mh s0 g) := by
  refine ew_aload_n dX7_equal_0 rfl lm0 ?_
  refine ew_aload_n dX7_equal_1 rfl lm0 ?_
  refine ew_iload_n dX7_equal_2 rfl lm1 ?_
  refine ew_callV (d := d + 1) (as := [aI a]) rfl dX7_equal_3 me_isTerm rfl (ci := 1) rfl rfl (mh_o _ _) (Or.inl q1751) q1753 qs88 (Nat.le_of_ble_eq_true rfl) (Nat.le_refl 0) (Nat.le_refl 0) (S_isTerm (d := d + 0) H) (fun o h' hq2 _ => ?_) (fun E i h' q _ => (mQi_no q).elim)
  obtain ⟨r4, s1, E3, rfl, H⟩ := hq2
  cases E3
  refine ew_if_eq (tgt := 21) dX7_equal_6 (by decide) (fun c5 => ?_) (fun c5 => ?_)
  · replace H := H.1 c5
    refine ew_iconst dX7_equal_21 (inI_of rfl) ?_
    refine ew_callS (d := d + 1) (as := [aI 0]) rfl dX7_equal_22 me_unless rfl (Or.inl q1732) q1733 (Nat.le_of_ble_eq_true rfl) (Nat.le_refl 0) (Nat.le_refl 0) (S_unless (d := d + 1) H) (fun o h' hq7 _ => ?_) (fun E i h' q _ => (mQi_no q).elim)
    obtain ⟨r9, s6, E8, rfl, H⟩ := hq7
    cases E8
    refine ew_callV (d := d + 1) (as := [aI r9]) rfl dX7_equal_25 me_isRefused rfl (ci := 1) rfl rfl (mh_o _ _) (Or.inl q1594) q1596 qs56 (Nat.le_of_ble_eq_true rfl) (Nat.le_refl 0) (Nat.le_refl 0) (S_isRefused (d := d + 1) H) (fun o h' hq11 _ => ?_) (fun E i h' q _ => (mQi_no q).elim)
    obtain ⟨r13, s10, E12, rfl, H⟩ := hq11
    cases E12
    refine ew_if_eq (tgt := 33) dX7_equal_28 (by decide) (fun c14 => ?_) (fun c14 => ?_)
    · replace H := H.1 c14
      refine ew_aload_n dX7_equal_33 rfl lm0 ?_
      refine mw_gA dX7_equal_34 (e_fl.a q1442) mf_36 rfl ?_
      refine ew_iload_n dX7_equal_37 rfl lm1 ?_
      obtain ⟨v15, H⟩ := H
      refine mw_iald dX7_equal_38 rfl v15.1 v15.2 ?_
      refine ew_aload_n dX7_equal_39 rfl lm0 ?_
      refine mw_gA dX7_equal_40 (e_fl.a q1442) mf_36 rfl ?_
      refine ew_iload_n dX7_equal_43 rfl lm2 ?_
      obtain ⟨v16, H⟩ := H
      refine mw_iald dX7_equal_44 rfl v16.1 v16.2 ?_
      refine ew_icmp_ne (tgt := 52) dX7_equal_45 (by decide) (fun c17 => ?_) (fun c17 => ?_)
      · replace H := H.2 c17
        refine ew_iconst dX7_equal_52 (inI_of rfl) ?_
        exact ew_ret (o := some (aI 0)) rfl ⟨_, _, rfl, rfl, H⟩ ⟨dX7_equal_53, .int, rfl, Or.inl rfl, rfl⟩
      · replace H := H.1 c17
        refine ew_iconst dX7_equal_48 (inI_of rfl) ?_
        refine ew_goto (tgt := 53) dX7_equal_49 (by decide) ?_
        exact ew_ret (o := some (aI 1)) rfl ⟨_, _, rfl, rfl, H⟩ ⟨dX7_equal_53, .int, rfl, Or.inl rfl, rfl⟩
    · replace H := H.2 c14
      refine ew_iconst dX7_equal_31 (inI_of rfl) ?_
      exact ew_ret (o := some (aI (-1))) rfl ⟨_, _, rfl, rfl, H⟩ ⟨dX7_equal_32, .int, rfl, Or.inl rfl, rfl⟩
  · replace H := H.2 c5
    refine ew_aload_n dX7_equal_9 rfl lm0 ?_
    refine ew_iload_n dX7_equal_10 rfl lm2 ?_
    refine ew_callV (d := d + 1) (as := [aI b]) rfl dX7_equal_11 me_isTerm rfl (ci := 1) rfl rfl (mh_o _ _) (Or.inl q1751) q1753 qs88 (Nat.le_of_ble_eq_true rfl) (Nat.le_refl 0) (Nat.le_refl 0) (S_isTerm (d := d + 0) H) (fun o h' hq19 _ => ?_) (fun E i h' q _ => (mQi_no q).elim)
    obtain ⟨r21, s18, E20, rfl, H⟩ := hq19
    cases E20
    refine ew_if_eq (tgt := 21) dX7_equal_14 (by decide) (fun c22 => ?_) (fun c22 => ?_)
    · replace H := H.1 c22
      refine ew_iconst dX7_equal_21 (inI_of rfl) ?_
      refine ew_callS (d := d + 1) (as := [aI 0]) rfl dX7_equal_22 me_unless rfl (Or.inl q1732) q1733 (Nat.le_of_ble_eq_true rfl) (Nat.le_refl 0) (Nat.le_refl 0) (S_unless (d := d + 1) H) (fun o h' hq24 _ => ?_) (fun E i h' q _ => (mQi_no q).elim)
      obtain ⟨r26, s23, E25, rfl, H⟩ := hq24
      cases E25
      refine ew_callV (d := d + 1) (as := [aI r26]) rfl dX7_equal_25 me_isRefused rfl (ci := 1) rfl rfl (mh_o _ _) (Or.inl q1594) q1596 qs56 (Nat.le_of_ble_eq_true rfl) (Nat.le_refl 0) (Nat.le_refl 0) (S_isRefused (d := d + 1) H) (fun o h' hq28 _ => ?_) (fun E i h' q _ => (mQi_no q).elim)
      obtain ⟨r30, s27, E29, rfl, H⟩ := hq28
      cases E29
      refine ew_if_eq (tgt := 33) dX7_equal_28 (by decide) (fun c31 => ?_) (fun c31 => ?_)
      · replace H := H.1 c31
        refine ew_aload_n dX7_equal_33 rfl lm0 ?_
        refine mw_gA dX7_equal_34 (e_fl.a q1442) mf_36 rfl ?_
        refine ew_iload_n dX7_equal_37 rfl lm1 ?_
        obtain ⟨v32, H⟩ := H
        refine mw_iald dX7_equal_38 rfl v32.1 v32.2 ?_
        refine ew_aload_n dX7_equal_39 rfl lm0 ?_
        refine mw_gA dX7_equal_40 (e_fl.a q1442) mf_36 rfl ?_
        refine ew_iload_n dX7_equal_43 rfl lm2 ?_
        obtain ⟨v33, H⟩ := H
        refine mw_iald dX7_equal_44 rfl v33.1 v33.2 ?_
        refine ew_icmp_ne (tgt := 52) dX7_equal_45 (by decide) (fun c34 => ?_) (fun c34 => ?_)
        · replace H := H.2 c34
          refine ew_iconst dX7_equal_52 (inI_of rfl) ?_
          exact ew_ret (o := some (aI 0)) rfl ⟨_, _, rfl, rfl, H⟩ ⟨dX7_equal_53, .int, rfl, Or.inl rfl, rfl⟩
        · replace H := H.1 c34
          refine ew_iconst dX7_equal_48 (inI_of rfl) ?_
          refine ew_goto (tgt := 53) dX7_equal_49 (by decide) ?_
          exact ew_ret (o := some (aI 1)) rfl ⟨_, _, rfl, rfl, H⟩ ⟨dX7_equal_53, .int, rfl, Or.inl rfl, rfl⟩
      · replace H := H.2 c31
        refine ew_iconst dX7_equal_31 (inI_of rfl) ?_
        exact ew_ret (o := some (aI (-1))) rfl ⟨_, _, rfl, rfl, H⟩ ⟨dX7_equal_32, .int, rfl, Or.inl rfl, rfl⟩
    · replace H := H.2 c22
      refine ew_iconst dX7_equal_17 (inI_of rfl) ?_
      refine ew_goto (tgt := 22) dX7_equal_18 (by decide) ?_
      refine ew_callS (d := d + 1) (as := [aI 1]) rfl dX7_equal_22 me_unless rfl (Or.inl q1732) q1733 (Nat.le_of_ble_eq_true rfl) (Nat.le_refl 0) (Nat.le_refl 0) (S_unless (d := d + 1) H) (fun o h' hq36 _ => ?_) (fun E i h' q _ => (mQi_no q).elim)
      obtain ⟨r38, s35, E37, rfl, H⟩ := hq36
      cases E37
      refine ew_callV (d := d + 1) (as := [aI r38]) rfl dX7_equal_25 me_isRefused rfl (ci := 1) rfl rfl (mh_o _ _) (Or.inl q1594) q1596 qs56 (Nat.le_of_ble_eq_true rfl) (Nat.le_refl 0) (Nat.le_refl 0) (S_isRefused (d := d + 1) H) (fun o h' hq40 _ => ?_) (fun E i h' q _ => (mQi_no q).elim)
      obtain ⟨r42, s39, E41, rfl, H⟩ := hq40
      cases E41
      refine ew_if_eq (tgt := 33) dX7_equal_28 (by decide) (fun c43 => ?_) (fun c43 => ?_)
      · replace H := H.1 c43
        refine ew_aload_n dX7_equal_33 rfl lm0 ?_
        refine mw_gA dX7_equal_34 (e_fl.a q1442) mf_36 rfl ?_
        refine ew_iload_n dX7_equal_37 rfl lm1 ?_
        obtain ⟨v44, H⟩ := H
        refine mw_iald dX7_equal_38 rfl v44.1 v44.2 ?_
        refine ew_aload_n dX7_equal_39 rfl lm0 ?_
        refine mw_gA dX7_equal_40 (e_fl.a q1442) mf_36 rfl ?_
        refine ew_iload_n dX7_equal_43 rfl lm2 ?_
        obtain ⟨v45, H⟩ := H
        refine mw_iald dX7_equal_44 rfl v45.1 v45.2 ?_
        refine ew_icmp_ne (tgt := 52) dX7_equal_45 (by decide) (fun c46 => ?_) (fun c46 => ?_)
        · replace H := H.2 c46
          refine ew_iconst dX7_equal_52 (inI_of rfl) ?_
          exact ew_ret (o := some (aI 0)) rfl ⟨_, _, rfl, rfl, H⟩ ⟨dX7_equal_53, .int, rfl, Or.inl rfl, rfl⟩
        · replace H := H.1 c46
          refine ew_iconst dX7_equal_48 (inI_of rfl) ?_
          refine ew_goto (tgt := 53) dX7_equal_49 (by decide) ?_
          exact ew_ret (o := some (aI 1)) rfl ⟨_, _, rfl, rfl, H⟩ ⟨dX7_equal_53, .int, rfl, Or.inl rfl, rfl⟩
      · replace H := H.2 c43
        refine ew_iconst dX7_equal_31 (inI_of rfl) ?_
        exact ew_ret (o := some (aI (-1))) rfl ⟨_, _, rfl, rfl, H⟩ ⟨dX7_equal_32, .int, rfl, Or.inl rfl, rfl⟩
def C_equal (a : Int) (b : Int) (s0 : MS) (K : Int → MS → Prop) : Prop := B_equal_E  K a b s0
theorem S_equal {d : Nat} {g : AH} {K : Int → MS → Prop} {a : Int} {b : Int} {s0 : MS} (H : C_equal a b s0 K) : Sp mm_equal (d + 2) 0 0 [aR (some mT), aI a, aI b] (mh s0 g) (mQi g K) :=
  ew_sp rfl (Nat.le_of_ble_eq_true rfl) (T_equal_E d g K a b s0 (H  ))
abbrev mm_apart : EM := (yX7_apart, cX7_apart, 6, some .int, [])
theorem me_apart : e_mth mm_apart 2 := ⟨rfl, q1810, q117, by decide +kernel, by decide⟩
def B_apart_35 (X35 : Int → Int → Int → MS → Prop) (K : Int → MS → Prop) (x1 : Int) (x2 : Int) (x3 : Int) (s0 : MS) : Prop :=
  (((s0.1 33) ≤ x3 → K 0 s0) ∧ (¬ (s0.1 33) ≤ x3 → ((0 ≤ x3 ∧ x3 < 8) ∧ ((0 ≤ (s0.2 34 x3) ∧ (s0.2 34 x3) < 24) ∧ ((0 ≤ x3 ∧ x3 < 8) ∧ ((0 ≤ (s0.2 35 x3) ∧ (s0.2 35 x3) < 24) ∧ ((0 ≤ x1 ∧ x1 < 24) ∧ (((s0.2 36 (s0.2 34 x3)) = (s0.2 36 x1) → ((0 ≤ x2 ∧ x2 < 24) ∧ (((s0.2 36 (s0.2 35 x3)) = (s0.2 36 x2) → K 1 s0) ∧ (¬ (s0.2 36 (s0.2 35 x3)) = (s0.2 36 x2) → ((0 ≤ x2 ∧ x2 < 24) ∧ (((s0.2 36 (s0.2 34 x3)) = (s0.2 36 x2) → ((0 ≤ x1 ∧ x1 < 24) ∧ (((s0.2 36 (s0.2 35 x3)) = (s0.2 36 x1) → K 1 s0) ∧ (¬ (s0.2 36 (s0.2 35 x3)) = (s0.2 36 x1) → (inI (x3 + 1) ∧ X35 x1 x2 (x3 + 1) s0))))) ∧ (¬ (s0.2 36 (s0.2 34 x3)) = (s0.2 36 x2) → (inI (x3 + 1) ∧ X35 x1 x2 (x3 + 1) s0)))))))) ∧ (¬ (s0.2 36 (s0.2 34 x3)) = (s0.2 36 x1) → ((0 ≤ x2 ∧ x2 < 24) ∧ (((s0.2 36 (s0.2 34 x3)) = (s0.2 36 x2) → ((0 ≤ x1 ∧ x1 < 24) ∧ (((s0.2 36 (s0.2 35 x3)) = (s0.2 36 x1) → K 1 s0) ∧ (¬ (s0.2 36 (s0.2 35 x3)) = (s0.2 36 x1) → (inI (x3 + 1) ∧ X35 x1 x2 (x3 + 1) s0))))) ∧ (¬ (s0.2 36 (s0.2 34 x3)) = (s0.2 36 x2) → (inI (x3 + 1) ∧ X35 x1 x2 (x3 + 1) s0)))))))))))))
def B_apart_E (X35 : Int → Int → Int → MS → Prop) (K : Int → MS → Prop) (a : Int) (b : Int) (s0 : MS) : Prop :=
  (C_isTerm a s0 (fun r4 s1 => ((r4 = 0 → (C_unless 0 s1 (fun r9 s6 => (C_isRefused r9 s6 (fun r13 s10 => ((r13 = 0 → X35 a b 0 s10) ∧ (¬ r13 = 0 → K (-1) s10))))))) ∧ (¬ r4 = 0 → (C_isTerm b s1 (fun r18 s15 => ((r18 = 0 → (C_unless 0 s15 (fun r23 s20 => (C_isRefused r23 s20 (fun r27 s24 => ((r27 = 0 → X35 a b 0 s24) ∧ (¬ r27 = 0 → K (-1) s24))))))) ∧ (¬ r18 = 0 → (C_unless 1 s15 (fun r32 s29 => (C_isRefused r32 s29 (fun r36 s33 => ((r36 = 0 → X35 a b 0 s33) ∧ (¬ r36 = 0 → K (-1) s33))))))))))))))
def W_apart_35 (d : Nat) (g : AH) (K : Int → MS → Prop) (x1 : Int) (x2 : Int) (x3 : Int) (s0 : MS) : Prop := EW mm_apart (d + 2) 0 0 (mQi g K) 35 [(0, aR (some mT)), (1, aI x1), (2, aI x2), (3, aI x3)] [] (mh s0 g)
set_option maxHeartbeats 4000000 in
theorem T_apart_35 (d : Nat) (g : AH) (K : Int → MS → Prop) (x1 : Int) (x2 : Int) (x3 : Int) (s0 : MS) (H : B_apart_35 (W_apart_35 d g K) K x1 x2 x3 s0) : EW mm_apart (d + 2) 0 0 (mQi g K) 35 [(0, aR (some mT)), (1, aI x1), (2, aI x2), (3, aI x3)] [] (mh s0 g) := by
  refine ew_iload_n dX7_apart_35 rfl lm3 ?_
  refine ew_aload_n dX7_apart_36 rfl lm0 ?_
  refine mw_gI dX7_apart_37 (e_fl.a q1439) mf_33 rfl ?_
  refine ew_icmp_ge (tgt := 121) dX7_apart_40 (by decide) (fun c1 => ?_) (fun c1 => ?_)
  · replace H := H.1 c1
    refine ew_iconst dX7_apart_121 (inI_of rfl) ?_
    exact ew_ret (o := some (aI 0)) rfl ⟨_, _, rfl, rfl, H⟩ ⟨dX7_apart_122, .int, rfl, Or.inl rfl, rfl⟩
  · replace H := H.2 c1
    refine ew_aload_n dX7_apart_43 rfl lm0 ?_
    refine mw_gA dX7_apart_44 (e_fl.a q1442) mf_36 rfl ?_
    refine ew_aload_n dX7_apart_47 rfl lm0 ?_
    refine mw_gA dX7_apart_48 (e_fl.a q1440) mf_34 rfl ?_
    refine ew_iload_n dX7_apart_51 rfl lm3 ?_
    obtain ⟨v2, H⟩ := H
    refine mw_iald dX7_apart_52 rfl v2.1 v2.2 ?_
    obtain ⟨v3, H⟩ := H
    refine mw_iald dX7_apart_53 rfl v3.1 v3.2 ?_
    refine ew_istore dX7_apart_54 (by decide) (lv' := [(4, aI (s0.2 36 (s0.2 34 x3))), (0, aR (some mT)), (1, aI x1), (2, aI x2), (3, aI x3)]) rfl ?_
    refine ew_sub (List.forall_mem_cons.mpr ⟨lm1, (List.forall_mem_cons.mpr ⟨lm2, (List.forall_mem_cons.mpr ⟨lm3, (List.forall_mem_cons.mpr ⟨lm4, (List.forall_mem_cons.mpr ⟨lm0, e_nm⟩)⟩)⟩)⟩)⟩) ?_
    refine ew_aload_n dX7_apart_56 rfl lm0 ?_
    refine mw_gA dX7_apart_57 (e_fl.a q1442) mf_36 rfl ?_
    refine ew_aload_n dX7_apart_60 rfl lm0 ?_
    refine mw_gA dX7_apart_61 (e_fl.a q1441) mf_35 rfl ?_
    refine ew_iload_n dX7_apart_64 rfl lm3 ?_
    obtain ⟨v4, H⟩ := H
    refine mw_iald dX7_apart_65 rfl v4.1 v4.2 ?_
    obtain ⟨v5, H⟩ := H
    refine mw_iald dX7_apart_66 rfl v5.1 v5.2 ?_
    refine ew_istore dX7_apart_67 (by decide) (lv' := [(5, aI (s0.2 36 (s0.2 35 x3))), (0, aR (some mT)), (1, aI x1), (2, aI x2), (3, aI x3), (4, aI (s0.2 36 (s0.2 34 x3)))]) rfl ?_
    refine ew_sub (List.forall_mem_cons.mpr ⟨lm1, (List.forall_mem_cons.mpr ⟨lm2, (List.forall_mem_cons.mpr ⟨lm3, (List.forall_mem_cons.mpr ⟨lm4, (List.forall_mem_cons.mpr ⟨lm5, (List.forall_mem_cons.mpr ⟨lm0, e_nm⟩)⟩)⟩)⟩)⟩)⟩) ?_
    refine ew_iload dX7_apart_69 lm4 ?_
    refine ew_aload_n dX7_apart_71 rfl lm0 ?_
    refine mw_gA dX7_apart_72 (e_fl.a q1442) mf_36 rfl ?_
    refine ew_iload_n dX7_apart_75 rfl lm1 ?_
    obtain ⟨v6, H⟩ := H
    refine mw_iald dX7_apart_76 rfl v6.1 v6.2 ?_
    refine ew_icmp_ne (tgt := 91) dX7_apart_77 (by decide) (fun c7 => ?_) (fun c7 => ?_)
    · replace H := H.2 c7
      refine ew_iload dX7_apart_91 lm4 ?_
      refine ew_aload_n dX7_apart_93 rfl lm0 ?_
      refine mw_gA dX7_apart_94 (e_fl.a q1442) mf_36 rfl ?_
      refine ew_iload_n dX7_apart_97 rfl lm2 ?_
      obtain ⟨v8, H⟩ := H
      refine mw_iald dX7_apart_98 rfl v8.1 v8.2 ?_
      refine ew_icmp_ne (tgt := 115) dX7_apart_99 (by decide) (fun c9 => ?_) (fun c9 => ?_)
      · replace H := H.2 c9
        obtain ⟨v10, H⟩ := H
        refine ew_iinc dX7_apart_115 lm3 (by decide) v10 (lv' := [(3, aI (x3 + 1)), (0, aR (some mT)), (1, aI x1), (2, aI x2), (4, aI (s0.2 36 (s0.2 34 x3))), (5, aI (s0.2 36 (s0.2 35 x3)))]) rfl ?_
        refine ew_sub (List.forall_mem_cons.mpr ⟨lm1, (List.forall_mem_cons.mpr ⟨lm2, (List.forall_mem_cons.mpr ⟨lm3, (List.forall_mem_cons.mpr ⟨lm0, (List.forall_mem_cons.mpr ⟨lm4, (List.forall_mem_cons.mpr ⟨lm5, e_nm⟩)⟩)⟩)⟩)⟩)⟩) ?_
        refine ew_goto (tgt := 35) dX7_apart_118 (by decide) ?_
        exact ew_sub (List.forall_mem_cons.mpr ⟨lm0, (List.forall_mem_cons.mpr ⟨lm1, (List.forall_mem_cons.mpr ⟨lm2, (List.forall_mem_cons.mpr ⟨lm3, e_nm⟩)⟩)⟩)⟩) H
      · replace H := H.1 c9
        refine ew_iload dX7_apart_102 lm5 ?_
        refine ew_aload_n dX7_apart_104 rfl lm0 ?_
        refine mw_gA dX7_apart_105 (e_fl.a q1442) mf_36 rfl ?_
        refine ew_iload_n dX7_apart_108 rfl lm1 ?_
        obtain ⟨v11, H⟩ := H
        refine mw_iald dX7_apart_109 rfl v11.1 v11.2 ?_
        refine ew_icmp_ne (tgt := 115) dX7_apart_110 (by decide) (fun c12 => ?_) (fun c12 => ?_)
        · replace H := H.2 c12
          obtain ⟨v13, H⟩ := H
          refine ew_iinc dX7_apart_115 lm3 (by decide) v13 (lv' := [(3, aI (x3 + 1)), (0, aR (some mT)), (1, aI x1), (2, aI x2), (4, aI (s0.2 36 (s0.2 34 x3))), (5, aI (s0.2 36 (s0.2 35 x3)))]) rfl ?_
          refine ew_sub (List.forall_mem_cons.mpr ⟨lm1, (List.forall_mem_cons.mpr ⟨lm2, (List.forall_mem_cons.mpr ⟨lm3, (List.forall_mem_cons.mpr ⟨lm0, (List.forall_mem_cons.mpr ⟨lm4, (List.forall_mem_cons.mpr ⟨lm5, e_nm⟩)⟩)⟩)⟩)⟩)⟩) ?_
          refine ew_goto (tgt := 35) dX7_apart_118 (by decide) ?_
          exact ew_sub (List.forall_mem_cons.mpr ⟨lm0, (List.forall_mem_cons.mpr ⟨lm1, (List.forall_mem_cons.mpr ⟨lm2, (List.forall_mem_cons.mpr ⟨lm3, e_nm⟩)⟩)⟩)⟩) H
        · replace H := H.1 c12
          refine ew_iconst dX7_apart_113 (inI_of rfl) ?_
          exact ew_ret (o := some (aI 1)) rfl ⟨_, _, rfl, rfl, H⟩ ⟨dX7_apart_114, .int, rfl, Or.inl rfl, rfl⟩
    · replace H := H.1 c7
      refine ew_iload dX7_apart_80 lm5 ?_
      refine ew_aload_n dX7_apart_82 rfl lm0 ?_
      refine mw_gA dX7_apart_83 (e_fl.a q1442) mf_36 rfl ?_
      refine ew_iload_n dX7_apart_86 rfl lm2 ?_
      obtain ⟨v14, H⟩ := H
      refine mw_iald dX7_apart_87 rfl v14.1 v14.2 ?_
      refine ew_icmp_eq (tgt := 113) dX7_apart_88 (by decide) (fun c15 => ?_) (fun c15 => ?_)
      · replace H := H.1 c15
        refine ew_iconst dX7_apart_113 (inI_of rfl) ?_
        exact ew_ret (o := some (aI 1)) rfl ⟨_, _, rfl, rfl, H⟩ ⟨dX7_apart_114, .int, rfl, Or.inl rfl, rfl⟩
      · replace H := H.2 c15
        refine ew_iload dX7_apart_91 lm4 ?_
        refine ew_aload_n dX7_apart_93 rfl lm0 ?_
        refine mw_gA dX7_apart_94 (e_fl.a q1442) mf_36 rfl ?_
        refine ew_iload_n dX7_apart_97 rfl lm2 ?_
        obtain ⟨v16, H⟩ := H
        refine mw_iald dX7_apart_98 rfl v16.1 v16.2 ?_
        refine ew_icmp_ne (tgt := 115) dX7_apart_99 (by decide) (fun c17 => ?_) (fun c17 => ?_)
        · replace H := H.2 c17
          obtain ⟨v18, H⟩ := H
          refine ew_iinc dX7_apart_115 lm3 (by decide) v18 (lv' := [(3, aI (x3 + 1)), (0, aR (some mT)), (1, aI x1), (2, aI x2), (4, aI (s0.2 36 (s0.2 34 x3))), (5, aI (s0.2 36 (s0.2 35 x3)))]) rfl ?_
          refine ew_sub (List.forall_mem_cons.mpr ⟨lm1, (List.forall_mem_cons.mpr ⟨lm2, (List.forall_mem_cons.mpr ⟨lm3, (List.forall_mem_cons.mpr ⟨lm0, (List.forall_mem_cons.mpr ⟨lm4, (List.forall_mem_cons.mpr ⟨lm5, e_nm⟩)⟩)⟩)⟩)⟩)⟩) ?_
          refine ew_goto (tgt := 35) dX7_apart_118 (by decide) ?_
          exact ew_sub (List.forall_mem_cons.mpr ⟨lm0, (List.forall_mem_cons.mpr ⟨lm1, (List.forall_mem_cons.mpr ⟨lm2, (List.forall_mem_cons.mpr ⟨lm3, e_nm⟩)⟩)⟩)⟩) H
        · replace H := H.1 c17
          refine ew_iload dX7_apart_102 lm5 ?_
          refine ew_aload_n dX7_apart_104 rfl lm0 ?_
          refine mw_gA dX7_apart_105 (e_fl.a q1442) mf_36 rfl ?_
          refine ew_iload_n dX7_apart_108 rfl lm1 ?_
          obtain ⟨v19, H⟩ := H
          refine mw_iald dX7_apart_109 rfl v19.1 v19.2 ?_
          refine ew_icmp_ne (tgt := 115) dX7_apart_110 (by decide) (fun c20 => ?_) (fun c20 => ?_)
          · replace H := H.2 c20
            obtain ⟨v21, H⟩ := H
            refine ew_iinc dX7_apart_115 lm3 (by decide) v21 (lv' := [(3, aI (x3 + 1)), (0, aR (some mT)), (1, aI x1), (2, aI x2), (4, aI (s0.2 36 (s0.2 34 x3))), (5, aI (s0.2 36 (s0.2 35 x3)))]) rfl ?_
            refine ew_sub (List.forall_mem_cons.mpr ⟨lm1, (List.forall_mem_cons.mpr ⟨lm2, (List.forall_mem_cons.mpr ⟨lm3, (List.forall_mem_cons.mpr ⟨lm0, (List.forall_mem_cons.mpr ⟨lm4, (List.forall_mem_cons.mpr ⟨lm5, e_nm⟩)⟩)⟩)⟩)⟩)⟩) ?_
            refine ew_goto (tgt := 35) dX7_apart_118 (by decide) ?_
            exact ew_sub (List.forall_mem_cons.mpr ⟨lm0, (List.forall_mem_cons.mpr ⟨lm1, (List.forall_mem_cons.mpr ⟨lm2, (List.forall_mem_cons.mpr ⟨lm3, e_nm⟩)⟩)⟩)⟩) H
          · replace H := H.1 c20
            refine ew_iconst dX7_apart_113 (inI_of rfl) ?_
            exact ew_ret (o := some (aI 1)) rfl ⟨_, _, rfl, rfl, H⟩ ⟨dX7_apart_114, .int, rfl, Or.inl rfl, rfl⟩
set_option maxHeartbeats 4000000 in
theorem T_apart_E (d : Nat) (g : AH) (K : Int → MS → Prop) (a : Int) (b : Int) (s0 : MS) (H : B_apart_E (W_apart_35 d g K) K a b s0) : EW mm_apart (d + 2) 0 0 (mQi g K) 0 [(0, aR (some mT)), (1, aI a), (2, aI b)] [] (mh s0 g) := by
  refine ew_aload_n dX7_apart_0 rfl lm0 ?_
  refine ew_aload_n dX7_apart_1 rfl lm0 ?_
  refine ew_iload_n dX7_apart_2 rfl lm1 ?_
  refine ew_callV (d := d + 1) (as := [aI a]) rfl dX7_apart_3 me_isTerm rfl (ci := 1) rfl rfl (mh_o _ _) (Or.inl q1751) q1753 qs88 (Nat.le_of_ble_eq_true rfl) (Nat.le_refl 0) (Nat.le_refl 0) (S_isTerm (d := d + 0) H) (fun o h' hq2 _ => ?_) (fun E i h' q _ => (mQi_no q).elim)
  obtain ⟨r4, s1, E3, rfl, H⟩ := hq2
  cases E3
  refine ew_if_eq (tgt := 21) dX7_apart_6 (by decide) (fun c5 => ?_) (fun c5 => ?_)
  · replace H := H.1 c5
    refine ew_iconst dX7_apart_21 (inI_of rfl) ?_
    refine ew_callS (d := d + 1) (as := [aI 0]) rfl dX7_apart_22 me_unless rfl (Or.inl q1732) q1733 (Nat.le_of_ble_eq_true rfl) (Nat.le_refl 0) (Nat.le_refl 0) (S_unless (d := d + 1) H) (fun o h' hq7 _ => ?_) (fun E i h' q _ => (mQi_no q).elim)
    obtain ⟨r9, s6, E8, rfl, H⟩ := hq7
    cases E8
    refine ew_callV (d := d + 1) (as := [aI r9]) rfl dX7_apart_25 me_isRefused rfl (ci := 1) rfl rfl (mh_o _ _) (Or.inl q1594) q1596 qs56 (Nat.le_of_ble_eq_true rfl) (Nat.le_refl 0) (Nat.le_refl 0) (S_isRefused (d := d + 1) H) (fun o h' hq11 _ => ?_) (fun E i h' q _ => (mQi_no q).elim)
    obtain ⟨r13, s10, E12, rfl, H⟩ := hq11
    cases E12
    refine ew_if_eq (tgt := 33) dX7_apart_28 (by decide) (fun c14 => ?_) (fun c14 => ?_)
    · replace H := H.1 c14
      refine ew_iconst dX7_apart_33 (inI_of rfl) ?_
      refine ew_istore_n dX7_apart_34 rfl (by decide) (lv' := [(3, aI 0), (0, aR (some mT)), (1, aI a), (2, aI b)]) rfl ?_
      refine ew_sub (List.forall_mem_cons.mpr ⟨lm1, (List.forall_mem_cons.mpr ⟨lm2, (List.forall_mem_cons.mpr ⟨lm3, (List.forall_mem_cons.mpr ⟨lm0, e_nm⟩)⟩)⟩)⟩) ?_
      exact ew_sub (List.forall_mem_cons.mpr ⟨lm0, (List.forall_mem_cons.mpr ⟨lm1, (List.forall_mem_cons.mpr ⟨lm2, (List.forall_mem_cons.mpr ⟨lm3, e_nm⟩)⟩)⟩)⟩) H
    · replace H := H.2 c14
      refine ew_iconst dX7_apart_31 (inI_of rfl) ?_
      exact ew_ret (o := some (aI (-1))) rfl ⟨_, _, rfl, rfl, H⟩ ⟨dX7_apart_32, .int, rfl, Or.inl rfl, rfl⟩
  · replace H := H.2 c5
    refine ew_aload_n dX7_apart_9 rfl lm0 ?_
    refine ew_iload_n dX7_apart_10 rfl lm2 ?_
    refine ew_callV (d := d + 1) (as := [aI b]) rfl dX7_apart_11 me_isTerm rfl (ci := 1) rfl rfl (mh_o _ _) (Or.inl q1751) q1753 qs88 (Nat.le_of_ble_eq_true rfl) (Nat.le_refl 0) (Nat.le_refl 0) (S_isTerm (d := d + 0) H) (fun o h' hq16 _ => ?_) (fun E i h' q _ => (mQi_no q).elim)
    obtain ⟨r18, s15, E17, rfl, H⟩ := hq16
    cases E17
    refine ew_if_eq (tgt := 21) dX7_apart_14 (by decide) (fun c19 => ?_) (fun c19 => ?_)
    · replace H := H.1 c19
      refine ew_iconst dX7_apart_21 (inI_of rfl) ?_
      refine ew_callS (d := d + 1) (as := [aI 0]) rfl dX7_apart_22 me_unless rfl (Or.inl q1732) q1733 (Nat.le_of_ble_eq_true rfl) (Nat.le_refl 0) (Nat.le_refl 0) (S_unless (d := d + 1) H) (fun o h' hq21 _ => ?_) (fun E i h' q _ => (mQi_no q).elim)
      obtain ⟨r23, s20, E22, rfl, H⟩ := hq21
      cases E22
      refine ew_callV (d := d + 1) (as := [aI r23]) rfl dX7_apart_25 me_isRefused rfl (ci := 1) rfl rfl (mh_o _ _) (Or.inl q1594) q1596 qs56 (Nat.le_of_ble_eq_true rfl) (Nat.le_refl 0) (Nat.le_refl 0) (S_isRefused (d := d + 1) H) (fun o h' hq25 _ => ?_) (fun E i h' q _ => (mQi_no q).elim)
      obtain ⟨r27, s24, E26, rfl, H⟩ := hq25
      cases E26
      refine ew_if_eq (tgt := 33) dX7_apart_28 (by decide) (fun c28 => ?_) (fun c28 => ?_)
      · replace H := H.1 c28
        refine ew_iconst dX7_apart_33 (inI_of rfl) ?_
        refine ew_istore_n dX7_apart_34 rfl (by decide) (lv' := [(3, aI 0), (0, aR (some mT)), (1, aI a), (2, aI b)]) rfl ?_
        refine ew_sub (List.forall_mem_cons.mpr ⟨lm1, (List.forall_mem_cons.mpr ⟨lm2, (List.forall_mem_cons.mpr ⟨lm3, (List.forall_mem_cons.mpr ⟨lm0, e_nm⟩)⟩)⟩)⟩) ?_
        exact ew_sub (List.forall_mem_cons.mpr ⟨lm0, (List.forall_mem_cons.mpr ⟨lm1, (List.forall_mem_cons.mpr ⟨lm2, (List.forall_mem_cons.mpr ⟨lm3, e_nm⟩)⟩)⟩)⟩) H
      · replace H := H.2 c28
        refine ew_iconst dX7_apart_31 (inI_of rfl) ?_
        exact ew_ret (o := some (aI (-1))) rfl ⟨_, _, rfl, rfl, H⟩ ⟨dX7_apart_32, .int, rfl, Or.inl rfl, rfl⟩
    · replace H := H.2 c19
      refine ew_iconst dX7_apart_17 (inI_of rfl) ?_
      refine ew_goto (tgt := 22) dX7_apart_18 (by decide) ?_
      refine ew_callS (d := d + 1) (as := [aI 1]) rfl dX7_apart_22 me_unless rfl (Or.inl q1732) q1733 (Nat.le_of_ble_eq_true rfl) (Nat.le_refl 0) (Nat.le_refl 0) (S_unless (d := d + 1) H) (fun o h' hq30 _ => ?_) (fun E i h' q _ => (mQi_no q).elim)
      obtain ⟨r32, s29, E31, rfl, H⟩ := hq30
      cases E31
      refine ew_callV (d := d + 1) (as := [aI r32]) rfl dX7_apart_25 me_isRefused rfl (ci := 1) rfl rfl (mh_o _ _) (Or.inl q1594) q1596 qs56 (Nat.le_of_ble_eq_true rfl) (Nat.le_refl 0) (Nat.le_refl 0) (S_isRefused (d := d + 1) H) (fun o h' hq34 _ => ?_) (fun E i h' q _ => (mQi_no q).elim)
      obtain ⟨r36, s33, E35, rfl, H⟩ := hq34
      cases E35
      refine ew_if_eq (tgt := 33) dX7_apart_28 (by decide) (fun c37 => ?_) (fun c37 => ?_)
      · replace H := H.1 c37
        refine ew_iconst dX7_apart_33 (inI_of rfl) ?_
        refine ew_istore_n dX7_apart_34 rfl (by decide) (lv' := [(3, aI 0), (0, aR (some mT)), (1, aI a), (2, aI b)]) rfl ?_
        refine ew_sub (List.forall_mem_cons.mpr ⟨lm1, (List.forall_mem_cons.mpr ⟨lm2, (List.forall_mem_cons.mpr ⟨lm3, (List.forall_mem_cons.mpr ⟨lm0, e_nm⟩)⟩)⟩)⟩) ?_
        exact ew_sub (List.forall_mem_cons.mpr ⟨lm0, (List.forall_mem_cons.mpr ⟨lm1, (List.forall_mem_cons.mpr ⟨lm2, (List.forall_mem_cons.mpr ⟨lm3, e_nm⟩)⟩)⟩)⟩) H
      · replace H := H.2 c37
        refine ew_iconst dX7_apart_31 (inI_of rfl) ?_
        exact ew_ret (o := some (aI (-1))) rfl ⟨_, _, rfl, rfl, H⟩ ⟨dX7_apart_32, .int, rfl, Or.inl rfl, rfl⟩
def C_apart (a : Int) (b : Int) (s0 : MS) (K : Int → MS → Prop) : Prop := ∀ (X35 : Int → Int → Int → MS → Prop), (∀ (x1 : Int) (x2 : Int) (x3 : Int) (s0 : MS), B_apart_35 X35 K x1 x2 x3 s0 → X35 x1 x2 x3 s0) → B_apart_E X35 K a b s0
theorem S_apart {d : Nat} {g : AH} {K : Int → MS → Prop} {a : Int} {b : Int} {s0 : MS} (H : C_apart a b s0 K) : Sp mm_apart (d + 2) 0 0 [aR (some mT), aI a, aI b] (mh s0 g) (mQi g K) :=
  ew_sp rfl (Nat.le_of_ble_eq_true rfl) (T_apart_E d g K a b s0 (H _ (fun x1 x2 x3 s0 H => T_apart_35 d g K x1 x2 x3 s0 H)))
abbrev mm_whyNotOne : EM := (yX7_whyNotOne, cX7_whyNotOne, 3, some .int, [])
theorem me_whyNotOne : e_mth mm_whyNotOne 2 := ⟨rfl, q1818, q117, by decide +kernel, by decide⟩
def B_whyNotOne_E  (K : Int → MS → Prop) (a : Int) (b : Int) (s0 : MS) : Prop :=
  (C_isTerm a s0 (fun r4 s1 => ((r4 = 0 → K 1 s1) ∧ (¬ r4 = 0 → (C_isTerm b s1 (fun r9 s6 => ((r9 = 0 → K 1 s6) ∧ (¬ r9 = 0 → ((0 ≤ a ∧ a < 24) ∧ ((0 ≤ b ∧ b < 24) ∧ (((s6.2 36 a) = (s6.2 36 b) → K 0 s6) ∧ (¬ (s6.2 36 a) = (s6.2 36 b) → K 5 s6))))))))))))
set_option maxHeartbeats 4000000 in
theorem T_whyNotOne_E (d : Nat) (g : AH) (K : Int → MS → Prop) (a : Int) (b : Int) (s0 : MS) (H : B_whyNotOne_E  K a b s0) : EW mm_whyNotOne (d + 2) 0 0 (mQi g K) 0 [(0, aR (some mT)), (1, aI a), (2, aI b)] [] (mh s0 g) := by
  refine ew_aload_n dX7_whyNotOne_0 rfl lm0 ?_
  refine ew_iload_n dX7_whyNotOne_1 rfl lm1 ?_
  refine ew_callV (d := d + 1) (as := [aI a]) rfl dX7_whyNotOne_2 me_isTerm rfl (ci := 1) rfl rfl (mh_o _ _) (Or.inl q1751) q1753 qs88 (Nat.le_of_ble_eq_true rfl) (Nat.le_refl 0) (Nat.le_refl 0) (S_isTerm (d := d + 0) H) (fun o h' hq2 _ => ?_) (fun E i h' q _ => (mQi_no q).elim)
  obtain ⟨r4, s1, E3, rfl, H⟩ := hq2
  cases E3
  refine ew_if_eq (tgt := 16) dX7_whyNotOne_5 (by decide) (fun c5 => ?_) (fun c5 => ?_)
  · replace H := H.1 c5
    refine ew_iconst dX7_whyNotOne_16 (inI_of rfl) ?_
    refine ew_goto (tgt := 40) dX7_whyNotOne_17 (by decide) ?_
    exact ew_ret (o := some (aI 1)) rfl ⟨_, _, rfl, rfl, H⟩ ⟨dX7_whyNotOne_40, .int, rfl, Or.inl rfl, rfl⟩
  · replace H := H.2 c5
    refine ew_aload_n dX7_whyNotOne_8 rfl lm0 ?_
    refine ew_iload_n dX7_whyNotOne_9 rfl lm2 ?_
    refine ew_callV (d := d + 1) (as := [aI b]) rfl dX7_whyNotOne_10 me_isTerm rfl (ci := 1) rfl rfl (mh_o _ _) (Or.inl q1751) q1753 qs88 (Nat.le_of_ble_eq_true rfl) (Nat.le_refl 0) (Nat.le_refl 0) (S_isTerm (d := d + 0) H) (fun o h' hq7 _ => ?_) (fun E i h' q _ => (mQi_no q).elim)
    obtain ⟨r9, s6, E8, rfl, H⟩ := hq7
    cases E8
    refine ew_if_ne (tgt := 20) dX7_whyNotOne_13 (by decide) (fun c10 => ?_) (fun c10 => ?_)
    · replace H := H.2 c10
      refine ew_aload_n dX7_whyNotOne_20 rfl lm0 ?_
      refine mw_gA dX7_whyNotOne_21 (e_fl.a q1442) mf_36 rfl ?_
      refine ew_iload_n dX7_whyNotOne_24 rfl lm1 ?_
      obtain ⟨v11, H⟩ := H
      refine mw_iald dX7_whyNotOne_25 rfl v11.1 v11.2 ?_
      refine ew_aload_n dX7_whyNotOne_26 rfl lm0 ?_
      refine mw_gA dX7_whyNotOne_27 (e_fl.a q1442) mf_36 rfl ?_
      refine ew_iload_n dX7_whyNotOne_30 rfl lm2 ?_
      obtain ⟨v12, H⟩ := H
      refine mw_iald dX7_whyNotOne_31 rfl v12.1 v12.2 ?_
      refine ew_icmp_ne (tgt := 39) dX7_whyNotOne_32 (by decide) (fun c13 => ?_) (fun c13 => ?_)
      · replace H := H.2 c13
        refine ew_iconst dX7_whyNotOne_39 (inI_of rfl) ?_
        exact ew_ret (o := some (aI 5)) rfl ⟨_, _, rfl, rfl, H⟩ ⟨dX7_whyNotOne_40, .int, rfl, Or.inl rfl, rfl⟩
      · replace H := H.1 c13
        refine ew_iconst dX7_whyNotOne_35 (inI_of rfl) ?_
        refine ew_goto (tgt := 40) dX7_whyNotOne_36 (by decide) ?_
        exact ew_ret (o := some (aI 0)) rfl ⟨_, _, rfl, rfl, H⟩ ⟨dX7_whyNotOne_40, .int, rfl, Or.inl rfl, rfl⟩
    · replace H := H.1 c10
      refine ew_iconst dX7_whyNotOne_16 (inI_of rfl) ?_
      refine ew_goto (tgt := 40) dX7_whyNotOne_17 (by decide) ?_
      exact ew_ret (o := some (aI 1)) rfl ⟨_, _, rfl, rfl, H⟩ ⟨dX7_whyNotOne_40, .int, rfl, Or.inl rfl, rfl⟩
def C_whyNotOne (a : Int) (b : Int) (s0 : MS) (K : Int → MS → Prop) : Prop := B_whyNotOne_E  K a b s0
theorem S_whyNotOne {d : Nat} {g : AH} {K : Int → MS → Prop} {a : Int} {b : Int} {s0 : MS} (H : C_whyNotOne a b s0 K) : Sp mm_whyNotOne (d + 2) 0 0 [aR (some mT), aI a, aI b] (mh s0 g) (mQi g K) :=
  ew_sp rfl (Nat.le_of_ble_eq_true rfl) (T_whyNotOne_E d g K a b s0 (H  ))
abbrev mm_reasons : EM := (yX7_reasons, cX7_reasons, 3, some .int, [])
theorem me_reasons : e_mth mm_reasons 2 := ⟨rfl, q1814, q117, by decide +kernel, by decide⟩
def B_reasons_E  (K : Int → MS → Prop) (a : Int) (b : Int) (s0 : MS) : Prop :=
  (C_whyNotOne a b s0 (fun r4 s1 => (C_isRefused r4 s1 (fun r8 s5 => ((r8 = 0 → (C_reasonsOf a b s5 (fun r13 s10 => K r13 s10))) ∧ (¬ r8 = 0 → K (-1) s5))))))
set_option maxHeartbeats 4000000 in
theorem T_reasons_E (d : Nat) (g : AH) (K : Int → MS → Prop) (a : Int) (b : Int) (s0 : MS) (H : B_reasons_E  K a b s0) : EW mm_reasons (d + 3) 0 0 (mQi g K) 0 [(0, aR (some mT)), (1, aI a), (2, aI b)] [] (mh s0 g) := by
  refine ew_aload_n dX7_reasons_0 rfl lm0 ?_
  refine ew_aload_n dX7_reasons_1 rfl lm0 ?_
  refine ew_iload_n dX7_reasons_2 rfl lm1 ?_
  refine ew_iload_n dX7_reasons_3 rfl lm2 ?_
  refine ew_callV (d := d + 2) (as := [aI a, aI b]) rfl dX7_reasons_4 me_whyNotOne rfl (ci := 1) rfl rfl (mh_o _ _) (Or.inl q1815) q1817 qs95 (Nat.le_of_ble_eq_true rfl) (Nat.le_refl 0) (Nat.le_refl 0) (S_whyNotOne (d := d + 0) H) (fun o h' hq2 _ => ?_) (fun E i h' q _ => (mQi_no q).elim)
  obtain ⟨r4, s1, E3, rfl, H⟩ := hq2
  cases E3
  refine ew_callV (d := d + 2) (as := [aI r4]) rfl dX7_reasons_7 me_isRefused rfl (ci := 1) rfl rfl (mh_o _ _) (Or.inl q1594) q1596 qs56 (Nat.le_of_ble_eq_true rfl) (Nat.le_refl 0) (Nat.le_refl 0) (S_isRefused (d := d + 2) H) (fun o h' hq6 _ => ?_) (fun E i h' q _ => (mQi_no q).elim)
  obtain ⟨r8, s5, E7, rfl, H⟩ := hq6
  cases E7
  refine ew_if_eq (tgt := 17) dX7_reasons_10 (by decide) (fun c9 => ?_) (fun c9 => ?_)
  · replace H := H.1 c9
    refine ew_aload_n dX7_reasons_17 rfl lm0 ?_
    refine ew_iload_n dX7_reasons_18 rfl lm1 ?_
    refine ew_iload_n dX7_reasons_19 rfl lm2 ?_
    refine ew_callV (d := d + 2) (as := [aI a, aI b]) rfl dX7_reasons_20 me_reasonsOf rfl (ci := 1) rfl rfl (mh_o _ _) (Or.inl q1700) q1702 qs81 (Nat.le_of_ble_eq_true rfl) (Nat.le_refl 0) (Nat.le_refl 0) (S_reasonsOf (d := d + 1) H) (fun o h' hq11 _ => ?_) (fun E i h' q _ => (mQi_no q).elim)
    obtain ⟨r13, s10, E12, rfl, H⟩ := hq11
    cases E12
    exact ew_ret (o := some (aI r13)) rfl ⟨_, _, rfl, rfl, H⟩ ⟨dX7_reasons_23, .int, rfl, Or.inl rfl, rfl⟩
  · replace H := H.2 c9
    refine ew_iconst dX7_reasons_13 (inI_of rfl) ?_
    refine ew_goto (tgt := 23) dX7_reasons_14 (by decide) ?_
    exact ew_ret (o := some (aI (-1))) rfl ⟨_, _, rfl, rfl, H⟩ ⟨dX7_reasons_23, .int, rfl, Or.inl rfl, rfl⟩
def C_reasons (a : Int) (b : Int) (s0 : MS) (K : Int → MS → Prop) : Prop := B_reasons_E  K a b s0
theorem S_reasons {d : Nat} {g : AH} {K : Int → MS → Prop} {a : Int} {b : Int} {s0 : MS} (H : C_reasons a b s0 K) : Sp mm_reasons (d + 3) 0 0 [aR (some mT), aI a, aI b] (mh s0 g) (mQi g K) :=
  ew_sp rfl (Nat.le_of_ble_eq_true rfl) (T_reasons_E d g K a b s0 (H  ))
abbrev mm_pruned : EM := (yX7_pruned, cX7_pruned, 5, some .int, [])
theorem me_pruned : e_mth mm_pruned 2 := ⟨rfl, q1822, q117, by decide +kernel, by decide⟩
def B_pruned_28 (X28 : Int → Int → Int → Int → MS → Prop) (K : Int → MS → Prop) (x1 : Int) (x2 : Int) (x3 : Int) (x4 : Int) (s0 : MS) : Prop :=
  ((x4 < 0 → K x3 s0) ∧ (¬ x4 < 0 → (C_isOneBy (jand x3 (jxor (jshl 1 x4) (-1))) x1 x2 s0 (fun r5 s2 => ((r5 = 0 → (inI (x4 + (-1)) ∧ X28 x1 x2 x3 (x4 + (-1)) s2)) ∧ (¬ r5 = 0 → (inI (x4 + (-1)) ∧ X28 x1 x2 (jand x3 (jxor (jshl 1 x4) (-1))) (x4 + (-1)) s2)))))))
def B_pruned_E (X28 : Int → Int → Int → Int → MS → Prop) (K : Int → MS → Prop) (a : Int) (b : Int) (s0 : MS) : Prop :=
  (C_whyNotOne a b s0 (fun r4 s1 => (C_isRefused r4 s1 (fun r8 s5 => ((r8 = 0 → (C_allSames s5 (fun r13 s10 => ((inI ((s10.1 30) - 1)) ∧ X28 a b r13 ((s10.1 30) - 1) s10)))) ∧ (¬ r8 = 0 → K (-1) s5))))))
def W_pruned_28 (d : Nat) (g : AH) (K : Int → MS → Prop) (x1 : Int) (x2 : Int) (x3 : Int) (x4 : Int) (s0 : MS) : Prop := EW mm_pruned (d + 4) 0 0 (mQi g K) 28 [(0, aR (some mT)), (1, aI x1), (2, aI x2), (3, aI x3), (4, aI x4)] [] (mh s0 g)
set_option maxHeartbeats 4000000 in
theorem T_pruned_28 (d : Nat) (g : AH) (K : Int → MS → Prop) (x1 : Int) (x2 : Int) (x3 : Int) (x4 : Int) (s0 : MS) (H : B_pruned_28 (W_pruned_28 d g K) K x1 x2 x3 x4 s0) : EW mm_pruned (d + 4) 0 0 (mQi g K) 28 [(0, aR (some mT)), (1, aI x1), (2, aI x2), (3, aI x3), (4, aI x4)] [] (mh s0 g) := by
  refine ew_iload dX7_pruned_28 lm4 ?_
  refine ew_if_lt (tgt := 69) dX7_pruned_30 (by decide) (fun c1 => ?_) (fun c1 => ?_)
  · replace H := H.1 c1
    refine ew_iload_n dX7_pruned_69 rfl lm3 ?_
    exact ew_ret (o := some (aI x3)) rfl ⟨_, _, rfl, rfl, H⟩ ⟨dX7_pruned_70, .int, rfl, Or.inl rfl, rfl⟩
  · replace H := H.2 c1
    refine ew_aload_n dX7_pruned_33 rfl lm0 ?_
    refine ew_iload_n dX7_pruned_34 rfl lm3 ?_
    refine ew_iconst dX7_pruned_35 (inI_of rfl) ?_
    refine ew_iload dX7_pruned_36 lm4 ?_
    refine ew_ishl dX7_pruned_38 ?_
    refine ew_iconst dX7_pruned_39 (inI_of rfl) ?_
    refine ew_ixor dX7_pruned_40 ?_
    refine ew_iand dX7_pruned_41 ?_
    refine ew_iload_n dX7_pruned_42 rfl lm1 ?_
    refine ew_iload_n dX7_pruned_43 rfl lm2 ?_
    refine ew_callV (d := d + 3) (as := [aI (jand x3 (jxor (jshl 1 x4) (-1))), aI x1, aI x2]) rfl dX7_pruned_44 me_isOneBy rfl (ci := 1) rfl rfl (mh_o _ _) (Or.inl q1787) q1789 qs93 (Nat.le_of_ble_eq_true rfl) (Nat.le_refl 0) (Nat.le_refl 0) (S_isOneBy (d := d + 0) H) (fun o h' hq3 _ => ?_) (fun E i h' q _ => (mQi_no q).elim)
    obtain ⟨r5, s2, E4, rfl, H⟩ := hq3
    cases E4
    refine ew_if_eq (tgt := 61) dX7_pruned_47 (by decide) (fun c6 => ?_) (fun c6 => ?_)
    · replace H := H.1 c6
      refine ew_iload_n dX7_pruned_61 rfl lm3 ?_
      refine ew_istore_n dX7_pruned_62 rfl (by decide) (lv' := [(3, aI x3), (0, aR (some mT)), (1, aI x1), (2, aI x2), (4, aI x4)]) rfl ?_
      refine ew_sub (List.forall_mem_cons.mpr ⟨lm1, (List.forall_mem_cons.mpr ⟨lm2, (List.forall_mem_cons.mpr ⟨lm3, (List.forall_mem_cons.mpr ⟨lm0, (List.forall_mem_cons.mpr ⟨lm4, e_nm⟩)⟩)⟩)⟩)⟩) ?_
      obtain ⟨v7, H⟩ := H
      refine ew_iinc dX7_pruned_63 lm4 (by decide) v7 (lv' := [(4, aI (x4 + (-1))), (0, aR (some mT)), (1, aI x1), (2, aI x2), (3, aI x3)]) rfl ?_
      refine ew_sub (List.forall_mem_cons.mpr ⟨lm1, (List.forall_mem_cons.mpr ⟨lm2, (List.forall_mem_cons.mpr ⟨lm3, (List.forall_mem_cons.mpr ⟨lm4, (List.forall_mem_cons.mpr ⟨lm0, e_nm⟩)⟩)⟩)⟩)⟩) ?_
      refine ew_goto (tgt := 28) dX7_pruned_66 (by decide) ?_
      exact ew_sub (List.forall_mem_cons.mpr ⟨lm0, (List.forall_mem_cons.mpr ⟨lm1, (List.forall_mem_cons.mpr ⟨lm2, (List.forall_mem_cons.mpr ⟨lm3, (List.forall_mem_cons.mpr ⟨lm4, e_nm⟩)⟩)⟩)⟩)⟩) H
    · replace H := H.2 c6
      refine ew_iload_n dX7_pruned_50 rfl lm3 ?_
      refine ew_iconst dX7_pruned_51 (inI_of rfl) ?_
      refine ew_iload dX7_pruned_52 lm4 ?_
      refine ew_ishl dX7_pruned_54 ?_
      refine ew_iconst dX7_pruned_55 (inI_of rfl) ?_
      refine ew_ixor dX7_pruned_56 ?_
      refine ew_iand dX7_pruned_57 ?_
      refine ew_goto (tgt := 62) dX7_pruned_58 (by decide) ?_
      refine ew_istore_n dX7_pruned_62 rfl (by decide) (lv' := [(3, aI (jand x3 (jxor (jshl 1 x4) (-1)))), (0, aR (some mT)), (1, aI x1), (2, aI x2), (4, aI x4)]) rfl ?_
      refine ew_sub (List.forall_mem_cons.mpr ⟨lm1, (List.forall_mem_cons.mpr ⟨lm2, (List.forall_mem_cons.mpr ⟨lm3, (List.forall_mem_cons.mpr ⟨lm0, (List.forall_mem_cons.mpr ⟨lm4, e_nm⟩)⟩)⟩)⟩)⟩) ?_
      obtain ⟨v8, H⟩ := H
      refine ew_iinc dX7_pruned_63 lm4 (by decide) v8 (lv' := [(4, aI (x4 + (-1))), (0, aR (some mT)), (1, aI x1), (2, aI x2), (3, aI (jand x3 (jxor (jshl 1 x4) (-1))))]) rfl ?_
      refine ew_sub (List.forall_mem_cons.mpr ⟨lm1, (List.forall_mem_cons.mpr ⟨lm2, (List.forall_mem_cons.mpr ⟨lm3, (List.forall_mem_cons.mpr ⟨lm4, (List.forall_mem_cons.mpr ⟨lm0, e_nm⟩)⟩)⟩)⟩)⟩) ?_
      refine ew_goto (tgt := 28) dX7_pruned_66 (by decide) ?_
      exact ew_sub (List.forall_mem_cons.mpr ⟨lm0, (List.forall_mem_cons.mpr ⟨lm1, (List.forall_mem_cons.mpr ⟨lm2, (List.forall_mem_cons.mpr ⟨lm3, (List.forall_mem_cons.mpr ⟨lm4, e_nm⟩)⟩)⟩)⟩)⟩) H
set_option maxHeartbeats 4000000 in
theorem T_pruned_E (d : Nat) (g : AH) (K : Int → MS → Prop) (a : Int) (b : Int) (s0 : MS) (H : B_pruned_E (W_pruned_28 d g K) K a b s0) : EW mm_pruned (d + 4) 0 0 (mQi g K) 0 [(0, aR (some mT)), (1, aI a), (2, aI b)] [] (mh s0 g) := by
  refine ew_aload_n dX7_pruned_0 rfl lm0 ?_
  refine ew_aload_n dX7_pruned_1 rfl lm0 ?_
  refine ew_iload_n dX7_pruned_2 rfl lm1 ?_
  refine ew_iload_n dX7_pruned_3 rfl lm2 ?_
  refine ew_callV (d := d + 3) (as := [aI a, aI b]) rfl dX7_pruned_4 me_whyNotOne rfl (ci := 1) rfl rfl (mh_o _ _) (Or.inl q1815) q1817 qs95 (Nat.le_of_ble_eq_true rfl) (Nat.le_refl 0) (Nat.le_refl 0) (S_whyNotOne (d := d + 1) H) (fun o h' hq2 _ => ?_) (fun E i h' q _ => (mQi_no q).elim)
  obtain ⟨r4, s1, E3, rfl, H⟩ := hq2
  cases E3
  refine ew_callV (d := d + 3) (as := [aI r4]) rfl dX7_pruned_7 me_isRefused rfl (ci := 1) rfl rfl (mh_o _ _) (Or.inl q1594) q1596 qs56 (Nat.le_of_ble_eq_true rfl) (Nat.le_refl 0) (Nat.le_refl 0) (S_isRefused (d := d + 3) H) (fun o h' hq6 _ => ?_) (fun E i h' q _ => (mQi_no q).elim)
  obtain ⟨r8, s5, E7, rfl, H⟩ := hq6
  cases E7
  refine ew_if_eq (tgt := 15) dX7_pruned_10 (by decide) (fun c9 => ?_) (fun c9 => ?_)
  · replace H := H.1 c9
    refine ew_aload_n dX7_pruned_15 rfl lm0 ?_
    refine ew_callV (d := d + 3) (as := []) rfl dX7_pruned_16 me_allSames rfl (ci := 1) rfl rfl (mh_o _ _) (Or.inl q1783) q1785 qs92 (Nat.le_of_ble_eq_true rfl) (Nat.le_refl 0) (Nat.le_refl 0) (S_allSames (d := d + 3) H) (fun o h' hq11 _ => ?_) (fun E i h' q _ => (mQi_no q).elim)
    obtain ⟨r13, s10, E12, rfl, H⟩ := hq11
    cases E12
    refine ew_istore_n dX7_pruned_19 rfl (by decide) (lv' := [(3, aI r13), (0, aR (some mT)), (1, aI a), (2, aI b)]) rfl ?_
    refine ew_sub (List.forall_mem_cons.mpr ⟨lm1, (List.forall_mem_cons.mpr ⟨lm2, (List.forall_mem_cons.mpr ⟨lm3, (List.forall_mem_cons.mpr ⟨lm0, e_nm⟩)⟩)⟩)⟩) ?_
    refine ew_aload_n dX7_pruned_20 rfl lm0 ?_
    refine mw_gI dX7_pruned_21 (e_fl.a q1436) mf_30 rfl ?_
    refine ew_iconst dX7_pruned_24 (inI_of rfl) ?_
    obtain ⟨v14, H⟩ := H
    refine ew_isub dX7_pruned_25 v14 ?_
    refine ew_istore dX7_pruned_26 (by decide) (lv' := [(4, aI ((s10.1 30) - 1)), (0, aR (some mT)), (1, aI a), (2, aI b), (3, aI r13)]) rfl ?_
    refine ew_sub (List.forall_mem_cons.mpr ⟨lm1, (List.forall_mem_cons.mpr ⟨lm2, (List.forall_mem_cons.mpr ⟨lm3, (List.forall_mem_cons.mpr ⟨lm4, (List.forall_mem_cons.mpr ⟨lm0, e_nm⟩)⟩)⟩)⟩)⟩) ?_
    exact ew_sub (List.forall_mem_cons.mpr ⟨lm0, (List.forall_mem_cons.mpr ⟨lm1, (List.forall_mem_cons.mpr ⟨lm2, (List.forall_mem_cons.mpr ⟨lm3, (List.forall_mem_cons.mpr ⟨lm4, e_nm⟩)⟩)⟩)⟩)⟩) H
  · replace H := H.2 c9
    refine ew_iconst dX7_pruned_13 (inI_of rfl) ?_
    exact ew_ret (o := some (aI (-1))) rfl ⟨_, _, rfl, rfl, H⟩ ⟨dX7_pruned_14, .int, rfl, Or.inl rfl, rfl⟩
def C_pruned (a : Int) (b : Int) (s0 : MS) (K : Int → MS → Prop) : Prop := ∀ (X28 : Int → Int → Int → Int → MS → Prop), (∀ (x1 : Int) (x2 : Int) (x3 : Int) (x4 : Int) (s0 : MS), B_pruned_28 X28 K x1 x2 x3 x4 s0 → X28 x1 x2 x3 x4 s0) → B_pruned_E X28 K a b s0
theorem S_pruned {d : Nat} {g : AH} {K : Int → MS → Prop} {a : Int} {b : Int} {s0 : MS} (H : C_pruned a b s0 K) : Sp mm_pruned (d + 4) 0 0 [aR (some mT), aI a, aI b] (mh s0 g) (mQi g K) :=
  ew_sp rfl (Nat.le_of_ble_eq_true rfl) (T_pruned_E d g K a b s0 (H _ (fun x1 x2 x3 x4 s0 H => T_pruned_28 d g K x1 x2 x3 x4 s0 H)))
