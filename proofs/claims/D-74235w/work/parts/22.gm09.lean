set_option maxRecDepth 100000
abbrev mm_height : EM := (yX7_height, cX7_height, 2, some .int, [])
theorem me_height : e_mth mm_height 1 := ⟨rfl, q1770, q117, by decide +kernel, by decide⟩
def B_height_E  (K : Int → MS → Prop) (a : Int) (s0 : MS) : Prop :=
  (C_isTerm a s0 (fun r4 s1 => (C_unless r4 s1 (fun r8 s5 => (C_isRefused r8 s5 (fun r12 s9 => ((r12 = 0 → (C_depthOf a s9 (fun r17 s14 => K r17 s14))) ∧ (¬ r12 = 0 → K (-1) s9))))))))
set_option maxHeartbeats 4000000 in
theorem T_height_E (d : Nat) (g : AH) (K : Int → MS → Prop) (a : Int) (s0 : MS) (H : B_height_E  K a s0) : EW mm_height (d + 2) 0 0 (mQi g K) 0 [(0, aR (some mT)), (1, aI a)] [] (mh s0 g) := by
  refine ew_aload_n dX7_height_0 rfl lm0 ?_
  refine ew_aload_n dX7_height_1 rfl lm0 ?_
  refine ew_iload_n dX7_height_2 rfl lm1 ?_
  refine ew_callV (d := d + 1) (as := [aI a]) rfl dX7_height_3 me_isTerm rfl (ci := 1) rfl rfl (mh_o _ _) (Or.inl q1751) q1753 qs88 (Nat.le_of_ble_eq_true rfl) (Nat.le_refl 0) (Nat.le_refl 0) (S_isTerm (d := d + 0) H) (fun o h' hq2 _ => ?_) (fun E i h' q _ => (mQi_no q).elim)
  obtain ⟨r4, s1, E3, rfl, H⟩ := hq2
  cases E3
  refine ew_callS (d := d + 1) (as := [aI r4]) rfl dX7_height_6 me_unless rfl (Or.inl q1732) q1733 (Nat.le_of_ble_eq_true rfl) (Nat.le_refl 0) (Nat.le_refl 0) (S_unless (d := d + 1) H) (fun o h' hq6 _ => ?_) (fun E i h' q _ => (mQi_no q).elim)
  obtain ⟨r8, s5, E7, rfl, H⟩ := hq6
  cases E7
  refine ew_callV (d := d + 1) (as := [aI r8]) rfl dX7_height_9 me_isRefused rfl (ci := 1) rfl rfl (mh_o _ _) (Or.inl q1594) q1596 qs56 (Nat.le_of_ble_eq_true rfl) (Nat.le_refl 0) (Nat.le_refl 0) (S_isRefused (d := d + 1) H) (fun o h' hq10 _ => ?_) (fun E i h' q _ => (mQi_no q).elim)
  obtain ⟨r12, s9, E11, rfl, H⟩ := hq10
  cases E11
  refine ew_if_eq (tgt := 19) dX7_height_12 (by decide) (fun c13 => ?_) (fun c13 => ?_)
  · replace H := H.1 c13
    refine ew_aload_n dX7_height_19 rfl lm0 ?_
    refine ew_iload_n dX7_height_20 rfl lm1 ?_
    refine ew_callV (d := d + 1) (as := [aI a]) rfl dX7_height_21 me_depthOf rfl (ci := 1) rfl rfl (mh_o _ _) (Or.inl q1704) q1706 qs82 (Nat.le_of_ble_eq_true rfl) (Nat.le_refl 0) (Nat.le_refl 0) (S_depthOf (d := d + 1) H) (fun o h' hq15 _ => ?_) (fun E i h' q _ => (mQi_no q).elim)
    obtain ⟨r17, s14, E16, rfl, H⟩ := hq15
    cases E16
    exact ew_ret (o := some (aI r17)) rfl ⟨_, _, rfl, rfl, H⟩ ⟨dX7_height_24, .int, rfl, Or.inl rfl, rfl⟩
  · replace H := H.2 c13
    refine ew_iconst dX7_height_15 (inI_of rfl) ?_
    refine ew_goto (tgt := 24) dX7_height_16 (by decide) ?_
    exact ew_ret (o := some (aI (-1))) rfl ⟨_, _, rfl, rfl, H⟩ ⟨dX7_height_24, .int, rfl, Or.inl rfl, rfl⟩
def C_height (a : Int) (s0 : MS) (K : Int → MS → Prop) : Prop := B_height_E  K a s0
theorem S_height {d : Nat} {g : AH} {K : Int → MS → Prop} {a : Int} {s0 : MS} (H : C_height a s0 K) : Sp mm_height (d + 2) 0 0 [aR (some mT), aI a] (mh s0 g) (mQi g K) :=
  ew_sp rfl (Nat.le_of_ble_eq_true rfl) (T_height_E d g K a s0 (H  ))
abbrev mm_hung : EM := (yX7_hung, cX7_hung, 5, some .int, [])
theorem me_hung : e_mth mm_hung 2 := ⟨rfl, q1774, q117, by decide +kernel, by decide⟩
def B_hung_34 (X34 : Int → Int → Int → MS → Prop) (K : Int → MS → Prop) (x1 : Int) (x3 : Int) (x4 : Int) (s0 : MS) : Prop :=
  (((s0.1 27) ≤ x4 → K (-2) s0) ∧ (¬ (s0.1 27) ≤ x4 → ((0 ≤ x4 ∧ x4 < 24) ∧ (((s0.2 37 x4) = x1 → ((x3 = 0 → K x4 s0) ∧ (¬ x3 = 0 → (inI (x3 + (-1)) ∧ (inI (x4 + 1) ∧ X34 x1 (x3 + (-1)) (x4 + 1) s0))))) ∧ (¬ (s0.2 37 x4) = x1 → (inI (x4 + 1) ∧ X34 x1 x3 (x4 + 1) s0))))))
def B_hung_E (X34 : Int → Int → Int → MS → Prop) (K : Int → MS → Prop) (a : Int) (b : Int) (s0 : MS) : Prop :=
  (C_isTerm a s0 (fun r4 s1 => ((r4 = 0 → (C_unless 0 s1 (fun r9 s6 => (C_isRefused r9 s6 (fun r13 s10 => ((r13 = 0 → X34 a b 0 s10) ∧ (¬ r13 = 0 → K (-1) s10))))))) ∧ (¬ r4 = 0 → ((b < 0 → (C_unless 0 s1 (fun r19 s16 => (C_isRefused r19 s16 (fun r23 s20 => ((r23 = 0 → X34 a b 0 s20) ∧ (¬ r23 = 0 → K (-1) s20))))))) ∧ (¬ b < 0 → (C_unless 1 s1 (fun r28 s25 => (C_isRefused r28 s25 (fun r32 s29 => ((r32 = 0 → X34 a b 0 s29) ∧ (¬ r32 = 0 → K (-1) s29))))))))))))
def W_hung_34 (d : Nat) (g : AH) (K : Int → MS → Prop) (x1 : Int) (x3 : Int) (x4 : Int) (s0 : MS) : Prop := EW mm_hung (d + 2) 0 0 (mQi g K) 34 [(0, aR (some mT)), (1, aI x1), (3, aI x3), (4, aI x4)] [] (mh s0 g)
set_option maxHeartbeats 4000000 in
theorem T_hung_34 (d : Nat) (g : AH) (K : Int → MS → Prop) (x1 : Int) (x3 : Int) (x4 : Int) (s0 : MS) (H : B_hung_34 (W_hung_34 d g K) K x1 x3 x4 s0) : EW mm_hung (d + 2) 0 0 (mQi g K) 34 [(0, aR (some mT)), (1, aI x1), (3, aI x3), (4, aI x4)] [] (mh s0 g) := by
  refine ew_iload dX7_hung_34 lm3 ?_
  refine ew_aload_n dX7_hung_36 rfl lm0 ?_
  refine mw_gI dX7_hung_37 (e_fl.a q1433) mf_27 rfl ?_
  refine ew_icmp_ge (tgt := 70) dX7_hung_40 (by decide) (fun c1 => ?_) (fun c1 => ?_)
  · replace H := H.1 c1
    refine ew_bipush dX7_hung_70 (inI_of rfl) (by decide) ?_
    exact ew_ret (o := some (aI (-2))) rfl ⟨_, _, rfl, rfl, H⟩ ⟨dX7_hung_72, .int, rfl, Or.inl rfl, rfl⟩
  · replace H := H.2 c1
    refine ew_aload_n dX7_hung_43 rfl lm0 ?_
    refine mw_gA dX7_hung_44 (e_fl.a q1443) mf_37 rfl ?_
    refine ew_iload dX7_hung_47 lm3 ?_
    obtain ⟨v2, H⟩ := H
    refine mw_iald dX7_hung_49 rfl v2.1 v2.2 ?_
    refine ew_iload_n dX7_hung_50 rfl lm1 ?_
    refine ew_icmp_ne (tgt := 64) dX7_hung_51 (by decide) (fun c3 => ?_) (fun c3 => ?_)
    · replace H := H.2 c3
      obtain ⟨v4, H⟩ := H
      refine ew_iinc dX7_hung_64 lm3 (by decide) v4 (lv' := [(4, aI (x4 + 1)), (0, aR (some mT)), (1, aI x1), (3, aI x3)]) rfl ?_
      refine ew_sub (List.forall_mem_cons.mpr ⟨lm1, (List.forall_mem_cons.mpr ⟨lm2, (List.forall_mem_cons.mpr ⟨lm3, (List.forall_mem_cons.mpr ⟨lm0, e_nm⟩)⟩)⟩)⟩) ?_
      refine ew_goto (tgt := 34) dX7_hung_67 (by decide) ?_
      exact ew_sub (List.forall_mem_cons.mpr ⟨lm0, (List.forall_mem_cons.mpr ⟨lm1, (List.forall_mem_cons.mpr ⟨lm2, (List.forall_mem_cons.mpr ⟨lm3, e_nm⟩)⟩)⟩)⟩) H
    · replace H := H.1 c3
      refine ew_iload_n dX7_hung_54 rfl lm2 ?_
      refine ew_if_ne (tgt := 61) dX7_hung_55 (by decide) (fun c5 => ?_) (fun c5 => ?_)
      · replace H := H.2 c5
        obtain ⟨v6, H⟩ := H
        refine ew_iinc dX7_hung_61 lm2 (by decide) v6 (lv' := [(3, aI (x3 + (-1))), (0, aR (some mT)), (1, aI x1), (4, aI x4)]) rfl ?_
        refine ew_sub (List.forall_mem_cons.mpr ⟨lm1, (List.forall_mem_cons.mpr ⟨lm2, (List.forall_mem_cons.mpr ⟨lm0, (List.forall_mem_cons.mpr ⟨lm3, e_nm⟩)⟩)⟩)⟩) ?_
        obtain ⟨v7, H⟩ := H
        refine ew_iinc dX7_hung_64 lm3 (by decide) v7 (lv' := [(4, aI (x4 + 1)), (0, aR (some mT)), (1, aI x1), (3, aI (x3 + (-1)))]) rfl ?_
        refine ew_sub (List.forall_mem_cons.mpr ⟨lm1, (List.forall_mem_cons.mpr ⟨lm2, (List.forall_mem_cons.mpr ⟨lm3, (List.forall_mem_cons.mpr ⟨lm0, e_nm⟩)⟩)⟩)⟩) ?_
        refine ew_goto (tgt := 34) dX7_hung_67 (by decide) ?_
        exact ew_sub (List.forall_mem_cons.mpr ⟨lm0, (List.forall_mem_cons.mpr ⟨lm1, (List.forall_mem_cons.mpr ⟨lm2, (List.forall_mem_cons.mpr ⟨lm3, e_nm⟩)⟩)⟩)⟩) H
      · replace H := H.1 c5
        refine ew_iload dX7_hung_58 lm3 ?_
        exact ew_ret (o := some (aI x4)) rfl ⟨_, _, rfl, rfl, H⟩ ⟨dX7_hung_60, .int, rfl, Or.inl rfl, rfl⟩
set_option maxHeartbeats 4000000 in
theorem T_hung_E (d : Nat) (g : AH) (K : Int → MS → Prop) (a : Int) (b : Int) (s0 : MS) (H : B_hung_E (W_hung_34 d g K) K a b s0) : EW mm_hung (d + 2) 0 0 (mQi g K) 0 [(0, aR (some mT)), (1, aI a), (2, aI b)] [] (mh s0 g) := by
  refine ew_aload_n dX7_hung_0 rfl lm0 ?_
  refine ew_aload_n dX7_hung_1 rfl lm0 ?_
  refine ew_iload_n dX7_hung_2 rfl lm1 ?_
  refine ew_callV (d := d + 1) (as := [aI a]) rfl dX7_hung_3 me_isTerm rfl (ci := 1) rfl rfl (mh_o _ _) (Or.inl q1751) q1753 qs88 (Nat.le_of_ble_eq_true rfl) (Nat.le_refl 0) (Nat.le_refl 0) (S_isTerm (d := d + 0) H) (fun o h' hq2 _ => ?_) (fun E i h' q _ => (mQi_no q).elim)
  obtain ⟨r4, s1, E3, rfl, H⟩ := hq2
  cases E3
  refine ew_if_eq (tgt := 17) dX7_hung_6 (by decide) (fun c5 => ?_) (fun c5 => ?_)
  · replace H := H.1 c5
    refine ew_iconst dX7_hung_17 (inI_of rfl) ?_
    refine ew_callS (d := d + 1) (as := [aI 0]) rfl dX7_hung_18 me_unless rfl (Or.inl q1732) q1733 (Nat.le_of_ble_eq_true rfl) (Nat.le_refl 0) (Nat.le_refl 0) (S_unless (d := d + 1) H) (fun o h' hq7 _ => ?_) (fun E i h' q _ => (mQi_no q).elim)
    obtain ⟨r9, s6, E8, rfl, H⟩ := hq7
    cases E8
    refine ew_callV (d := d + 1) (as := [aI r9]) rfl dX7_hung_21 me_isRefused rfl (ci := 1) rfl rfl (mh_o _ _) (Or.inl q1594) q1596 qs56 (Nat.le_of_ble_eq_true rfl) (Nat.le_refl 0) (Nat.le_refl 0) (S_isRefused (d := d + 1) H) (fun o h' hq11 _ => ?_) (fun E i h' q _ => (mQi_no q).elim)
    obtain ⟨r13, s10, E12, rfl, H⟩ := hq11
    cases E12
    refine ew_if_eq (tgt := 29) dX7_hung_24 (by decide) (fun c14 => ?_) (fun c14 => ?_)
    · replace H := H.1 c14
      refine ew_iload_n dX7_hung_29 rfl lm2 ?_
      refine ew_istore_n dX7_hung_30 rfl (by decide) (lv' := [(3, aI b), (0, aR (some mT)), (1, aI a), (2, aI b)]) rfl ?_
      refine ew_sub (List.forall_mem_cons.mpr ⟨lm1, (List.forall_mem_cons.mpr ⟨lm2, (List.forall_mem_cons.mpr ⟨lm3, (List.forall_mem_cons.mpr ⟨lm0, e_nm⟩)⟩)⟩)⟩) ?_
      refine ew_iconst dX7_hung_31 (inI_of rfl) ?_
      refine ew_istore dX7_hung_32 (by decide) (lv' := [(4, aI 0), (0, aR (some mT)), (1, aI a), (2, aI b), (3, aI b)]) rfl ?_
      refine ew_sub (List.forall_mem_cons.mpr ⟨lm1, (List.forall_mem_cons.mpr ⟨lm2, (List.forall_mem_cons.mpr ⟨lm3, (List.forall_mem_cons.mpr ⟨lm4, (List.forall_mem_cons.mpr ⟨lm0, e_nm⟩)⟩)⟩)⟩)⟩) ?_
      exact ew_sub (List.forall_mem_cons.mpr ⟨lm0, (List.forall_mem_cons.mpr ⟨lm1, (List.forall_mem_cons.mpr ⟨lm3, (List.forall_mem_cons.mpr ⟨lm4, e_nm⟩)⟩)⟩)⟩) H
    · replace H := H.2 c14
      refine ew_iconst dX7_hung_27 (inI_of rfl) ?_
      exact ew_ret (o := some (aI (-1))) rfl ⟨_, _, rfl, rfl, H⟩ ⟨dX7_hung_28, .int, rfl, Or.inl rfl, rfl⟩
  · replace H := H.2 c5
    refine ew_iload_n dX7_hung_9 rfl lm2 ?_
    refine ew_if_lt (tgt := 17) dX7_hung_10 (by decide) (fun c15 => ?_) (fun c15 => ?_)
    · replace H := H.1 c15
      refine ew_iconst dX7_hung_17 (inI_of rfl) ?_
      refine ew_callS (d := d + 1) (as := [aI 0]) rfl dX7_hung_18 me_unless rfl (Or.inl q1732) q1733 (Nat.le_of_ble_eq_true rfl) (Nat.le_refl 0) (Nat.le_refl 0) (S_unless (d := d + 1) H) (fun o h' hq17 _ => ?_) (fun E i h' q _ => (mQi_no q).elim)
      obtain ⟨r19, s16, E18, rfl, H⟩ := hq17
      cases E18
      refine ew_callV (d := d + 1) (as := [aI r19]) rfl dX7_hung_21 me_isRefused rfl (ci := 1) rfl rfl (mh_o _ _) (Or.inl q1594) q1596 qs56 (Nat.le_of_ble_eq_true rfl) (Nat.le_refl 0) (Nat.le_refl 0) (S_isRefused (d := d + 1) H) (fun o h' hq21 _ => ?_) (fun E i h' q _ => (mQi_no q).elim)
      obtain ⟨r23, s20, E22, rfl, H⟩ := hq21
      cases E22
      refine ew_if_eq (tgt := 29) dX7_hung_24 (by decide) (fun c24 => ?_) (fun c24 => ?_)
      · replace H := H.1 c24
        refine ew_iload_n dX7_hung_29 rfl lm2 ?_
        refine ew_istore_n dX7_hung_30 rfl (by decide) (lv' := [(3, aI b), (0, aR (some mT)), (1, aI a), (2, aI b)]) rfl ?_
        refine ew_sub (List.forall_mem_cons.mpr ⟨lm1, (List.forall_mem_cons.mpr ⟨lm2, (List.forall_mem_cons.mpr ⟨lm3, (List.forall_mem_cons.mpr ⟨lm0, e_nm⟩)⟩)⟩)⟩) ?_
        refine ew_iconst dX7_hung_31 (inI_of rfl) ?_
        refine ew_istore dX7_hung_32 (by decide) (lv' := [(4, aI 0), (0, aR (some mT)), (1, aI a), (2, aI b), (3, aI b)]) rfl ?_
        refine ew_sub (List.forall_mem_cons.mpr ⟨lm1, (List.forall_mem_cons.mpr ⟨lm2, (List.forall_mem_cons.mpr ⟨lm3, (List.forall_mem_cons.mpr ⟨lm4, (List.forall_mem_cons.mpr ⟨lm0, e_nm⟩)⟩)⟩)⟩)⟩) ?_
        exact ew_sub (List.forall_mem_cons.mpr ⟨lm0, (List.forall_mem_cons.mpr ⟨lm1, (List.forall_mem_cons.mpr ⟨lm3, (List.forall_mem_cons.mpr ⟨lm4, e_nm⟩)⟩)⟩)⟩) H
      · replace H := H.2 c24
        refine ew_iconst dX7_hung_27 (inI_of rfl) ?_
        exact ew_ret (o := some (aI (-1))) rfl ⟨_, _, rfl, rfl, H⟩ ⟨dX7_hung_28, .int, rfl, Or.inl rfl, rfl⟩
    · replace H := H.2 c15
      refine ew_iconst dX7_hung_13 (inI_of rfl) ?_
      refine ew_goto (tgt := 18) dX7_hung_14 (by decide) ?_
      refine ew_callS (d := d + 1) (as := [aI 1]) rfl dX7_hung_18 me_unless rfl (Or.inl q1732) q1733 (Nat.le_of_ble_eq_true rfl) (Nat.le_refl 0) (Nat.le_refl 0) (S_unless (d := d + 1) H) (fun o h' hq26 _ => ?_) (fun E i h' q _ => (mQi_no q).elim)
      obtain ⟨r28, s25, E27, rfl, H⟩ := hq26
      cases E27
      refine ew_callV (d := d + 1) (as := [aI r28]) rfl dX7_hung_21 me_isRefused rfl (ci := 1) rfl rfl (mh_o _ _) (Or.inl q1594) q1596 qs56 (Nat.le_of_ble_eq_true rfl) (Nat.le_refl 0) (Nat.le_refl 0) (S_isRefused (d := d + 1) H) (fun o h' hq30 _ => ?_) (fun E i h' q _ => (mQi_no q).elim)
      obtain ⟨r32, s29, E31, rfl, H⟩ := hq30
      cases E31
      refine ew_if_eq (tgt := 29) dX7_hung_24 (by decide) (fun c33 => ?_) (fun c33 => ?_)
      · replace H := H.1 c33
        refine ew_iload_n dX7_hung_29 rfl lm2 ?_
        refine ew_istore_n dX7_hung_30 rfl (by decide) (lv' := [(3, aI b), (0, aR (some mT)), (1, aI a), (2, aI b)]) rfl ?_
        refine ew_sub (List.forall_mem_cons.mpr ⟨lm1, (List.forall_mem_cons.mpr ⟨lm2, (List.forall_mem_cons.mpr ⟨lm3, (List.forall_mem_cons.mpr ⟨lm0, e_nm⟩)⟩)⟩)⟩) ?_
        refine ew_iconst dX7_hung_31 (inI_of rfl) ?_
        refine ew_istore dX7_hung_32 (by decide) (lv' := [(4, aI 0), (0, aR (some mT)), (1, aI a), (2, aI b), (3, aI b)]) rfl ?_
        refine ew_sub (List.forall_mem_cons.mpr ⟨lm1, (List.forall_mem_cons.mpr ⟨lm2, (List.forall_mem_cons.mpr ⟨lm3, (List.forall_mem_cons.mpr ⟨lm4, (List.forall_mem_cons.mpr ⟨lm0, e_nm⟩)⟩)⟩)⟩)⟩) ?_
        exact ew_sub (List.forall_mem_cons.mpr ⟨lm0, (List.forall_mem_cons.mpr ⟨lm1, (List.forall_mem_cons.mpr ⟨lm3, (List.forall_mem_cons.mpr ⟨lm4, e_nm⟩)⟩)⟩)⟩) H
      · replace H := H.2 c33
        refine ew_iconst dX7_hung_27 (inI_of rfl) ?_
        exact ew_ret (o := some (aI (-1))) rfl ⟨_, _, rfl, rfl, H⟩ ⟨dX7_hung_28, .int, rfl, Or.inl rfl, rfl⟩
def C_hung (a : Int) (b : Int) (s0 : MS) (K : Int → MS → Prop) : Prop := ∀ (X34 : Int → Int → Int → MS → Prop), (∀ (x1 : Int) (x3 : Int) (x4 : Int) (s0 : MS), B_hung_34 X34 K x1 x3 x4 s0 → X34 x1 x3 x4 s0) → B_hung_E X34 K a b s0
theorem S_hung {d : Nat} {g : AH} {K : Int → MS → Prop} {a : Int} {b : Int} {s0 : MS} (H : C_hung a b s0 K) : Sp mm_hung (d + 2) 0 0 [aR (some mT), aI a, aI b] (mh s0 g) (mQi g K) :=
  ew_sp rfl (Nat.le_of_ble_eq_true rfl) (T_hung_E d g K a b s0 (H _ (fun x1 x3 x4 s0 H => T_hung_34 d g K x1 x3 x4 s0 H)))
abbrev mm_partOf : EM := (yX7_partOf, cX7_partOf, 3, some .int, [])
theorem me_partOf : e_mth mm_partOf 2 := ⟨rfl, q1778, q117, by decide +kernel, by decide⟩
def B_partOf_E  (K : Int → MS → Prop) (a : Int) (b : Int) (s0 : MS) : Prop :=
  (C_isTerm a s0 (fun r4 s1 => ((r4 = 0 → (C_unless 0 s1 (fun r9 s6 => (C_isRefused r9 s6 (fun r13 s10 => ((r13 = 0 → (C_takesOf a s10 (fun r18 s15 => ((r18 ≤ b → K (-2) s15) ∧ (¬ r18 ≤ b → ((inI (3 * a)) ∧ ((inI ((3 * a) + b)) ∧ ((0 ≤ ((3 * a) + b) ∧ ((3 * a) + b) < 72) ∧ K (s15.2 29 ((3 * a) + b)) s15)))))))) ∧ (¬ r13 = 0 → K (-1) s10))))))) ∧ (¬ r4 = 0 → ((b < 0 → (C_unless 0 s1 (fun r27 s24 => (C_isRefused r27 s24 (fun r31 s28 => ((r31 = 0 → (C_takesOf a s28 (fun r36 s33 => ((r36 ≤ b → K (-2) s33) ∧ (¬ r36 ≤ b → ((inI (3 * a)) ∧ ((inI ((3 * a) + b)) ∧ ((0 ≤ ((3 * a) + b) ∧ ((3 * a) + b) < 72) ∧ K (s33.2 29 ((3 * a) + b)) s33)))))))) ∧ (¬ r31 = 0 → K (-1) s28))))))) ∧ (¬ b < 0 → (C_unless 1 s1 (fun r44 s41 => (C_isRefused r44 s41 (fun r48 s45 => ((r48 = 0 → (C_takesOf a s45 (fun r53 s50 => ((r53 ≤ b → K (-2) s50) ∧ (¬ r53 ≤ b → ((inI (3 * a)) ∧ ((inI ((3 * a) + b)) ∧ ((0 ≤ ((3 * a) + b) ∧ ((3 * a) + b) < 72) ∧ K (s50.2 29 ((3 * a) + b)) s50)))))))) ∧ (¬ r48 = 0 → K (-1) s45))))))))))))
set_option maxHeartbeats 4000000 in
theorem T_partOf_E (d : Nat) (g : AH) (K : Int → MS → Prop) (a : Int) (b : Int) (s0 : MS) (H : B_partOf_E  K a b s0) : EW mm_partOf (d + 2) 0 0 (mQi g K) 0 [(0, aR (some mT)), (1, aI a), (2, aI b)] [] (mh s0 g) := by
  refine ew_aload_n dX7_partOf_0 rfl lm0 ?_
  refine ew_aload_n dX7_partOf_1 rfl lm0 ?_
  refine ew_iload_n dX7_partOf_2 rfl lm1 ?_
  refine ew_callV (d := d + 1) (as := [aI a]) rfl dX7_partOf_3 me_isTerm rfl (ci := 1) rfl rfl (mh_o _ _) (Or.inl q1751) q1753 qs88 (Nat.le_of_ble_eq_true rfl) (Nat.le_refl 0) (Nat.le_refl 0) (S_isTerm (d := d + 0) H) (fun o h' hq2 _ => ?_) (fun E i h' q _ => (mQi_no q).elim)
  obtain ⟨r4, s1, E3, rfl, H⟩ := hq2
  cases E3
  refine ew_if_eq (tgt := 17) dX7_partOf_6 (by decide) (fun c5 => ?_) (fun c5 => ?_)
  · replace H := H.1 c5
    refine ew_iconst dX7_partOf_17 (inI_of rfl) ?_
    refine ew_callS (d := d + 1) (as := [aI 0]) rfl dX7_partOf_18 me_unless rfl (Or.inl q1732) q1733 (Nat.le_of_ble_eq_true rfl) (Nat.le_refl 0) (Nat.le_refl 0) (S_unless (d := d + 1) H) (fun o h' hq7 _ => ?_) (fun E i h' q _ => (mQi_no q).elim)
    obtain ⟨r9, s6, E8, rfl, H⟩ := hq7
    cases E8
    refine ew_callV (d := d + 1) (as := [aI r9]) rfl dX7_partOf_21 me_isRefused rfl (ci := 1) rfl rfl (mh_o _ _) (Or.inl q1594) q1596 qs56 (Nat.le_of_ble_eq_true rfl) (Nat.le_refl 0) (Nat.le_refl 0) (S_isRefused (d := d + 1) H) (fun o h' hq11 _ => ?_) (fun E i h' q _ => (mQi_no q).elim)
    obtain ⟨r13, s10, E12, rfl, H⟩ := hq11
    cases E12
    refine ew_if_eq (tgt := 29) dX7_partOf_24 (by decide) (fun c14 => ?_) (fun c14 => ?_)
    · replace H := H.1 c14
      refine ew_iload_n dX7_partOf_29 rfl lm2 ?_
      refine ew_aload_n dX7_partOf_30 rfl lm0 ?_
      refine ew_iload_n dX7_partOf_31 rfl lm1 ?_
      refine ew_callV (d := d + 1) (as := [aI a]) rfl dX7_partOf_32 me_takesOf rfl (ci := 1) rfl rfl (mh_o _ _) (Or.inl q1692) q1694 qs79 (Nat.le_of_ble_eq_true rfl) (Nat.le_refl 0) (Nat.le_refl 0) (S_takesOf (d := d + 1) H) (fun o h' hq16 _ => ?_) (fun E i h' q _ => (mQi_no q).elim)
      obtain ⟨r18, s15, E17, rfl, H⟩ := hq16
      cases E17
      refine ew_icmp_ge (tgt := 51) dX7_partOf_35 (by decide) (fun c19 => ?_) (fun c19 => ?_)
      · replace H := H.1 c19
        refine ew_bipush dX7_partOf_51 (inI_of rfl) (by decide) ?_
        exact ew_ret (o := some (aI (-2))) rfl ⟨_, _, rfl, rfl, H⟩ ⟨dX7_partOf_53, .int, rfl, Or.inl rfl, rfl⟩
      · replace H := H.2 c19
        refine ew_aload_n dX7_partOf_38 rfl lm0 ?_
        refine mw_gA dX7_partOf_39 (e_fl.a q1435) mf_29 rfl ?_
        refine ew_iconst dX7_partOf_42 (inI_of rfl) ?_
        refine ew_iload_n dX7_partOf_43 rfl lm1 ?_
        obtain ⟨v20, H⟩ := H
        refine ew_imul dX7_partOf_44 v20 ?_
        refine ew_iload_n dX7_partOf_45 rfl lm2 ?_
        obtain ⟨v21, H⟩ := H
        refine ew_iadd dX7_partOf_46 v21 ?_
        obtain ⟨v22, H⟩ := H
        refine mw_iald dX7_partOf_47 rfl v22.1 v22.2 ?_
        refine ew_goto (tgt := 53) dX7_partOf_48 (by decide) ?_
        exact ew_ret (o := some (aI (s15.2 29 ((3 * a) + b)))) rfl ⟨_, _, rfl, rfl, H⟩ ⟨dX7_partOf_53, .int, rfl, Or.inl rfl, rfl⟩
    · replace H := H.2 c14
      refine ew_iconst dX7_partOf_27 (inI_of rfl) ?_
      exact ew_ret (o := some (aI (-1))) rfl ⟨_, _, rfl, rfl, H⟩ ⟨dX7_partOf_28, .int, rfl, Or.inl rfl, rfl⟩
  · replace H := H.2 c5
    refine ew_iload_n dX7_partOf_9 rfl lm2 ?_
    refine ew_if_lt (tgt := 17) dX7_partOf_10 (by decide) (fun c23 => ?_) (fun c23 => ?_)
    · replace H := H.1 c23
      refine ew_iconst dX7_partOf_17 (inI_of rfl) ?_
      refine ew_callS (d := d + 1) (as := [aI 0]) rfl dX7_partOf_18 me_unless rfl (Or.inl q1732) q1733 (Nat.le_of_ble_eq_true rfl) (Nat.le_refl 0) (Nat.le_refl 0) (S_unless (d := d + 1) H) (fun o h' hq25 _ => ?_) (fun E i h' q _ => (mQi_no q).elim)
      obtain ⟨r27, s24, E26, rfl, H⟩ := hq25
      cases E26
      refine ew_callV (d := d + 1) (as := [aI r27]) rfl dX7_partOf_21 me_isRefused rfl (ci := 1) rfl rfl (mh_o _ _) (Or.inl q1594) q1596 qs56 (Nat.le_of_ble_eq_true rfl) (Nat.le_refl 0) (Nat.le_refl 0) (S_isRefused (d := d + 1) H) (fun o h' hq29 _ => ?_) (fun E i h' q _ => (mQi_no q).elim)
      obtain ⟨r31, s28, E30, rfl, H⟩ := hq29
      cases E30
      refine ew_if_eq (tgt := 29) dX7_partOf_24 (by decide) (fun c32 => ?_) (fun c32 => ?_)
      · replace H := H.1 c32
        refine ew_iload_n dX7_partOf_29 rfl lm2 ?_
        refine ew_aload_n dX7_partOf_30 rfl lm0 ?_
        refine ew_iload_n dX7_partOf_31 rfl lm1 ?_
        refine ew_callV (d := d + 1) (as := [aI a]) rfl dX7_partOf_32 me_takesOf rfl (ci := 1) rfl rfl (mh_o _ _) (Or.inl q1692) q1694 qs79 (Nat.le_of_ble_eq_true rfl) (Nat.le_refl 0) (Nat.le_refl 0) (S_takesOf (d := d + 1) H) (fun o h' hq34 _ => ?_) (fun E i h' q _ => (mQi_no q).elim)
        obtain ⟨r36, s33, E35, rfl, H⟩ := hq34
        cases E35
        refine ew_icmp_ge (tgt := 51) dX7_partOf_35 (by decide) (fun c37 => ?_) (fun c37 => ?_)
        · replace H := H.1 c37
          refine ew_bipush dX7_partOf_51 (inI_of rfl) (by decide) ?_
          exact ew_ret (o := some (aI (-2))) rfl ⟨_, _, rfl, rfl, H⟩ ⟨dX7_partOf_53, .int, rfl, Or.inl rfl, rfl⟩
        · replace H := H.2 c37
          refine ew_aload_n dX7_partOf_38 rfl lm0 ?_
          refine mw_gA dX7_partOf_39 (e_fl.a q1435) mf_29 rfl ?_
          refine ew_iconst dX7_partOf_42 (inI_of rfl) ?_
          refine ew_iload_n dX7_partOf_43 rfl lm1 ?_
          obtain ⟨v38, H⟩ := H
          refine ew_imul dX7_partOf_44 v38 ?_
          refine ew_iload_n dX7_partOf_45 rfl lm2 ?_
          obtain ⟨v39, H⟩ := H
          refine ew_iadd dX7_partOf_46 v39 ?_
          obtain ⟨v40, H⟩ := H
          refine mw_iald dX7_partOf_47 rfl v40.1 v40.2 ?_
          refine ew_goto (tgt := 53) dX7_partOf_48 (by decide) ?_
          exact ew_ret (o := some (aI (s33.2 29 ((3 * a) + b)))) rfl ⟨_, _, rfl, rfl, H⟩ ⟨dX7_partOf_53, .int, rfl, Or.inl rfl, rfl⟩
      · replace H := H.2 c32
        refine ew_iconst dX7_partOf_27 (inI_of rfl) ?_
        exact ew_ret (o := some (aI (-1))) rfl ⟨_, _, rfl, rfl, H⟩ ⟨dX7_partOf_28, .int, rfl, Or.inl rfl, rfl⟩
    · replace H := H.2 c23
      refine ew_iconst dX7_partOf_13 (inI_of rfl) ?_
      refine ew_goto (tgt := 18) dX7_partOf_14 (by decide) ?_
      refine ew_callS (d := d + 1) (as := [aI 1]) rfl dX7_partOf_18 me_unless rfl (Or.inl q1732) q1733 (Nat.le_of_ble_eq_true rfl) (Nat.le_refl 0) (Nat.le_refl 0) (S_unless (d := d + 1) H) (fun o h' hq42 _ => ?_) (fun E i h' q _ => (mQi_no q).elim)
      obtain ⟨r44, s41, E43, rfl, H⟩ := hq42
      cases E43
      refine ew_callV (d := d + 1) (as := [aI r44]) rfl dX7_partOf_21 me_isRefused rfl (ci := 1) rfl rfl (mh_o _ _) (Or.inl q1594) q1596 qs56 (Nat.le_of_ble_eq_true rfl) (Nat.le_refl 0) (Nat.le_refl 0) (S_isRefused (d := d + 1) H) (fun o h' hq46 _ => ?_) (fun E i h' q _ => (mQi_no q).elim)
      obtain ⟨r48, s45, E47, rfl, H⟩ := hq46
      cases E47
      refine ew_if_eq (tgt := 29) dX7_partOf_24 (by decide) (fun c49 => ?_) (fun c49 => ?_)
      · replace H := H.1 c49
        refine ew_iload_n dX7_partOf_29 rfl lm2 ?_
        refine ew_aload_n dX7_partOf_30 rfl lm0 ?_
        refine ew_iload_n dX7_partOf_31 rfl lm1 ?_
        refine ew_callV (d := d + 1) (as := [aI a]) rfl dX7_partOf_32 me_takesOf rfl (ci := 1) rfl rfl (mh_o _ _) (Or.inl q1692) q1694 qs79 (Nat.le_of_ble_eq_true rfl) (Nat.le_refl 0) (Nat.le_refl 0) (S_takesOf (d := d + 1) H) (fun o h' hq51 _ => ?_) (fun E i h' q _ => (mQi_no q).elim)
        obtain ⟨r53, s50, E52, rfl, H⟩ := hq51
        cases E52
        refine ew_icmp_ge (tgt := 51) dX7_partOf_35 (by decide) (fun c54 => ?_) (fun c54 => ?_)
        · replace H := H.1 c54
          refine ew_bipush dX7_partOf_51 (inI_of rfl) (by decide) ?_
          exact ew_ret (o := some (aI (-2))) rfl ⟨_, _, rfl, rfl, H⟩ ⟨dX7_partOf_53, .int, rfl, Or.inl rfl, rfl⟩
        · replace H := H.2 c54
          refine ew_aload_n dX7_partOf_38 rfl lm0 ?_
          refine mw_gA dX7_partOf_39 (e_fl.a q1435) mf_29 rfl ?_
          refine ew_iconst dX7_partOf_42 (inI_of rfl) ?_
          refine ew_iload_n dX7_partOf_43 rfl lm1 ?_
          obtain ⟨v55, H⟩ := H
          refine ew_imul dX7_partOf_44 v55 ?_
          refine ew_iload_n dX7_partOf_45 rfl lm2 ?_
          obtain ⟨v56, H⟩ := H
          refine ew_iadd dX7_partOf_46 v56 ?_
          obtain ⟨v57, H⟩ := H
          refine mw_iald dX7_partOf_47 rfl v57.1 v57.2 ?_
          refine ew_goto (tgt := 53) dX7_partOf_48 (by decide) ?_
          exact ew_ret (o := some (aI (s50.2 29 ((3 * a) + b)))) rfl ⟨_, _, rfl, rfl, H⟩ ⟨dX7_partOf_53, .int, rfl, Or.inl rfl, rfl⟩
      · replace H := H.2 c49
        refine ew_iconst dX7_partOf_27 (inI_of rfl) ?_
        exact ew_ret (o := some (aI (-1))) rfl ⟨_, _, rfl, rfl, H⟩ ⟨dX7_partOf_28, .int, rfl, Or.inl rfl, rfl⟩
def C_partOf (a : Int) (b : Int) (s0 : MS) (K : Int → MS → Prop) : Prop := B_partOf_E  K a b s0
theorem S_partOf {d : Nat} {g : AH} {K : Int → MS → Prop} {a : Int} {b : Int} {s0 : MS} (H : C_partOf a b s0 K) : Sp mm_partOf (d + 2) 0 0 [aR (some mT), aI a, aI b] (mh s0 g) (mQi g K) :=
  ew_sp rfl (Nat.le_of_ble_eq_true rfl) (T_partOf_E d g K a b s0 (H  ))
abbrev mm_allSames : EM := (yX7_allSames, cX7_allSames, 1, some .int, [])
theorem me_allSames : e_mth mm_allSames 0 := ⟨rfl, q1786, q117, by decide +kernel, by decide⟩
def B_allSames_E  (K : Int → MS → Prop)  (s0 : MS) : Prop :=
  ((inI ((jshl 1 (s0.1 30)) - 1)) ∧ K ((jshl 1 (s0.1 30)) - 1) s0)
set_option maxHeartbeats 4000000 in
theorem T_allSames_E (d : Nat) (g : AH) (K : Int → MS → Prop)  (s0 : MS) (H : B_allSames_E  K  s0) : EW mm_allSames (d + 0) 0 0 (mQi g K) 0 [(0, aR (some mT))] [] (mh s0 g) := by
  refine ew_iconst dX7_allSames_0 (inI_of rfl) ?_
  refine ew_aload_n dX7_allSames_1 rfl lm0 ?_
  refine mw_gI dX7_allSames_2 (e_fl.a q1436) mf_30 rfl ?_
  refine ew_ishl dX7_allSames_5 ?_
  refine ew_iconst dX7_allSames_6 (inI_of rfl) ?_
  obtain ⟨v1, H⟩ := H
  refine ew_isub dX7_allSames_7 v1 ?_
  exact ew_ret (o := some (aI ((jshl 1 (s0.1 30)) - 1))) rfl ⟨_, _, rfl, rfl, H⟩ ⟨dX7_allSames_8, .int, rfl, Or.inl rfl, rfl⟩
def C_allSames  (s0 : MS) (K : Int → MS → Prop) : Prop := B_allSames_E  K  s0
theorem S_allSames {d : Nat} {g : AH} {K : Int → MS → Prop}  {s0 : MS} (H : C_allSames  s0 K) : Sp mm_allSames (d + 0) 0 0 [aR (some mT)] (mh s0 g) (mQi g K) :=
  ew_sp rfl (Nat.le_of_ble_eq_true rfl) (T_allSames_E d g K  s0 (H  ))
abbrev mm_closesBy : EM := (yX7_closesBy, cX7_closesBy, 5, none, [])
theorem me_closesBy : e_mth mm_closesBy 1 := ⟨rfl, q1794, q117, by decide +kernel, by decide⟩
def B_closesBy_2 (X2 : Int → Int → MS → Prop) (X25 : Int → Int → MS → Prop) (X68 : Int → MS → Prop) (X76 : Int → Int → MS → Prop) (X89 : Int → Int → Int → MS → Prop) (K : MS → Prop) (x1 : Int) (x2 : Int) (s0 : MS) : Prop :=
  (((s0.1 27) ≤ x2 → X25 x1 0 s0) ∧ (¬ (s0.1 27) ≤ x2 → ((0 ≤ x2 ∧ x2 < 24) ∧ ∀ s2 : MS, s2 = ma s0 44 x2 x2 → (inI (x2 + 1) ∧ X2 x1 (x2 + 1) s2))))
def B_closesBy_25 (X2 : Int → Int → MS → Prop) (X25 : Int → Int → MS → Prop) (X68 : Int → MS → Prop) (X76 : Int → Int → MS → Prop) (X89 : Int → Int → Int → MS → Prop) (K : MS → Prop) (x1 : Int) (x2 : Int) (s0 : MS) : Prop :=
  ((12 < x2 → X68 1 s0) ∧ (¬ 12 < x2 → (((jand (jshr x1 x2) 1) = 1 → ((0 ≤ x2 ∧ x2 < 13) ∧ ((0 ≤ x2 ∧ x2 < 13) ∧ (C_unites 44 (s0.2 31 x2) (s0.2 32 x2) s0 (fun s6 => (inI (x2 + 1) ∧ X25 x1 (x2 + 1) s6)))))) ∧ (¬ (jand (jshr x1 x2) 1) = 1 → (inI (x2 + 1) ∧ X25 x1 (x2 + 1) s0)))))
def B_closesBy_68 (X2 : Int → Int → MS → Prop) (X25 : Int → Int → MS → Prop) (X68 : Int → MS → Prop) (X76 : Int → Int → MS → Prop) (X89 : Int → Int → Int → MS → Prop) (K : MS → Prop) (x2 : Int) (s0 : MS) : Prop :=
  ((x2 = 0 → K s0) ∧ (¬ x2 = 0 → X76 0 0 s0))
def B_closesBy_76 (X2 : Int → Int → MS → Prop) (X25 : Int → Int → MS → Prop) (X68 : Int → MS → Prop) (X76 : Int → Int → MS → Prop) (X89 : Int → Int → Int → MS → Prop) (K : MS → Prop) (x2 : Int) (x3 : Int) (s0 : MS) : Prop :=
  (((s0.1 27) ≤ x3 → X68 x2 s0) ∧ (¬ (s0.1 27) ≤ x3 → ((inI (x3 + 1)) ∧ X89 x2 x3 (x3 + 1) s0)))
def B_closesBy_89 (X2 : Int → Int → MS → Prop) (X25 : Int → Int → MS → Prop) (X68 : Int → MS → Prop) (X76 : Int → Int → MS → Prop) (X89 : Int → Int → Int → MS → Prop) (K : MS → Prop) (x2 : Int) (x3 : Int) (x4 : Int) (s0 : MS) : Prop :=
  (((s0.1 27) ≤ x4 → (inI (x3 + 1) ∧ X76 x2 (x3 + 1) s0)) ∧ (¬ (s0.1 27) ≤ x4 → ((0 ≤ x3 ∧ x3 < 24) ∧ ((0 ≤ x4 ∧ x4 < 24) ∧ (((s0.2 44 x3) = (s0.2 44 x4) → (inI (x4 + 1) ∧ X89 x2 x3 (x4 + 1) s0)) ∧ (¬ (s0.2 44 x3) = (s0.2 44 x4) → (C_isAlike 44 x3 x4 s0 (fun r10 s7 => ((r10 = 0 → (inI (x4 + 1) ∧ X89 x2 x3 (x4 + 1) s7)) ∧ (¬ r10 = 0 → (C_unites 44 x3 x4 s7 (fun s13 => (inI (x4 + 1) ∧ X89 1 x3 (x4 + 1) s13)))))))))))))
def B_closesBy_E (X2 : Int → Int → MS → Prop) (X25 : Int → Int → MS → Prop) (X68 : Int → MS → Prop) (X76 : Int → Int → MS → Prop) (X89 : Int → Int → Int → MS → Prop) (K : MS → Prop) (a : Int) (s0 : MS) : Prop :=
  X2 a 0 s0
def W_closesBy_2 (d : Nat) (g : AH) (K : MS → Prop) (x1 : Int) (x2 : Int) (s0 : MS) : Prop := EW mm_closesBy (d + 2) 0 0 (mQ g K) 2 [(0, aR (some mT)), (1, aI x1), (2, aI x2)] [] (mh s0 g)
def W_closesBy_25 (d : Nat) (g : AH) (K : MS → Prop) (x1 : Int) (x2 : Int) (s0 : MS) : Prop := EW mm_closesBy (d + 2) 0 0 (mQ g K) 25 [(0, aR (some mT)), (1, aI x1), (2, aI x2)] [] (mh s0 g)
def W_closesBy_68 (d : Nat) (g : AH) (K : MS → Prop) (x2 : Int) (s0 : MS) : Prop := EW mm_closesBy (d + 2) 0 0 (mQ g K) 68 [(0, aR (some mT)), (2, aI x2)] [] (mh s0 g)
def W_closesBy_76 (d : Nat) (g : AH) (K : MS → Prop) (x2 : Int) (x3 : Int) (s0 : MS) : Prop := EW mm_closesBy (d + 2) 0 0 (mQ g K) 76 [(0, aR (some mT)), (2, aI x2), (3, aI x3)] [] (mh s0 g)
def W_closesBy_89 (d : Nat) (g : AH) (K : MS → Prop) (x2 : Int) (x3 : Int) (x4 : Int) (s0 : MS) : Prop := EW mm_closesBy (d + 2) 0 0 (mQ g K) 89 [(0, aR (some mT)), (2, aI x2), (3, aI x3), (4, aI x4)] [] (mh s0 g)
set_option maxHeartbeats 4000000 in
theorem T_closesBy_2 (d : Nat) (g : AH) (K : MS → Prop) (x1 : Int) (x2 : Int) (s0 : MS) (H : B_closesBy_2 (W_closesBy_2 d g K) (W_closesBy_25 d g K) (W_closesBy_68 d g K) (W_closesBy_76 d g K) (W_closesBy_89 d g K) K x1 x2 s0) : EW mm_closesBy (d + 2) 0 0 (mQ g K) 2 [(0, aR (some mT)), (1, aI x1), (2, aI x2)] [] (mh s0 g) := by
  refine ew_iload_n dX7_closesBy_2 rfl lm2 ?_
  refine ew_aload_n dX7_closesBy_3 rfl lm0 ?_
  refine mw_gI dX7_closesBy_4 (e_fl.a q1433) mf_27 rfl ?_
  refine ew_icmp_ge (tgt := 23) dX7_closesBy_7 (by decide) (fun c1 => ?_) (fun c1 => ?_)
  · replace H := H.1 c1
    refine ew_iconst dX7_closesBy_23 (inI_of rfl) ?_
    refine ew_istore_n dX7_closesBy_24 rfl (by decide) (lv' := [(2, aI 0), (0, aR (some mT)), (1, aI x1)]) rfl ?_
    refine ew_sub (List.forall_mem_cons.mpr ⟨lm1, (List.forall_mem_cons.mpr ⟨lm2, (List.forall_mem_cons.mpr ⟨lm0, e_nm⟩)⟩)⟩) ?_
    exact ew_sub (List.forall_mem_cons.mpr ⟨lm0, (List.forall_mem_cons.mpr ⟨lm1, (List.forall_mem_cons.mpr ⟨lm2, e_nm⟩)⟩)⟩) H
  · replace H := H.2 c1
    refine ew_aload_n dX7_closesBy_10 rfl lm0 ?_
    refine mw_gA dX7_closesBy_11 (e_fl.a q1450) mf_44 rfl ?_
    refine ew_iload_n dX7_closesBy_14 rfl lm2 ?_
    refine ew_iload_n dX7_closesBy_15 rfl lm2 ?_
    obtain ⟨v4, H⟩ := H
    refine mw_iast dX7_closesBy_16 rfl v4.1 v4.2 (fun s2 e3 => ?_)
    replace H := H s2 e3
    obtain ⟨v5, H⟩ := H
    refine ew_iinc dX7_closesBy_17 lm2 (by decide) v5 (lv' := [(2, aI (x2 + 1)), (0, aR (some mT)), (1, aI x1)]) rfl ?_
    refine ew_sub (List.forall_mem_cons.mpr ⟨lm1, (List.forall_mem_cons.mpr ⟨lm2, (List.forall_mem_cons.mpr ⟨lm0, e_nm⟩)⟩)⟩) ?_
    refine ew_goto (tgt := 2) dX7_closesBy_20 (by decide) ?_
    exact ew_sub (List.forall_mem_cons.mpr ⟨lm0, (List.forall_mem_cons.mpr ⟨lm1, (List.forall_mem_cons.mpr ⟨lm2, e_nm⟩)⟩)⟩) H
set_option maxHeartbeats 4000000 in
theorem T_closesBy_25 (d : Nat) (g : AH) (K : MS → Prop) (x1 : Int) (x2 : Int) (s0 : MS) (H : B_closesBy_25 (W_closesBy_2 d g K) (W_closesBy_25 d g K) (W_closesBy_68 d g K) (W_closesBy_76 d g K) (W_closesBy_89 d g K) K x1 x2 s0) : EW mm_closesBy (d + 2) 0 0 (mQ g K) 25 [(0, aR (some mT)), (1, aI x1), (2, aI x2)] [] (mh s0 g) := by
  refine ew_iload_n dX7_closesBy_25 rfl lm2 ?_
  refine ew_bipush dX7_closesBy_26 (inI_of rfl) (by decide) ?_
  refine ew_icmp_gt (tgt := 66) dX7_closesBy_28 (by decide) (fun c1 => ?_) (fun c1 => ?_)
  · replace H := H.1 c1
    refine ew_iconst dX7_closesBy_66 (inI_of rfl) ?_
    refine ew_istore_n dX7_closesBy_67 rfl (by decide) (lv' := [(2, aI 1), (0, aR (some mT)), (1, aI x1)]) rfl ?_
    refine ew_sub (List.forall_mem_cons.mpr ⟨lm1, (List.forall_mem_cons.mpr ⟨lm2, (List.forall_mem_cons.mpr ⟨lm0, e_nm⟩)⟩)⟩) ?_
    exact ew_sub (List.forall_mem_cons.mpr ⟨lm0, (List.forall_mem_cons.mpr ⟨lm2, e_nm⟩)⟩) H
  · replace H := H.2 c1
    refine ew_iload_n dX7_closesBy_31 rfl lm1 ?_
    refine ew_iload_n dX7_closesBy_32 rfl lm2 ?_
    refine ew_ishr dX7_closesBy_33 ?_
    refine ew_iconst dX7_closesBy_34 (inI_of rfl) ?_
    refine ew_iand dX7_closesBy_35 ?_
    refine ew_iconst dX7_closesBy_36 (inI_of rfl) ?_
    refine ew_icmp_ne (tgt := 60) dX7_closesBy_37 (by decide) (fun c2 => ?_) (fun c2 => ?_)
    · replace H := H.2 c2
      obtain ⟨v3, H⟩ := H
      refine ew_iinc dX7_closesBy_60 lm2 (by decide) v3 (lv' := [(2, aI (x2 + 1)), (0, aR (some mT)), (1, aI x1)]) rfl ?_
      refine ew_sub (List.forall_mem_cons.mpr ⟨lm1, (List.forall_mem_cons.mpr ⟨lm2, (List.forall_mem_cons.mpr ⟨lm0, e_nm⟩)⟩)⟩) ?_
      refine ew_goto (tgt := 25) dX7_closesBy_63 (by decide) ?_
      exact ew_sub (List.forall_mem_cons.mpr ⟨lm0, (List.forall_mem_cons.mpr ⟨lm1, (List.forall_mem_cons.mpr ⟨lm2, e_nm⟩)⟩)⟩) H
    · replace H := H.1 c2
      refine ew_aload_n dX7_closesBy_40 rfl lm0 ?_
      refine ew_aload_n dX7_closesBy_41 rfl lm0 ?_
      refine mw_gA dX7_closesBy_42 (e_fl.a q1450) mf_44 rfl ?_
      refine ew_aload_n dX7_closesBy_45 rfl lm0 ?_
      refine mw_gA dX7_closesBy_46 (e_fl.a q1437) mf_31 rfl ?_
      refine ew_iload_n dX7_closesBy_49 rfl lm2 ?_
      obtain ⟨v4, H⟩ := H
      refine mw_iald dX7_closesBy_50 rfl v4.1 v4.2 ?_
      refine ew_aload_n dX7_closesBy_51 rfl lm0 ?_
      refine mw_gA dX7_closesBy_52 (e_fl.a q1438) mf_32 rfl ?_
      refine ew_iload_n dX7_closesBy_55 rfl lm2 ?_
      obtain ⟨v5, H⟩ := H
      refine mw_iald dX7_closesBy_56 rfl v5.1 v5.2 ?_
      refine ew_callV (d := d + 1) (as := [aR (some (0, 1, 44)), aI (s0.2 31 x2), aI (s0.2 32 x2)]) rfl dX7_closesBy_57 me_unites rfl (ci := 1) rfl rfl (mh_o _ _) (Or.inl q1712) q1714 qs84 (Nat.le_of_ble_eq_true rfl) (Nat.le_refl 0) (Nat.le_refl 0) (S_unites (d := d + 1) H) (fun o h' hq7 _ => ?_) (fun E i h' q _ => (mQ_no q).elim)
      obtain ⟨s6, E8, rfl, H⟩ := hq7
      cases E8
      obtain ⟨v9, H⟩ := H
      refine ew_iinc dX7_closesBy_60 lm2 (by decide) v9 (lv' := [(2, aI (x2 + 1)), (0, aR (some mT)), (1, aI x1)]) rfl ?_
      refine ew_sub (List.forall_mem_cons.mpr ⟨lm1, (List.forall_mem_cons.mpr ⟨lm2, (List.forall_mem_cons.mpr ⟨lm0, e_nm⟩)⟩)⟩) ?_
      refine ew_goto (tgt := 25) dX7_closesBy_63 (by decide) ?_
      exact ew_sub (List.forall_mem_cons.mpr ⟨lm0, (List.forall_mem_cons.mpr ⟨lm1, (List.forall_mem_cons.mpr ⟨lm2, e_nm⟩)⟩)⟩) H
set_option maxHeartbeats 4000000 in
theorem T_closesBy_68 (d : Nat) (g : AH) (K : MS → Prop) (x2 : Int) (s0 : MS) (H : B_closesBy_68 (W_closesBy_2 d g K) (W_closesBy_25 d g K) (W_closesBy_68 d g K) (W_closesBy_76 d g K) (W_closesBy_89 d g K) K x2 s0) : EW mm_closesBy (d + 2) 0 0 (mQ g K) 68 [(0, aR (some mT)), (2, aI x2)] [] (mh s0 g) := by
  refine ew_iload_n dX7_closesBy_68 rfl lm1 ?_
  refine ew_if_eq (tgt := 156) dX7_closesBy_69 (by decide) (fun c1 => ?_) (fun c1 => ?_)
  · replace H := H.1 c1
    exact ew_ret (o := none) rfl ⟨_, rfl, rfl, H⟩ ⟨rfl, dX7_closesBy_156⟩
  · replace H := H.2 c1
    refine ew_iconst dX7_closesBy_72 (inI_of rfl) ?_
    refine ew_istore_n dX7_closesBy_73 rfl (by decide) (lv' := [(2, aI 0), (0, aR (some mT))]) rfl ?_
    refine ew_sub (List.forall_mem_cons.mpr ⟨lm1, (List.forall_mem_cons.mpr ⟨lm0, e_nm⟩)⟩) ?_
    refine ew_iconst dX7_closesBy_74 (inI_of rfl) ?_
    refine ew_istore_n dX7_closesBy_75 rfl (by decide) (lv' := [(3, aI 0), (0, aR (some mT)), (2, aI 0)]) rfl ?_
    refine ew_sub (List.forall_mem_cons.mpr ⟨lm1, (List.forall_mem_cons.mpr ⟨lm2, (List.forall_mem_cons.mpr ⟨lm0, e_nm⟩)⟩)⟩) ?_
    exact ew_sub (List.forall_mem_cons.mpr ⟨lm0, (List.forall_mem_cons.mpr ⟨lm1, (List.forall_mem_cons.mpr ⟨lm2, e_nm⟩)⟩)⟩) H
set_option maxHeartbeats 4000000 in
theorem T_closesBy_76 (d : Nat) (g : AH) (K : MS → Prop) (x2 : Int) (x3 : Int) (s0 : MS) (H : B_closesBy_76 (W_closesBy_2 d g K) (W_closesBy_25 d g K) (W_closesBy_68 d g K) (W_closesBy_76 d g K) (W_closesBy_89 d g K) K x2 x3 s0) : EW mm_closesBy (d + 2) 0 0 (mQ g K) 76 [(0, aR (some mT)), (2, aI x2), (3, aI x3)] [] (mh s0 g) := by
  refine ew_iload_n dX7_closesBy_76 rfl lm2 ?_
  refine ew_aload_n dX7_closesBy_77 rfl lm0 ?_
  refine mw_gI dX7_closesBy_78 (e_fl.a q1433) mf_27 rfl ?_
  refine ew_icmp_ge (tgt := 153) dX7_closesBy_81 (by decide) (fun c1 => ?_) (fun c1 => ?_)
  · replace H := H.1 c1
    refine ew_goto (tgt := 68) dX7_closesBy_153 (by decide) ?_
    exact ew_sub (List.forall_mem_cons.mpr ⟨lm0, (List.forall_mem_cons.mpr ⟨lm1, e_nm⟩)⟩) H
  · replace H := H.2 c1
    refine ew_iload_n dX7_closesBy_84 rfl lm2 ?_
    refine ew_iconst dX7_closesBy_85 (inI_of rfl) ?_
    obtain ⟨v2, H⟩ := H
    refine ew_iadd dX7_closesBy_86 v2 ?_
    refine ew_istore dX7_closesBy_87 (by decide) (lv' := [(4, aI (x3 + 1)), (0, aR (some mT)), (2, aI x2), (3, aI x3)]) rfl ?_
    refine ew_sub (List.forall_mem_cons.mpr ⟨lm1, (List.forall_mem_cons.mpr ⟨lm2, (List.forall_mem_cons.mpr ⟨lm3, (List.forall_mem_cons.mpr ⟨lm0, e_nm⟩)⟩)⟩)⟩) ?_
    exact ew_sub (List.forall_mem_cons.mpr ⟨lm0, (List.forall_mem_cons.mpr ⟨lm1, (List.forall_mem_cons.mpr ⟨lm2, (List.forall_mem_cons.mpr ⟨lm3, e_nm⟩)⟩)⟩)⟩) H
set_option maxHeartbeats 4000000 in
theorem T_closesBy_89 (d : Nat) (g : AH) (K : MS → Prop) (x2 : Int) (x3 : Int) (x4 : Int) (s0 : MS) (H : B_closesBy_89 (W_closesBy_2 d g K) (W_closesBy_25 d g K) (W_closesBy_68 d g K) (W_closesBy_76 d g K) (W_closesBy_89 d g K) K x2 x3 x4 s0) : EW mm_closesBy (d + 2) 0 0 (mQ g K) 89 [(0, aR (some mT)), (2, aI x2), (3, aI x3), (4, aI x4)] [] (mh s0 g) := by
  refine ew_iload dX7_closesBy_89 lm3 ?_
  refine ew_aload_n dX7_closesBy_91 rfl lm0 ?_
  refine mw_gI dX7_closesBy_92 (e_fl.a q1433) mf_27 rfl ?_
  refine ew_icmp_ge (tgt := 147) dX7_closesBy_95 (by decide) (fun c1 => ?_) (fun c1 => ?_)
  · replace H := H.1 c1
    obtain ⟨v2, H⟩ := H
    refine ew_iinc dX7_closesBy_147 lm2 (by decide) v2 (lv' := [(3, aI (x3 + 1)), (0, aR (some mT)), (2, aI x2), (4, aI x4)]) rfl ?_
    refine ew_sub (List.forall_mem_cons.mpr ⟨lm1, (List.forall_mem_cons.mpr ⟨lm2, (List.forall_mem_cons.mpr ⟨lm0, (List.forall_mem_cons.mpr ⟨lm3, e_nm⟩)⟩)⟩)⟩) ?_
    refine ew_goto (tgt := 76) dX7_closesBy_150 (by decide) ?_
    exact ew_sub (List.forall_mem_cons.mpr ⟨lm0, (List.forall_mem_cons.mpr ⟨lm1, (List.forall_mem_cons.mpr ⟨lm2, e_nm⟩)⟩)⟩) H
  · replace H := H.2 c1
    refine ew_aload_n dX7_closesBy_98 rfl lm0 ?_
    refine mw_gA dX7_closesBy_99 (e_fl.a q1450) mf_44 rfl ?_
    refine ew_iload_n dX7_closesBy_102 rfl lm2 ?_
    obtain ⟨v3, H⟩ := H
    refine mw_iald dX7_closesBy_103 rfl v3.1 v3.2 ?_
    refine ew_aload_n dX7_closesBy_104 rfl lm0 ?_
    refine mw_gA dX7_closesBy_105 (e_fl.a q1450) mf_44 rfl ?_
    refine ew_iload dX7_closesBy_108 lm3 ?_
    obtain ⟨v4, H⟩ := H
    refine mw_iald dX7_closesBy_110 rfl v4.1 v4.2 ?_
    refine ew_icmp_eq (tgt := 141) dX7_closesBy_111 (by decide) (fun c5 => ?_) (fun c5 => ?_)
    · replace H := H.1 c5
      obtain ⟨v6, H⟩ := H
      refine ew_iinc dX7_closesBy_141 lm3 (by decide) v6 (lv' := [(4, aI (x4 + 1)), (0, aR (some mT)), (2, aI x2), (3, aI x3)]) rfl ?_
      refine ew_sub (List.forall_mem_cons.mpr ⟨lm1, (List.forall_mem_cons.mpr ⟨lm2, (List.forall_mem_cons.mpr ⟨lm3, (List.forall_mem_cons.mpr ⟨lm0, e_nm⟩)⟩)⟩)⟩) ?_
      refine ew_goto (tgt := 89) dX7_closesBy_144 (by decide) ?_
      exact ew_sub (List.forall_mem_cons.mpr ⟨lm0, (List.forall_mem_cons.mpr ⟨lm1, (List.forall_mem_cons.mpr ⟨lm2, (List.forall_mem_cons.mpr ⟨lm3, e_nm⟩)⟩)⟩)⟩) H
    · replace H := H.2 c5
      refine ew_aload_n dX7_closesBy_114 rfl lm0 ?_
      refine ew_aload_n dX7_closesBy_115 rfl lm0 ?_
      refine mw_gA dX7_closesBy_116 (e_fl.a q1450) mf_44 rfl ?_
      refine ew_iload_n dX7_closesBy_119 rfl lm2 ?_
      refine ew_iload dX7_closesBy_120 lm3 ?_
      refine ew_callV (d := d + 1) (as := [aR (some (0, 1, 44)), aI x3, aI x4]) rfl dX7_closesBy_122 me_isAlike rfl (ci := 1) rfl rfl (mh_o _ _) (Or.inl q1688) q1690 qs78 (Nat.le_of_ble_eq_true rfl) (Nat.le_refl 0) (Nat.le_refl 0) (S_isAlike (d := d + 0) H) (fun o h' hq8 _ => ?_) (fun E i h' q _ => (mQi_no q).elim)
      obtain ⟨r10, s7, E9, rfl, H⟩ := hq8
      cases E9
      refine ew_if_eq (tgt := 141) dX7_closesBy_125 (by decide) (fun c11 => ?_) (fun c11 => ?_)
      · replace H := H.1 c11
        obtain ⟨v12, H⟩ := H
        refine ew_iinc dX7_closesBy_141 lm3 (by decide) v12 (lv' := [(4, aI (x4 + 1)), (0, aR (some mT)), (2, aI x2), (3, aI x3)]) rfl ?_
        refine ew_sub (List.forall_mem_cons.mpr ⟨lm1, (List.forall_mem_cons.mpr ⟨lm2, (List.forall_mem_cons.mpr ⟨lm3, (List.forall_mem_cons.mpr ⟨lm0, e_nm⟩)⟩)⟩)⟩) ?_
        refine ew_goto (tgt := 89) dX7_closesBy_144 (by decide) ?_
        exact ew_sub (List.forall_mem_cons.mpr ⟨lm0, (List.forall_mem_cons.mpr ⟨lm1, (List.forall_mem_cons.mpr ⟨lm2, (List.forall_mem_cons.mpr ⟨lm3, e_nm⟩)⟩)⟩)⟩) H
      · replace H := H.2 c11
        refine ew_aload_n dX7_closesBy_128 rfl lm0 ?_
        refine ew_aload_n dX7_closesBy_129 rfl lm0 ?_
        refine mw_gA dX7_closesBy_130 (e_fl.a q1450) mf_44 rfl ?_
        refine ew_iload_n dX7_closesBy_133 rfl lm2 ?_
        refine ew_iload dX7_closesBy_134 lm3 ?_
        refine ew_callV (d := d + 1) (as := [aR (some (0, 1, 44)), aI x3, aI x4]) rfl dX7_closesBy_136 me_unites rfl (ci := 1) rfl rfl (mh_o _ _) (Or.inl q1712) q1714 qs84 (Nat.le_of_ble_eq_true rfl) (Nat.le_refl 0) (Nat.le_refl 0) (S_unites (d := d + 1) H) (fun o h' hq14 _ => ?_) (fun E i h' q _ => (mQ_no q).elim)
        obtain ⟨s13, E15, rfl, H⟩ := hq14
        cases E15
        refine ew_iconst dX7_closesBy_139 (inI_of rfl) ?_
        refine ew_istore_n dX7_closesBy_140 rfl (by decide) (lv' := [(2, aI 1), (0, aR (some mT)), (3, aI x3), (4, aI x4)]) rfl ?_
        refine ew_sub (List.forall_mem_cons.mpr ⟨lm1, (List.forall_mem_cons.mpr ⟨lm0, (List.forall_mem_cons.mpr ⟨lm2, (List.forall_mem_cons.mpr ⟨lm3, e_nm⟩)⟩)⟩)⟩) ?_
        obtain ⟨v16, H⟩ := H
        refine ew_iinc dX7_closesBy_141 lm3 (by decide) v16 (lv' := [(4, aI (x4 + 1)), (0, aR (some mT)), (2, aI 1), (3, aI x3)]) rfl ?_
        refine ew_sub (List.forall_mem_cons.mpr ⟨lm1, (List.forall_mem_cons.mpr ⟨lm2, (List.forall_mem_cons.mpr ⟨lm3, (List.forall_mem_cons.mpr ⟨lm0, e_nm⟩)⟩)⟩)⟩) ?_
        refine ew_goto (tgt := 89) dX7_closesBy_144 (by decide) ?_
        exact ew_sub (List.forall_mem_cons.mpr ⟨lm0, (List.forall_mem_cons.mpr ⟨lm1, (List.forall_mem_cons.mpr ⟨lm2, (List.forall_mem_cons.mpr ⟨lm3, e_nm⟩)⟩)⟩)⟩) H
set_option maxHeartbeats 4000000 in
theorem T_closesBy_E (d : Nat) (g : AH) (K : MS → Prop) (a : Int) (s0 : MS) (H : B_closesBy_E (W_closesBy_2 d g K) (W_closesBy_25 d g K) (W_closesBy_68 d g K) (W_closesBy_76 d g K) (W_closesBy_89 d g K) K a s0) : EW mm_closesBy (d + 2) 0 0 (mQ g K) 0 [(0, aR (some mT)), (1, aI a)] [] (mh s0 g) := by
  refine ew_iconst dX7_closesBy_0 (inI_of rfl) ?_
  refine ew_istore_n dX7_closesBy_1 rfl (by decide) (lv' := [(2, aI 0), (0, aR (some mT)), (1, aI a)]) rfl ?_
  refine ew_sub (List.forall_mem_cons.mpr ⟨lm1, (List.forall_mem_cons.mpr ⟨lm2, (List.forall_mem_cons.mpr ⟨lm0, e_nm⟩)⟩)⟩) ?_
  exact ew_sub (List.forall_mem_cons.mpr ⟨lm0, (List.forall_mem_cons.mpr ⟨lm1, (List.forall_mem_cons.mpr ⟨lm2, e_nm⟩)⟩)⟩) H
def C_closesBy (a : Int) (s0 : MS) (K : MS → Prop) : Prop := ∀ (X2 : Int → Int → MS → Prop) (X25 : Int → Int → MS → Prop) (X68 : Int → MS → Prop) (X76 : Int → Int → MS → Prop) (X89 : Int → Int → Int → MS → Prop), (∀ (x1 : Int) (x2 : Int) (s0 : MS), B_closesBy_2 X2 X25 X68 X76 X89 K x1 x2 s0 → X2 x1 x2 s0) → (∀ (x1 : Int) (x2 : Int) (s0 : MS), B_closesBy_25 X2 X25 X68 X76 X89 K x1 x2 s0 → X25 x1 x2 s0) → (∀ (x2 : Int) (s0 : MS), B_closesBy_68 X2 X25 X68 X76 X89 K x2 s0 → X68 x2 s0) → (∀ (x2 : Int) (x3 : Int) (s0 : MS), B_closesBy_76 X2 X25 X68 X76 X89 K x2 x3 s0 → X76 x2 x3 s0) → (∀ (x2 : Int) (x3 : Int) (x4 : Int) (s0 : MS), B_closesBy_89 X2 X25 X68 X76 X89 K x2 x3 x4 s0 → X89 x2 x3 x4 s0) → B_closesBy_E X2 X25 X68 X76 X89 K a s0
theorem S_closesBy {d : Nat} {g : AH} {K : MS → Prop} {a : Int} {s0 : MS} (H : C_closesBy a s0 K) : Sp mm_closesBy (d + 2) 0 0 [aR (some mT), aI a] (mh s0 g) (mQ g K) :=
  ew_sp rfl (Nat.le_of_ble_eq_true rfl) (T_closesBy_E d g K a s0 (H _ _ _ _ _ (fun x1 x2 s0 H => T_closesBy_2 d g K x1 x2 s0 H) (fun x1 x2 s0 H => T_closesBy_25 d g K x1 x2 s0 H) (fun x2 s0 H => T_closesBy_68 d g K x2 s0 H) (fun x2 x3 s0 H => T_closesBy_76 d g K x2 x3 s0 H) (fun x2 x3 x4 s0 H => T_closesBy_89 d g K x2 x3 x4 s0 H)))
