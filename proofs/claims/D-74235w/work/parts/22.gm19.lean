set_option maxRecDepth 100000
abbrev mm_make : EM := (yX7_make, cX7_make, 6, some .int, [])
theorem me_make : e_mth mm_make 4 := ⟨rfl, q1945, q117, by decide +kernel, by decide⟩
def B_make_80 (X80 : Int → Int → Int → Int → Int → MS → Prop) (K : Int → MS → Prop) (x1 : Int) (x2 : Int) (x3 : Int) (x4 : Int) (x5 : Int) (s0 : MS) : Prop :=
  ((x5 = 0 → (C_isRefused 1 s0 (fun r24 s21 => ((r24 = 0 → (C_acts 0 x1 x2 x3 x4 s21 (fun s26 => ((inI ((s26.1 27) - 1)) ∧ K ((s26.1 27) - 1) s26)))) ∧ (¬ r24 = 0 → K (-1) s21))))) ∧ (¬ x5 = 0 → (((s0.1 27) = 24 → (C_isRefused 3 s0 (fun r15 s12 => ((r15 = 0 → (C_acts 0 x1 x2 x3 x4 s12 (fun s17 => ((inI ((s17.1 27) - 1)) ∧ K ((s17.1 27) - 1) s17)))) ∧ (¬ r15 = 0 → K (-1) s12))))) ∧ (¬ (s0.1 27) = 24 → (C_isRefused 0 s0 (fun r6 s3 => ((r6 = 0 → (C_acts 0 x1 x2 x3 x4 s3 (fun s8 => ((inI ((s8.1 27) - 1)) ∧ K ((s8.1 27) - 1) s8)))) ∧ (¬ r6 = 0 → K (-1) s3))))))))
def B_make_E (X80 : Int → Int → Int → Int → Int → MS → Prop) (K : Int → MS → Prop) (a : Int) (b : Int) (c : Int) (e : Int) (s0 : MS) : Prop :=
  ((inI ((s0.1 6) - 1)) ∧ (C_in a 0 ((s0.1 6) - 1) s0 (fun r5 s2 => ((r5 = 0 → X80 a b c e 0 s2) ∧ (¬ r5 = 0 → ((0 ≤ a ∧ a < 16) ∧ (((s2.2 7 a) < 1 → ((0 ≤ a ∧ a < 16) ∧ (((s2.2 7 a) < 2 → ((0 ≤ a ∧ a < 16) ∧ (((s2.2 7 a) < 3 → X80 a b c e 1 s2) ∧ (¬ (s2.2 7 a) < 3 → (C_isTerm e s2 (fun r16 s13 => ((r16 = 0 → X80 a b c e 0 s13) ∧ (¬ r16 = 0 → X80 a b c e 1 s13)))))))) ∧ (¬ (s2.2 7 a) < 2 → (C_isTerm c s2 (fun r21 s18 => ((r21 = 0 → X80 a b c e 0 s18) ∧ (¬ r21 = 0 → ((0 ≤ a ∧ a < 16) ∧ (((s18.2 7 a) < 3 → X80 a b c e 1 s18) ∧ (¬ (s18.2 7 a) < 3 → (C_isTerm e s18 (fun r28 s25 => ((r28 = 0 → X80 a b c e 0 s25) ∧ (¬ r28 = 0 → X80 a b c e 1 s25))))))))))))))) ∧ (¬ (s2.2 7 a) < 1 → (C_isTerm b s2 (fun r33 s30 => ((r33 = 0 → X80 a b c e 0 s30) ∧ (¬ r33 = 0 → ((0 ≤ a ∧ a < 16) ∧ (((s30.2 7 a) < 2 → ((0 ≤ a ∧ a < 16) ∧ (((s30.2 7 a) < 3 → X80 a b c e 1 s30) ∧ (¬ (s30.2 7 a) < 3 → (C_isTerm e s30 (fun r42 s39 => ((r42 = 0 → X80 a b c e 0 s39) ∧ (¬ r42 = 0 → X80 a b c e 1 s39)))))))) ∧ (¬ (s30.2 7 a) < 2 → (C_isTerm c s30 (fun r47 s44 => ((r47 = 0 → X80 a b c e 0 s44) ∧ (¬ r47 = 0 → ((0 ≤ a ∧ a < 16) ∧ (((s44.2 7 a) < 3 → X80 a b c e 1 s44) ∧ (¬ (s44.2 7 a) < 3 → (C_isTerm e s44 (fun r54 s51 => ((r54 = 0 → X80 a b c e 0 s51) ∧ (¬ r54 = 0 → X80 a b c e 1 s51))))))))))))))))))))))))))
def W_make_80 (d : Nat) (g : AH) (K : Int → MS → Prop) (x1 : Int) (x2 : Int) (x3 : Int) (x4 : Int) (x5 : Int) (s0 : MS) : Prop := EW mm_make (d + 8) 0 0 (mQi g K) 80 [(0, aR (some mT)), (1, aI x1), (2, aI x2), (3, aI x3), (4, aI x4), (5, aI x5)] [] (mh s0 g)
set_option maxHeartbeats 4000000 in
theorem T_make_80 (d : Nat) (g : AH) (K : Int → MS → Prop) (x1 : Int) (x2 : Int) (x3 : Int) (x4 : Int) (x5 : Int) (s0 : MS) (H : B_make_80 (W_make_80 d g K) K x1 x2 x3 x4 x5 s0) : EW mm_make (d + 8) 0 0 (mQi g K) 80 [(0, aR (some mT)), (1, aI x1), (2, aI x2), (3, aI x3), (4, aI x4), (5, aI x5)] [] (mh s0 g) := by
  refine ew_aload_n dX7_make_80 rfl lm0 ?_
  refine ew_iload dX7_make_81 lm5 ?_
  refine ew_if_ne (tgt := 90) dX7_make_83 (by decide) (fun c1 => ?_) (fun c1 => ?_)
  · replace H := H.2 c1
    refine ew_aload_n dX7_make_90 rfl lm0 ?_
    refine mw_gI dX7_make_91 (e_fl.a q1433) mf_27 rfl ?_
    refine ew_bipush dX7_make_94 (inI_of rfl) (by decide) ?_
    refine ew_icmp_ne (tgt := 103) dX7_make_96 (by decide) (fun c2 => ?_) (fun c2 => ?_)
    · replace H := H.2 c2
      refine ew_iconst dX7_make_103 (inI_of rfl) ?_
      refine ew_callV (d := d + 7) (as := [aI 0]) rfl dX7_make_104 me_isRefused rfl (ci := 1) rfl rfl (mh_o _ _) (Or.inl q1594) q1596 qs56 (Nat.le_of_ble_eq_true rfl) (Nat.le_refl 0) (Nat.le_refl 0) (S_isRefused (d := d + 7) H) (fun o h' hq4 _ => ?_) (fun E i h' q _ => (mQi_no q).elim)
      obtain ⟨r6, s3, E5, rfl, H⟩ := hq4
      cases E5
      refine ew_if_eq (tgt := 112) dX7_make_107 (by decide) (fun c7 => ?_) (fun c7 => ?_)
      · replace H := H.1 c7
        refine ew_aload_n dX7_make_112 rfl lm0 ?_
        refine ew_iconst dX7_make_113 (inI_of rfl) ?_
        refine ew_iload_n dX7_make_114 rfl lm1 ?_
        refine ew_iload_n dX7_make_115 rfl lm2 ?_
        refine ew_iload_n dX7_make_116 rfl lm3 ?_
        refine ew_iload dX7_make_117 lm4 ?_
        refine ew_callV (d := d + 7) (as := [aI 0, aI x1, aI x2, aI x3, aI x4]) rfl dX7_make_119 me_acts rfl (ci := 1) rfl rfl (mh_o _ _) (Or.inl q1934) q1936 qs106 (Nat.le_of_ble_eq_true rfl) (Nat.le_refl 0) (Nat.le_refl 0) (S_acts (d := d + 0) H) (fun o h' hq9 _ => ?_) (fun E i h' q _ => (mQ_no q).elim)
        obtain ⟨s8, E10, rfl, H⟩ := hq9
        cases E10
        refine ew_aload_n dX7_make_122 rfl lm0 ?_
        refine mw_gI dX7_make_123 (e_fl.a q1433) mf_27 rfl ?_
        refine ew_iconst dX7_make_126 (inI_of rfl) ?_
        obtain ⟨v11, H⟩ := H
        refine ew_isub dX7_make_127 v11 ?_
        exact ew_ret (o := some (aI ((s8.1 27) - 1))) rfl ⟨_, _, rfl, rfl, H⟩ ⟨dX7_make_128, .int, rfl, Or.inl rfl, rfl⟩
      · replace H := H.2 c7
        refine ew_iconst dX7_make_110 (inI_of rfl) ?_
        exact ew_ret (o := some (aI (-1))) rfl ⟨_, _, rfl, rfl, H⟩ ⟨dX7_make_111, .int, rfl, Or.inl rfl, rfl⟩
    · replace H := H.1 c2
      refine ew_iconst dX7_make_99 (inI_of rfl) ?_
      refine ew_goto (tgt := 104) dX7_make_100 (by decide) ?_
      refine ew_callV (d := d + 7) (as := [aI 3]) rfl dX7_make_104 me_isRefused rfl (ci := 1) rfl rfl (mh_o _ _) (Or.inl q1594) q1596 qs56 (Nat.le_of_ble_eq_true rfl) (Nat.le_refl 0) (Nat.le_refl 0) (S_isRefused (d := d + 7) H) (fun o h' hq13 _ => ?_) (fun E i h' q _ => (mQi_no q).elim)
      obtain ⟨r15, s12, E14, rfl, H⟩ := hq13
      cases E14
      refine ew_if_eq (tgt := 112) dX7_make_107 (by decide) (fun c16 => ?_) (fun c16 => ?_)
      · replace H := H.1 c16
        refine ew_aload_n dX7_make_112 rfl lm0 ?_
        refine ew_iconst dX7_make_113 (inI_of rfl) ?_
        refine ew_iload_n dX7_make_114 rfl lm1 ?_
        refine ew_iload_n dX7_make_115 rfl lm2 ?_
        refine ew_iload_n dX7_make_116 rfl lm3 ?_
        refine ew_iload dX7_make_117 lm4 ?_
        refine ew_callV (d := d + 7) (as := [aI 0, aI x1, aI x2, aI x3, aI x4]) rfl dX7_make_119 me_acts rfl (ci := 1) rfl rfl (mh_o _ _) (Or.inl q1934) q1936 qs106 (Nat.le_of_ble_eq_true rfl) (Nat.le_refl 0) (Nat.le_refl 0) (S_acts (d := d + 0) H) (fun o h' hq18 _ => ?_) (fun E i h' q _ => (mQ_no q).elim)
        obtain ⟨s17, E19, rfl, H⟩ := hq18
        cases E19
        refine ew_aload_n dX7_make_122 rfl lm0 ?_
        refine mw_gI dX7_make_123 (e_fl.a q1433) mf_27 rfl ?_
        refine ew_iconst dX7_make_126 (inI_of rfl) ?_
        obtain ⟨v20, H⟩ := H
        refine ew_isub dX7_make_127 v20 ?_
        exact ew_ret (o := some (aI ((s17.1 27) - 1))) rfl ⟨_, _, rfl, rfl, H⟩ ⟨dX7_make_128, .int, rfl, Or.inl rfl, rfl⟩
      · replace H := H.2 c16
        refine ew_iconst dX7_make_110 (inI_of rfl) ?_
        exact ew_ret (o := some (aI (-1))) rfl ⟨_, _, rfl, rfl, H⟩ ⟨dX7_make_111, .int, rfl, Or.inl rfl, rfl⟩
  · replace H := H.1 c1
    refine ew_iconst dX7_make_86 (inI_of rfl) ?_
    refine ew_goto (tgt := 104) dX7_make_87 (by decide) ?_
    refine ew_callV (d := d + 7) (as := [aI 1]) rfl dX7_make_104 me_isRefused rfl (ci := 1) rfl rfl (mh_o _ _) (Or.inl q1594) q1596 qs56 (Nat.le_of_ble_eq_true rfl) (Nat.le_refl 0) (Nat.le_refl 0) (S_isRefused (d := d + 7) H) (fun o h' hq22 _ => ?_) (fun E i h' q _ => (mQi_no q).elim)
    obtain ⟨r24, s21, E23, rfl, H⟩ := hq22
    cases E23
    refine ew_if_eq (tgt := 112) dX7_make_107 (by decide) (fun c25 => ?_) (fun c25 => ?_)
    · replace H := H.1 c25
      refine ew_aload_n dX7_make_112 rfl lm0 ?_
      refine ew_iconst dX7_make_113 (inI_of rfl) ?_
      refine ew_iload_n dX7_make_114 rfl lm1 ?_
      refine ew_iload_n dX7_make_115 rfl lm2 ?_
      refine ew_iload_n dX7_make_116 rfl lm3 ?_
      refine ew_iload dX7_make_117 lm4 ?_
      refine ew_callV (d := d + 7) (as := [aI 0, aI x1, aI x2, aI x3, aI x4]) rfl dX7_make_119 me_acts rfl (ci := 1) rfl rfl (mh_o _ _) (Or.inl q1934) q1936 qs106 (Nat.le_of_ble_eq_true rfl) (Nat.le_refl 0) (Nat.le_refl 0) (S_acts (d := d + 0) H) (fun o h' hq27 _ => ?_) (fun E i h' q _ => (mQ_no q).elim)
      obtain ⟨s26, E28, rfl, H⟩ := hq27
      cases E28
      refine ew_aload_n dX7_make_122 rfl lm0 ?_
      refine mw_gI dX7_make_123 (e_fl.a q1433) mf_27 rfl ?_
      refine ew_iconst dX7_make_126 (inI_of rfl) ?_
      obtain ⟨v29, H⟩ := H
      refine ew_isub dX7_make_127 v29 ?_
      exact ew_ret (o := some (aI ((s26.1 27) - 1))) rfl ⟨_, _, rfl, rfl, H⟩ ⟨dX7_make_128, .int, rfl, Or.inl rfl, rfl⟩
    · replace H := H.2 c25
      refine ew_iconst dX7_make_110 (inI_of rfl) ?_
      exact ew_ret (o := some (aI (-1))) rfl ⟨_, _, rfl, rfl, H⟩ ⟨dX7_make_111, .int, rfl, Or.inl rfl, rfl⟩
set_option maxHeartbeats 4000000 in
theorem T_make_E (d : Nat) (g : AH) (K : Int → MS → Prop) (a : Int) (b : Int) (c : Int) (e : Int) (s0 : MS) (H : B_make_E (W_make_80 d g K) K a b c e s0) : EW mm_make (d + 8) 0 0 (mQi g K) 0 [(0, aR (some mT)), (1, aI a), (2, aI b), (3, aI c), (4, aI e)] [] (mh s0 g) := by
  refine ew_iload_n dX7_make_0 rfl lm1 ?_
  refine ew_iconst dX7_make_1 (inI_of rfl) ?_
  refine ew_aload_n dX7_make_2 rfl lm0 ?_
  refine mw_gI dX7_make_3 (e_fl.a q1412) mf_6 rfl ?_
  refine ew_iconst dX7_make_6 (inI_of rfl) ?_
  obtain ⟨v1, H⟩ := H
  refine ew_isub dX7_make_7 v1 ?_
  refine ew_callS (d := d + 7) (as := [aI a, aI 0, aI ((s0.1 6) - 1)]) rfl dX7_make_8 me_in rfl (Or.inl q1591) q1592 (Nat.le_of_ble_eq_true rfl) (Nat.le_refl 0) (Nat.le_refl 0) (S_in (d := d + 7) H) (fun o h' hq3 _ => ?_) (fun E i h' q _ => (mQi_no q).elim)
  obtain ⟨r5, s2, E4, rfl, H⟩ := hq3
  cases E4
  refine ew_istore dX7_make_11 (by decide) (lv' := [(5, aI r5), (0, aR (some mT)), (1, aI a), (2, aI b), (3, aI c), (4, aI e)]) rfl ?_
  refine ew_sub (List.forall_mem_cons.mpr ⟨lm1, (List.forall_mem_cons.mpr ⟨lm2, (List.forall_mem_cons.mpr ⟨lm3, (List.forall_mem_cons.mpr ⟨lm4, (List.forall_mem_cons.mpr ⟨lm5, (List.forall_mem_cons.mpr ⟨lm0, e_nm⟩)⟩)⟩)⟩)⟩)⟩) ?_
  refine ew_iload dX7_make_13 lm5 ?_
  refine ew_if_eq (tgt := 77) dX7_make_15 (by decide) (fun c6 => ?_) (fun c6 => ?_)
  · replace H := H.1 c6
    refine ew_iconst dX7_make_77 (inI_of rfl) ?_
    refine ew_istore dX7_make_78 (by decide) (lv' := [(5, aI 0), (0, aR (some mT)), (1, aI a), (2, aI b), (3, aI c), (4, aI e)]) rfl ?_
    refine ew_sub (List.forall_mem_cons.mpr ⟨lm1, (List.forall_mem_cons.mpr ⟨lm2, (List.forall_mem_cons.mpr ⟨lm3, (List.forall_mem_cons.mpr ⟨lm4, (List.forall_mem_cons.mpr ⟨lm5, (List.forall_mem_cons.mpr ⟨lm0, e_nm⟩)⟩)⟩)⟩)⟩)⟩) ?_
    exact ew_sub (List.forall_mem_cons.mpr ⟨lm0, (List.forall_mem_cons.mpr ⟨lm1, (List.forall_mem_cons.mpr ⟨lm2, (List.forall_mem_cons.mpr ⟨lm3, (List.forall_mem_cons.mpr ⟨lm4, (List.forall_mem_cons.mpr ⟨lm5, e_nm⟩)⟩)⟩)⟩)⟩)⟩) H
  · replace H := H.2 c6
    refine ew_aload_n dX7_make_18 rfl lm0 ?_
    refine mw_gA dX7_make_19 (e_fl.a q1413) mf_7 rfl ?_
    refine ew_iload_n dX7_make_22 rfl lm1 ?_
    obtain ⟨v7, H⟩ := H
    refine mw_iald dX7_make_23 rfl v7.1 v7.2 ?_
    refine ew_iconst dX7_make_24 (inI_of rfl) ?_
    refine ew_icmp_lt (tgt := 36) dX7_make_25 (by decide) (fun c8 => ?_) (fun c8 => ?_)
    · replace H := H.1 c8
      refine ew_aload_n dX7_make_36 rfl lm0 ?_
      refine mw_gA dX7_make_37 (e_fl.a q1413) mf_7 rfl ?_
      refine ew_iload_n dX7_make_40 rfl lm1 ?_
      obtain ⟨v9, H⟩ := H
      refine mw_iald dX7_make_41 rfl v9.1 v9.2 ?_
      refine ew_iconst dX7_make_42 (inI_of rfl) ?_
      refine ew_icmp_lt (tgt := 54) dX7_make_43 (by decide) (fun c10 => ?_) (fun c10 => ?_)
      · replace H := H.1 c10
        refine ew_aload_n dX7_make_54 rfl lm0 ?_
        refine mw_gA dX7_make_55 (e_fl.a q1413) mf_7 rfl ?_
        refine ew_iload_n dX7_make_58 rfl lm1 ?_
        obtain ⟨v11, H⟩ := H
        refine mw_iald dX7_make_59 rfl v11.1 v11.2 ?_
        refine ew_iconst dX7_make_60 (inI_of rfl) ?_
        refine ew_icmp_lt (tgt := 73) dX7_make_61 (by decide) (fun c12 => ?_) (fun c12 => ?_)
        · replace H := H.1 c12
          refine ew_iconst dX7_make_73 (inI_of rfl) ?_
          refine ew_goto (tgt := 78) dX7_make_74 (by decide) ?_
          refine ew_istore dX7_make_78 (by decide) (lv' := [(5, aI 1), (0, aR (some mT)), (1, aI a), (2, aI b), (3, aI c), (4, aI e)]) rfl ?_
          refine ew_sub (List.forall_mem_cons.mpr ⟨lm1, (List.forall_mem_cons.mpr ⟨lm2, (List.forall_mem_cons.mpr ⟨lm3, (List.forall_mem_cons.mpr ⟨lm4, (List.forall_mem_cons.mpr ⟨lm5, (List.forall_mem_cons.mpr ⟨lm0, e_nm⟩)⟩)⟩)⟩)⟩)⟩) ?_
          exact ew_sub (List.forall_mem_cons.mpr ⟨lm0, (List.forall_mem_cons.mpr ⟨lm1, (List.forall_mem_cons.mpr ⟨lm2, (List.forall_mem_cons.mpr ⟨lm3, (List.forall_mem_cons.mpr ⟨lm4, (List.forall_mem_cons.mpr ⟨lm5, e_nm⟩)⟩)⟩)⟩)⟩)⟩) H
        · replace H := H.2 c12
          refine ew_aload_n dX7_make_64 rfl lm0 ?_
          refine ew_iload dX7_make_65 lm4 ?_
          refine ew_callV (d := d + 7) (as := [aI e]) rfl dX7_make_67 me_isTerm rfl (ci := 1) rfl rfl (mh_o _ _) (Or.inl q1751) q1753 qs88 (Nat.le_of_ble_eq_true rfl) (Nat.le_refl 0) (Nat.le_refl 0) (S_isTerm (d := d + 6) H) (fun o h' hq14 _ => ?_) (fun E i h' q _ => (mQi_no q).elim)
          obtain ⟨r16, s13, E15, rfl, H⟩ := hq14
          cases E15
          refine ew_if_eq (tgt := 77) dX7_make_70 (by decide) (fun c17 => ?_) (fun c17 => ?_)
          · replace H := H.1 c17
            refine ew_iconst dX7_make_77 (inI_of rfl) ?_
            refine ew_istore dX7_make_78 (by decide) (lv' := [(5, aI 0), (0, aR (some mT)), (1, aI a), (2, aI b), (3, aI c), (4, aI e)]) rfl ?_
            refine ew_sub (List.forall_mem_cons.mpr ⟨lm1, (List.forall_mem_cons.mpr ⟨lm2, (List.forall_mem_cons.mpr ⟨lm3, (List.forall_mem_cons.mpr ⟨lm4, (List.forall_mem_cons.mpr ⟨lm5, (List.forall_mem_cons.mpr ⟨lm0, e_nm⟩)⟩)⟩)⟩)⟩)⟩) ?_
            exact ew_sub (List.forall_mem_cons.mpr ⟨lm0, (List.forall_mem_cons.mpr ⟨lm1, (List.forall_mem_cons.mpr ⟨lm2, (List.forall_mem_cons.mpr ⟨lm3, (List.forall_mem_cons.mpr ⟨lm4, (List.forall_mem_cons.mpr ⟨lm5, e_nm⟩)⟩)⟩)⟩)⟩)⟩) H
          · replace H := H.2 c17
            refine ew_iconst dX7_make_73 (inI_of rfl) ?_
            refine ew_goto (tgt := 78) dX7_make_74 (by decide) ?_
            refine ew_istore dX7_make_78 (by decide) (lv' := [(5, aI 1), (0, aR (some mT)), (1, aI a), (2, aI b), (3, aI c), (4, aI e)]) rfl ?_
            refine ew_sub (List.forall_mem_cons.mpr ⟨lm1, (List.forall_mem_cons.mpr ⟨lm2, (List.forall_mem_cons.mpr ⟨lm3, (List.forall_mem_cons.mpr ⟨lm4, (List.forall_mem_cons.mpr ⟨lm5, (List.forall_mem_cons.mpr ⟨lm0, e_nm⟩)⟩)⟩)⟩)⟩)⟩) ?_
            exact ew_sub (List.forall_mem_cons.mpr ⟨lm0, (List.forall_mem_cons.mpr ⟨lm1, (List.forall_mem_cons.mpr ⟨lm2, (List.forall_mem_cons.mpr ⟨lm3, (List.forall_mem_cons.mpr ⟨lm4, (List.forall_mem_cons.mpr ⟨lm5, e_nm⟩)⟩)⟩)⟩)⟩)⟩) H
      · replace H := H.2 c10
        refine ew_aload_n dX7_make_46 rfl lm0 ?_
        refine ew_iload_n dX7_make_47 rfl lm3 ?_
        refine ew_callV (d := d + 7) (as := [aI c]) rfl dX7_make_48 me_isTerm rfl (ci := 1) rfl rfl (mh_o _ _) (Or.inl q1751) q1753 qs88 (Nat.le_of_ble_eq_true rfl) (Nat.le_refl 0) (Nat.le_refl 0) (S_isTerm (d := d + 6) H) (fun o h' hq19 _ => ?_) (fun E i h' q _ => (mQi_no q).elim)
        obtain ⟨r21, s18, E20, rfl, H⟩ := hq19
        cases E20
        refine ew_if_eq (tgt := 77) dX7_make_51 (by decide) (fun c22 => ?_) (fun c22 => ?_)
        · replace H := H.1 c22
          refine ew_iconst dX7_make_77 (inI_of rfl) ?_
          refine ew_istore dX7_make_78 (by decide) (lv' := [(5, aI 0), (0, aR (some mT)), (1, aI a), (2, aI b), (3, aI c), (4, aI e)]) rfl ?_
          refine ew_sub (List.forall_mem_cons.mpr ⟨lm1, (List.forall_mem_cons.mpr ⟨lm2, (List.forall_mem_cons.mpr ⟨lm3, (List.forall_mem_cons.mpr ⟨lm4, (List.forall_mem_cons.mpr ⟨lm5, (List.forall_mem_cons.mpr ⟨lm0, e_nm⟩)⟩)⟩)⟩)⟩)⟩) ?_
          exact ew_sub (List.forall_mem_cons.mpr ⟨lm0, (List.forall_mem_cons.mpr ⟨lm1, (List.forall_mem_cons.mpr ⟨lm2, (List.forall_mem_cons.mpr ⟨lm3, (List.forall_mem_cons.mpr ⟨lm4, (List.forall_mem_cons.mpr ⟨lm5, e_nm⟩)⟩)⟩)⟩)⟩)⟩) H
        · replace H := H.2 c22
          refine ew_aload_n dX7_make_54 rfl lm0 ?_
          refine mw_gA dX7_make_55 (e_fl.a q1413) mf_7 rfl ?_
          refine ew_iload_n dX7_make_58 rfl lm1 ?_
          obtain ⟨v23, H⟩ := H
          refine mw_iald dX7_make_59 rfl v23.1 v23.2 ?_
          refine ew_iconst dX7_make_60 (inI_of rfl) ?_
          refine ew_icmp_lt (tgt := 73) dX7_make_61 (by decide) (fun c24 => ?_) (fun c24 => ?_)
          · replace H := H.1 c24
            refine ew_iconst dX7_make_73 (inI_of rfl) ?_
            refine ew_goto (tgt := 78) dX7_make_74 (by decide) ?_
            refine ew_istore dX7_make_78 (by decide) (lv' := [(5, aI 1), (0, aR (some mT)), (1, aI a), (2, aI b), (3, aI c), (4, aI e)]) rfl ?_
            refine ew_sub (List.forall_mem_cons.mpr ⟨lm1, (List.forall_mem_cons.mpr ⟨lm2, (List.forall_mem_cons.mpr ⟨lm3, (List.forall_mem_cons.mpr ⟨lm4, (List.forall_mem_cons.mpr ⟨lm5, (List.forall_mem_cons.mpr ⟨lm0, e_nm⟩)⟩)⟩)⟩)⟩)⟩) ?_
            exact ew_sub (List.forall_mem_cons.mpr ⟨lm0, (List.forall_mem_cons.mpr ⟨lm1, (List.forall_mem_cons.mpr ⟨lm2, (List.forall_mem_cons.mpr ⟨lm3, (List.forall_mem_cons.mpr ⟨lm4, (List.forall_mem_cons.mpr ⟨lm5, e_nm⟩)⟩)⟩)⟩)⟩)⟩) H
          · replace H := H.2 c24
            refine ew_aload_n dX7_make_64 rfl lm0 ?_
            refine ew_iload dX7_make_65 lm4 ?_
            refine ew_callV (d := d + 7) (as := [aI e]) rfl dX7_make_67 me_isTerm rfl (ci := 1) rfl rfl (mh_o _ _) (Or.inl q1751) q1753 qs88 (Nat.le_of_ble_eq_true rfl) (Nat.le_refl 0) (Nat.le_refl 0) (S_isTerm (d := d + 6) H) (fun o h' hq26 _ => ?_) (fun E i h' q _ => (mQi_no q).elim)
            obtain ⟨r28, s25, E27, rfl, H⟩ := hq26
            cases E27
            refine ew_if_eq (tgt := 77) dX7_make_70 (by decide) (fun c29 => ?_) (fun c29 => ?_)
            · replace H := H.1 c29
              refine ew_iconst dX7_make_77 (inI_of rfl) ?_
              refine ew_istore dX7_make_78 (by decide) (lv' := [(5, aI 0), (0, aR (some mT)), (1, aI a), (2, aI b), (3, aI c), (4, aI e)]) rfl ?_
              refine ew_sub (List.forall_mem_cons.mpr ⟨lm1, (List.forall_mem_cons.mpr ⟨lm2, (List.forall_mem_cons.mpr ⟨lm3, (List.forall_mem_cons.mpr ⟨lm4, (List.forall_mem_cons.mpr ⟨lm5, (List.forall_mem_cons.mpr ⟨lm0, e_nm⟩)⟩)⟩)⟩)⟩)⟩) ?_
              exact ew_sub (List.forall_mem_cons.mpr ⟨lm0, (List.forall_mem_cons.mpr ⟨lm1, (List.forall_mem_cons.mpr ⟨lm2, (List.forall_mem_cons.mpr ⟨lm3, (List.forall_mem_cons.mpr ⟨lm4, (List.forall_mem_cons.mpr ⟨lm5, e_nm⟩)⟩)⟩)⟩)⟩)⟩) H
            · replace H := H.2 c29
              refine ew_iconst dX7_make_73 (inI_of rfl) ?_
              refine ew_goto (tgt := 78) dX7_make_74 (by decide) ?_
              refine ew_istore dX7_make_78 (by decide) (lv' := [(5, aI 1), (0, aR (some mT)), (1, aI a), (2, aI b), (3, aI c), (4, aI e)]) rfl ?_
              refine ew_sub (List.forall_mem_cons.mpr ⟨lm1, (List.forall_mem_cons.mpr ⟨lm2, (List.forall_mem_cons.mpr ⟨lm3, (List.forall_mem_cons.mpr ⟨lm4, (List.forall_mem_cons.mpr ⟨lm5, (List.forall_mem_cons.mpr ⟨lm0, e_nm⟩)⟩)⟩)⟩)⟩)⟩) ?_
              exact ew_sub (List.forall_mem_cons.mpr ⟨lm0, (List.forall_mem_cons.mpr ⟨lm1, (List.forall_mem_cons.mpr ⟨lm2, (List.forall_mem_cons.mpr ⟨lm3, (List.forall_mem_cons.mpr ⟨lm4, (List.forall_mem_cons.mpr ⟨lm5, e_nm⟩)⟩)⟩)⟩)⟩)⟩) H
    · replace H := H.2 c8
      refine ew_aload_n dX7_make_28 rfl lm0 ?_
      refine ew_iload_n dX7_make_29 rfl lm2 ?_
      refine ew_callV (d := d + 7) (as := [aI b]) rfl dX7_make_30 me_isTerm rfl (ci := 1) rfl rfl (mh_o _ _) (Or.inl q1751) q1753 qs88 (Nat.le_of_ble_eq_true rfl) (Nat.le_refl 0) (Nat.le_refl 0) (S_isTerm (d := d + 6) H) (fun o h' hq31 _ => ?_) (fun E i h' q _ => (mQi_no q).elim)
      obtain ⟨r33, s30, E32, rfl, H⟩ := hq31
      cases E32
      refine ew_if_eq (tgt := 77) dX7_make_33 (by decide) (fun c34 => ?_) (fun c34 => ?_)
      · replace H := H.1 c34
        refine ew_iconst dX7_make_77 (inI_of rfl) ?_
        refine ew_istore dX7_make_78 (by decide) (lv' := [(5, aI 0), (0, aR (some mT)), (1, aI a), (2, aI b), (3, aI c), (4, aI e)]) rfl ?_
        refine ew_sub (List.forall_mem_cons.mpr ⟨lm1, (List.forall_mem_cons.mpr ⟨lm2, (List.forall_mem_cons.mpr ⟨lm3, (List.forall_mem_cons.mpr ⟨lm4, (List.forall_mem_cons.mpr ⟨lm5, (List.forall_mem_cons.mpr ⟨lm0, e_nm⟩)⟩)⟩)⟩)⟩)⟩) ?_
        exact ew_sub (List.forall_mem_cons.mpr ⟨lm0, (List.forall_mem_cons.mpr ⟨lm1, (List.forall_mem_cons.mpr ⟨lm2, (List.forall_mem_cons.mpr ⟨lm3, (List.forall_mem_cons.mpr ⟨lm4, (List.forall_mem_cons.mpr ⟨lm5, e_nm⟩)⟩)⟩)⟩)⟩)⟩) H
      · replace H := H.2 c34
        refine ew_aload_n dX7_make_36 rfl lm0 ?_
        refine mw_gA dX7_make_37 (e_fl.a q1413) mf_7 rfl ?_
        refine ew_iload_n dX7_make_40 rfl lm1 ?_
        obtain ⟨v35, H⟩ := H
        refine mw_iald dX7_make_41 rfl v35.1 v35.2 ?_
        refine ew_iconst dX7_make_42 (inI_of rfl) ?_
        refine ew_icmp_lt (tgt := 54) dX7_make_43 (by decide) (fun c36 => ?_) (fun c36 => ?_)
        · replace H := H.1 c36
          refine ew_aload_n dX7_make_54 rfl lm0 ?_
          refine mw_gA dX7_make_55 (e_fl.a q1413) mf_7 rfl ?_
          refine ew_iload_n dX7_make_58 rfl lm1 ?_
          obtain ⟨v37, H⟩ := H
          refine mw_iald dX7_make_59 rfl v37.1 v37.2 ?_
          refine ew_iconst dX7_make_60 (inI_of rfl) ?_
          refine ew_icmp_lt (tgt := 73) dX7_make_61 (by decide) (fun c38 => ?_) (fun c38 => ?_)
          · replace H := H.1 c38
            refine ew_iconst dX7_make_73 (inI_of rfl) ?_
            refine ew_goto (tgt := 78) dX7_make_74 (by decide) ?_
            refine ew_istore dX7_make_78 (by decide) (lv' := [(5, aI 1), (0, aR (some mT)), (1, aI a), (2, aI b), (3, aI c), (4, aI e)]) rfl ?_
            refine ew_sub (List.forall_mem_cons.mpr ⟨lm1, (List.forall_mem_cons.mpr ⟨lm2, (List.forall_mem_cons.mpr ⟨lm3, (List.forall_mem_cons.mpr ⟨lm4, (List.forall_mem_cons.mpr ⟨lm5, (List.forall_mem_cons.mpr ⟨lm0, e_nm⟩)⟩)⟩)⟩)⟩)⟩) ?_
            exact ew_sub (List.forall_mem_cons.mpr ⟨lm0, (List.forall_mem_cons.mpr ⟨lm1, (List.forall_mem_cons.mpr ⟨lm2, (List.forall_mem_cons.mpr ⟨lm3, (List.forall_mem_cons.mpr ⟨lm4, (List.forall_mem_cons.mpr ⟨lm5, e_nm⟩)⟩)⟩)⟩)⟩)⟩) H
          · replace H := H.2 c38
            refine ew_aload_n dX7_make_64 rfl lm0 ?_
            refine ew_iload dX7_make_65 lm4 ?_
            refine ew_callV (d := d + 7) (as := [aI e]) rfl dX7_make_67 me_isTerm rfl (ci := 1) rfl rfl (mh_o _ _) (Or.inl q1751) q1753 qs88 (Nat.le_of_ble_eq_true rfl) (Nat.le_refl 0) (Nat.le_refl 0) (S_isTerm (d := d + 6) H) (fun o h' hq40 _ => ?_) (fun E i h' q _ => (mQi_no q).elim)
            obtain ⟨r42, s39, E41, rfl, H⟩ := hq40
            cases E41
            refine ew_if_eq (tgt := 77) dX7_make_70 (by decide) (fun c43 => ?_) (fun c43 => ?_)
            · replace H := H.1 c43
              refine ew_iconst dX7_make_77 (inI_of rfl) ?_
              refine ew_istore dX7_make_78 (by decide) (lv' := [(5, aI 0), (0, aR (some mT)), (1, aI a), (2, aI b), (3, aI c), (4, aI e)]) rfl ?_
              refine ew_sub (List.forall_mem_cons.mpr ⟨lm1, (List.forall_mem_cons.mpr ⟨lm2, (List.forall_mem_cons.mpr ⟨lm3, (List.forall_mem_cons.mpr ⟨lm4, (List.forall_mem_cons.mpr ⟨lm5, (List.forall_mem_cons.mpr ⟨lm0, e_nm⟩)⟩)⟩)⟩)⟩)⟩) ?_
              exact ew_sub (List.forall_mem_cons.mpr ⟨lm0, (List.forall_mem_cons.mpr ⟨lm1, (List.forall_mem_cons.mpr ⟨lm2, (List.forall_mem_cons.mpr ⟨lm3, (List.forall_mem_cons.mpr ⟨lm4, (List.forall_mem_cons.mpr ⟨lm5, e_nm⟩)⟩)⟩)⟩)⟩)⟩) H
            · replace H := H.2 c43
              refine ew_iconst dX7_make_73 (inI_of rfl) ?_
              refine ew_goto (tgt := 78) dX7_make_74 (by decide) ?_
              refine ew_istore dX7_make_78 (by decide) (lv' := [(5, aI 1), (0, aR (some mT)), (1, aI a), (2, aI b), (3, aI c), (4, aI e)]) rfl ?_
              refine ew_sub (List.forall_mem_cons.mpr ⟨lm1, (List.forall_mem_cons.mpr ⟨lm2, (List.forall_mem_cons.mpr ⟨lm3, (List.forall_mem_cons.mpr ⟨lm4, (List.forall_mem_cons.mpr ⟨lm5, (List.forall_mem_cons.mpr ⟨lm0, e_nm⟩)⟩)⟩)⟩)⟩)⟩) ?_
              exact ew_sub (List.forall_mem_cons.mpr ⟨lm0, (List.forall_mem_cons.mpr ⟨lm1, (List.forall_mem_cons.mpr ⟨lm2, (List.forall_mem_cons.mpr ⟨lm3, (List.forall_mem_cons.mpr ⟨lm4, (List.forall_mem_cons.mpr ⟨lm5, e_nm⟩)⟩)⟩)⟩)⟩)⟩) H
        · replace H := H.2 c36
          refine ew_aload_n dX7_make_46 rfl lm0 ?_
          refine ew_iload_n dX7_make_47 rfl lm3 ?_
          refine ew_callV (d := d + 7) (as := [aI c]) rfl dX7_make_48 me_isTerm rfl (ci := 1) rfl rfl (mh_o _ _) (Or.inl q1751) q1753 qs88 (Nat.le_of_ble_eq_true rfl) (Nat.le_refl 0) (Nat.le_refl 0) (S_isTerm (d := d + 6) H) (fun o h' hq45 _ => ?_) (fun E i h' q _ => (mQi_no q).elim)
          obtain ⟨r47, s44, E46, rfl, H⟩ := hq45
          cases E46
          refine ew_if_eq (tgt := 77) dX7_make_51 (by decide) (fun c48 => ?_) (fun c48 => ?_)
          · replace H := H.1 c48
            refine ew_iconst dX7_make_77 (inI_of rfl) ?_
            refine ew_istore dX7_make_78 (by decide) (lv' := [(5, aI 0), (0, aR (some mT)), (1, aI a), (2, aI b), (3, aI c), (4, aI e)]) rfl ?_
            refine ew_sub (List.forall_mem_cons.mpr ⟨lm1, (List.forall_mem_cons.mpr ⟨lm2, (List.forall_mem_cons.mpr ⟨lm3, (List.forall_mem_cons.mpr ⟨lm4, (List.forall_mem_cons.mpr ⟨lm5, (List.forall_mem_cons.mpr ⟨lm0, e_nm⟩)⟩)⟩)⟩)⟩)⟩) ?_
            exact ew_sub (List.forall_mem_cons.mpr ⟨lm0, (List.forall_mem_cons.mpr ⟨lm1, (List.forall_mem_cons.mpr ⟨lm2, (List.forall_mem_cons.mpr ⟨lm3, (List.forall_mem_cons.mpr ⟨lm4, (List.forall_mem_cons.mpr ⟨lm5, e_nm⟩)⟩)⟩)⟩)⟩)⟩) H
          · replace H := H.2 c48
            refine ew_aload_n dX7_make_54 rfl lm0 ?_
            refine mw_gA dX7_make_55 (e_fl.a q1413) mf_7 rfl ?_
            refine ew_iload_n dX7_make_58 rfl lm1 ?_
            obtain ⟨v49, H⟩ := H
            refine mw_iald dX7_make_59 rfl v49.1 v49.2 ?_
            refine ew_iconst dX7_make_60 (inI_of rfl) ?_
            refine ew_icmp_lt (tgt := 73) dX7_make_61 (by decide) (fun c50 => ?_) (fun c50 => ?_)
            · replace H := H.1 c50
              refine ew_iconst dX7_make_73 (inI_of rfl) ?_
              refine ew_goto (tgt := 78) dX7_make_74 (by decide) ?_
              refine ew_istore dX7_make_78 (by decide) (lv' := [(5, aI 1), (0, aR (some mT)), (1, aI a), (2, aI b), (3, aI c), (4, aI e)]) rfl ?_
              refine ew_sub (List.forall_mem_cons.mpr ⟨lm1, (List.forall_mem_cons.mpr ⟨lm2, (List.forall_mem_cons.mpr ⟨lm3, (List.forall_mem_cons.mpr ⟨lm4, (List.forall_mem_cons.mpr ⟨lm5, (List.forall_mem_cons.mpr ⟨lm0, e_nm⟩)⟩)⟩)⟩)⟩)⟩) ?_
              exact ew_sub (List.forall_mem_cons.mpr ⟨lm0, (List.forall_mem_cons.mpr ⟨lm1, (List.forall_mem_cons.mpr ⟨lm2, (List.forall_mem_cons.mpr ⟨lm3, (List.forall_mem_cons.mpr ⟨lm4, (List.forall_mem_cons.mpr ⟨lm5, e_nm⟩)⟩)⟩)⟩)⟩)⟩) H
            · replace H := H.2 c50
              refine ew_aload_n dX7_make_64 rfl lm0 ?_
              refine ew_iload dX7_make_65 lm4 ?_
              refine ew_callV (d := d + 7) (as := [aI e]) rfl dX7_make_67 me_isTerm rfl (ci := 1) rfl rfl (mh_o _ _) (Or.inl q1751) q1753 qs88 (Nat.le_of_ble_eq_true rfl) (Nat.le_refl 0) (Nat.le_refl 0) (S_isTerm (d := d + 6) H) (fun o h' hq52 _ => ?_) (fun E i h' q _ => (mQi_no q).elim)
              obtain ⟨r54, s51, E53, rfl, H⟩ := hq52
              cases E53
              refine ew_if_eq (tgt := 77) dX7_make_70 (by decide) (fun c55 => ?_) (fun c55 => ?_)
              · replace H := H.1 c55
                refine ew_iconst dX7_make_77 (inI_of rfl) ?_
                refine ew_istore dX7_make_78 (by decide) (lv' := [(5, aI 0), (0, aR (some mT)), (1, aI a), (2, aI b), (3, aI c), (4, aI e)]) rfl ?_
                refine ew_sub (List.forall_mem_cons.mpr ⟨lm1, (List.forall_mem_cons.mpr ⟨lm2, (List.forall_mem_cons.mpr ⟨lm3, (List.forall_mem_cons.mpr ⟨lm4, (List.forall_mem_cons.mpr ⟨lm5, (List.forall_mem_cons.mpr ⟨lm0, e_nm⟩)⟩)⟩)⟩)⟩)⟩) ?_
                exact ew_sub (List.forall_mem_cons.mpr ⟨lm0, (List.forall_mem_cons.mpr ⟨lm1, (List.forall_mem_cons.mpr ⟨lm2, (List.forall_mem_cons.mpr ⟨lm3, (List.forall_mem_cons.mpr ⟨lm4, (List.forall_mem_cons.mpr ⟨lm5, e_nm⟩)⟩)⟩)⟩)⟩)⟩) H
              · replace H := H.2 c55
                refine ew_iconst dX7_make_73 (inI_of rfl) ?_
                refine ew_goto (tgt := 78) dX7_make_74 (by decide) ?_
                refine ew_istore dX7_make_78 (by decide) (lv' := [(5, aI 1), (0, aR (some mT)), (1, aI a), (2, aI b), (3, aI c), (4, aI e)]) rfl ?_
                refine ew_sub (List.forall_mem_cons.mpr ⟨lm1, (List.forall_mem_cons.mpr ⟨lm2, (List.forall_mem_cons.mpr ⟨lm3, (List.forall_mem_cons.mpr ⟨lm4, (List.forall_mem_cons.mpr ⟨lm5, (List.forall_mem_cons.mpr ⟨lm0, e_nm⟩)⟩)⟩)⟩)⟩)⟩) ?_
                exact ew_sub (List.forall_mem_cons.mpr ⟨lm0, (List.forall_mem_cons.mpr ⟨lm1, (List.forall_mem_cons.mpr ⟨lm2, (List.forall_mem_cons.mpr ⟨lm3, (List.forall_mem_cons.mpr ⟨lm4, (List.forall_mem_cons.mpr ⟨lm5, e_nm⟩)⟩)⟩)⟩)⟩)⟩) H
def C_make (a : Int) (b : Int) (c : Int) (e : Int) (s0 : MS) (K : Int → MS → Prop) : Prop := ∀ (X80 : Int → Int → Int → Int → Int → MS → Prop), (∀ (x1 : Int) (x2 : Int) (x3 : Int) (x4 : Int) (x5 : Int) (s0 : MS), B_make_80 X80 K x1 x2 x3 x4 x5 s0 → X80 x1 x2 x3 x4 x5 s0) → B_make_E X80 K a b c e s0
theorem S_make {d : Nat} {g : AH} {K : Int → MS → Prop} {a : Int} {b : Int} {c : Int} {e : Int} {s0 : MS} (H : C_make a b c e s0 K) : Sp mm_make (d + 8) 0 0 [aR (some mT), aI a, aI b, aI c, aI e] (mh s0 g) (mQi g K) :=
  ew_sp rfl (Nat.le_of_ble_eq_true rfl) (T_make_E d g K a b c e s0 (H _ (fun x1 x2 x3 x4 x5 s0 H => T_make_80 d g K x1 x2 x3 x4 x5 s0 H)))
abbrev mm_undo : EM := (yX7_undo, cX7_undo, 1, some .boolean, [])
theorem me_undo : e_mth mm_undo 0 := ⟨rfl, q1949, q117, by decide +kernel, by decide⟩
def B_undo_E  (K : Int → MS → Prop)  (s0 : MS) : Prop :=
  (∀ s1 : MS, s1 = ms s0 0 0 → (((s1.1 8) = (s1.1 9) → K 0 s1) ∧ (¬ (s1.1 8) = (s1.1 9) → ((inI ((s1.1 8) - 1)) ∧ (∀ s5 : MS, s5 = ms s1 8 ((s1.1 8) - 1) → (C_makes s5 (fun s7 => K 1 s7)))))))
set_option maxHeartbeats 4000000 in
theorem T_undo_E (d : Nat) (g : AH) (K : Int → MS → Prop)  (s0 : MS) (H : B_undo_E  K  s0) : EW mm_undo (d + 8) 0 0 (mQi g K) 0 [(0, aR (some mT))] [] (mh s0 g) := by
  refine ew_aload_n dX7_undo_0 rfl lm0 ?_
  refine ew_iconst dX7_undo_1 (inI_of rfl) ?_
  refine mw_pI dX7_undo_2 (e_fl.a q1406) mf_0 (Or.inl rfl) (ty := .int) (by decide +kernel) trivial (fun s1 e2 => ?_)
  replace H := H s1 e2
  refine ew_aload_n dX7_undo_5 rfl lm0 ?_
  refine mw_gI dX7_undo_6 (e_fl.a q1414) mf_8 rfl ?_
  refine ew_aload_n dX7_undo_9 rfl lm0 ?_
  refine mw_gI dX7_undo_10 (e_fl.a q1415) mf_9 rfl ?_
  refine ew_icmp_ne (tgt := 18) dX7_undo_13 (by decide) (fun c3 => ?_) (fun c3 => ?_)
  · replace H := H.2 c3
    refine ew_aload_n dX7_undo_18 rfl lm0 ?_
    refine ew_dup dX7_undo_19 rfl ?_
    refine mw_gI dX7_undo_20 (e_fl.a q1414) mf_8 rfl ?_
    refine ew_iconst dX7_undo_23 (inI_of rfl) ?_
    obtain ⟨v4, H⟩ := H
    refine ew_isub dX7_undo_24 v4 ?_
    refine mw_pI dX7_undo_25 (e_fl.a q1414) mf_8 (Or.inl rfl) (ty := .int) (by decide +kernel) trivial (fun s5 e6 => ?_)
    replace H := H s5 e6
    refine ew_aload_n dX7_undo_28 rfl lm0 ?_
    refine ew_callV (d := d + 7) (as := []) rfl dX7_undo_29 me_makes rfl (ci := 1) rfl rfl (mh_o _ _) (Or.inl q1668) q1670 qs73 (Nat.le_of_ble_eq_true rfl) (Nat.le_refl 0) (Nat.le_refl 0) (S_makes (d := d + 0) H) (fun o h' hq8 _ => ?_) (fun E i h' q _ => (mQ_no q).elim)
    obtain ⟨s7, E9, rfl, H⟩ := hq8
    cases E9
    refine ew_iconst dX7_undo_32 (inI_of rfl) ?_
    exact ew_ret (o := some (aI 1)) rfl ⟨_, _, rfl, rfl, H⟩ ⟨dX7_undo_33, .boolean, rfl, Or.inr (Or.inl rfl), by decide⟩
  · replace H := H.1 c3
    refine ew_iconst dX7_undo_16 (inI_of rfl) ?_
    exact ew_ret (o := some (aI 0)) rfl ⟨_, _, rfl, rfl, H⟩ ⟨dX7_undo_17, .boolean, rfl, Or.inr (Or.inl rfl), by decide⟩
def C_undo  (s0 : MS) (K : Int → MS → Prop) : Prop := B_undo_E  K  s0
theorem S_undo {d : Nat} {g : AH} {K : Int → MS → Prop}  {s0 : MS} (H : C_undo  s0 K) : Sp mm_undo (d + 8) 0 0 [aR (some mT)] (mh s0 g) (mQi g K) :=
  ew_sp rfl (Nat.le_of_ble_eq_true rfl) (T_undo_E d g K  s0 (H  ))
abbrev mm_named : EM := (yX7_named, cX7_named, 5, some .int, [])
theorem me_named : e_mth mm_named 1 := ⟨rfl, q1953, q117, by decide +kernel, by decide⟩
def B_named_25 (X25 : Int → Int → MS → Prop) (X47 : Int → Int → MS → Prop) (X74 : Int → Int → Int → MS → Prop) (K : Int → MS → Prop) (x2 : Int) (x3 : Int) (s0 : MS) : Prop :=
  ((x3 ≤ x2 → X47 x2 x3 s0) ∧ (¬ x3 ≤ x2 → ((0 ≤ x2 ∧ x2 < 500) ∧ (((s0.2 4 x2) = 32 → (inI (x2 + 1) ∧ X25 (x2 + 1) x3 s0)) ∧ (¬ (s0.2 4 x2) = 32 → X47 x2 x3 s0)))))
def B_named_47 (X25 : Int → Int → MS → Prop) (X47 : Int → Int → MS → Prop) (X74 : Int → Int → Int → MS → Prop) (K : Int → MS → Prop) (x2 : Int) (x3 : Int) (s0 : MS) : Prop :=
  ((x3 ≤ x2 → X74 x2 x3 0 s0) ∧ (¬ x3 ≤ x2 → ((inI (x3 - 1)) ∧ ((0 ≤ (x3 - 1) ∧ (x3 - 1) < 500) ∧ (((s0.2 4 (x3 - 1)) = 32 → (inI (x3 + (-1)) ∧ X47 x2 (x3 + (-1)) s0)) ∧ (¬ (s0.2 4 (x3 - 1)) = 32 → X74 x2 x3 0 s0))))))
def B_named_74 (X25 : Int → Int → MS → Prop) (X47 : Int → Int → MS → Prop) (X74 : Int → Int → Int → MS → Prop) (K : Int → MS → Prop) (x2 : Int) (x3 : Int) (x4 : Int) (s0 : MS) : Prop :=
  ((x3 ≤ x2 → (∀ s2 : MS, s2 = ms s0 0 1 → K 0 s2)) ∧ (¬ x3 ≤ x2 → (((s0.1 26) ≤ x4 → (∀ s5 : MS, s5 = ms s0 0 1 → K 0 s5)) ∧ (¬ (s0.1 26) ≤ x4 → ((inI (6 * x4)) ∧ (C_isAt 12 (6 * x4) x2 x3 s0 (fun r11 s8 => ((r11 = 0 → (inI (x4 + 1) ∧ X74 x2 x3 (x4 + 1) s8)) ∧ (¬ r11 = 0 → K x4 s8)))))))))
def B_named_E (X25 : Int → Int → MS → Prop) (X47 : Int → Int → MS → Prop) (X74 : Int → Int → Int → MS → Prop) (K : Int → MS → Prop) (a : Int) (s0 : MS) : Prop :=
  (∀ s1 : MS, s1 = ms s0 0 0 → (C_in a 0 (s1.1 5) s1 (fun r6 s3 => ((r6 = 0 → X25 0 0 s3) ∧ (¬ r6 = 0 → X25 0 a s3)))))
def W_named_25 (d : Nat) (g : AH) (K : Int → MS → Prop) (x2 : Int) (x3 : Int) (s0 : MS) : Prop := EW mm_named (d + 1) 0 0 (mQi g K) 25 [(0, aR (some mT)), (2, aI x2), (3, aI x3)] [] (mh s0 g)
def W_named_47 (d : Nat) (g : AH) (K : Int → MS → Prop) (x2 : Int) (x3 : Int) (s0 : MS) : Prop := EW mm_named (d + 1) 0 0 (mQi g K) 47 [(0, aR (some mT)), (2, aI x2), (3, aI x3)] [] (mh s0 g)
def W_named_74 (d : Nat) (g : AH) (K : Int → MS → Prop) (x2 : Int) (x3 : Int) (x4 : Int) (s0 : MS) : Prop := EW mm_named (d + 1) 0 0 (mQi g K) 74 [(0, aR (some mT)), (2, aI x2), (3, aI x3), (4, aI x4)] [] (mh s0 g)
set_option maxHeartbeats 4000000 in
theorem T_named_25 (d : Nat) (g : AH) (K : Int → MS → Prop) (x2 : Int) (x3 : Int) (s0 : MS) (H : B_named_25 (W_named_25 d g K) (W_named_47 d g K) (W_named_74 d g K) K x2 x3 s0) : EW mm_named (d + 1) 0 0 (mQi g K) 25 [(0, aR (some mT)), (2, aI x2), (3, aI x3)] [] (mh s0 g) := by
  refine ew_iload_n dX7_named_25 rfl lm1 ?_
  refine ew_iload_n dX7_named_26 rfl lm2 ?_
  refine ew_icmp_ge (tgt := 47) dX7_named_27 (by decide) (fun c1 => ?_) (fun c1 => ?_)
  · replace H := H.1 c1
    exact ew_sub (List.forall_mem_cons.mpr ⟨lm0, (List.forall_mem_cons.mpr ⟨lm1, (List.forall_mem_cons.mpr ⟨lm2, e_nm⟩)⟩)⟩) H
  · replace H := H.2 c1
    refine ew_aload_n dX7_named_30 rfl lm0 ?_
    refine mw_gA dX7_named_31 (e_fl.a q1410) mf_4 rfl ?_
    refine ew_iload_n dX7_named_34 rfl lm1 ?_
    obtain ⟨v2, H⟩ := H
    refine mw_iald dX7_named_35 rfl v2.1 v2.2 ?_
    refine ew_bipush dX7_named_36 (inI_of rfl) (by decide) ?_
    refine ew_icmp_ne (tgt := 47) dX7_named_38 (by decide) (fun c3 => ?_) (fun c3 => ?_)
    · replace H := H.2 c3
      exact ew_sub (List.forall_mem_cons.mpr ⟨lm0, (List.forall_mem_cons.mpr ⟨lm1, (List.forall_mem_cons.mpr ⟨lm2, e_nm⟩)⟩)⟩) H
    · replace H := H.1 c3
      obtain ⟨v4, H⟩ := H
      refine ew_iinc dX7_named_41 lm1 (by decide) v4 (lv' := [(2, aI (x2 + 1)), (0, aR (some mT)), (3, aI x3)]) rfl ?_
      refine ew_sub (List.forall_mem_cons.mpr ⟨lm1, (List.forall_mem_cons.mpr ⟨lm0, (List.forall_mem_cons.mpr ⟨lm2, e_nm⟩)⟩)⟩) ?_
      refine ew_goto (tgt := 25) dX7_named_44 (by decide) ?_
      exact ew_sub (List.forall_mem_cons.mpr ⟨lm0, (List.forall_mem_cons.mpr ⟨lm1, (List.forall_mem_cons.mpr ⟨lm2, e_nm⟩)⟩)⟩) H
set_option maxHeartbeats 4000000 in
theorem T_named_47 (d : Nat) (g : AH) (K : Int → MS → Prop) (x2 : Int) (x3 : Int) (s0 : MS) (H : B_named_47 (W_named_25 d g K) (W_named_47 d g K) (W_named_74 d g K) K x2 x3 s0) : EW mm_named (d + 1) 0 0 (mQi g K) 47 [(0, aR (some mT)), (2, aI x2), (3, aI x3)] [] (mh s0 g) := by
  refine ew_iload_n dX7_named_47 rfl lm2 ?_
  refine ew_iload_n dX7_named_48 rfl lm1 ?_
  refine ew_icmp_le (tgt := 71) dX7_named_49 (by decide) (fun c1 => ?_) (fun c1 => ?_)
  · replace H := H.1 c1
    refine ew_iconst dX7_named_71 (inI_of rfl) ?_
    refine ew_istore dX7_named_72 (by decide) (lv' := [(4, aI 0), (0, aR (some mT)), (2, aI x2), (3, aI x3)]) rfl ?_
    refine ew_sub (List.forall_mem_cons.mpr ⟨lm1, (List.forall_mem_cons.mpr ⟨lm2, (List.forall_mem_cons.mpr ⟨lm3, (List.forall_mem_cons.mpr ⟨lm0, e_nm⟩)⟩)⟩)⟩) ?_
    exact ew_sub (List.forall_mem_cons.mpr ⟨lm0, (List.forall_mem_cons.mpr ⟨lm1, (List.forall_mem_cons.mpr ⟨lm2, (List.forall_mem_cons.mpr ⟨lm3, e_nm⟩)⟩)⟩)⟩) H
  · replace H := H.2 c1
    refine ew_aload_n dX7_named_52 rfl lm0 ?_
    refine mw_gA dX7_named_53 (e_fl.a q1410) mf_4 rfl ?_
    refine ew_iload_n dX7_named_56 rfl lm2 ?_
    refine ew_iconst dX7_named_57 (inI_of rfl) ?_
    obtain ⟨v2, H⟩ := H
    refine ew_isub dX7_named_58 v2 ?_
    obtain ⟨v3, H⟩ := H
    refine mw_iald dX7_named_59 rfl v3.1 v3.2 ?_
    refine ew_bipush dX7_named_60 (inI_of rfl) (by decide) ?_
    refine ew_icmp_ne (tgt := 71) dX7_named_62 (by decide) (fun c4 => ?_) (fun c4 => ?_)
    · replace H := H.2 c4
      refine ew_iconst dX7_named_71 (inI_of rfl) ?_
      refine ew_istore dX7_named_72 (by decide) (lv' := [(4, aI 0), (0, aR (some mT)), (2, aI x2), (3, aI x3)]) rfl ?_
      refine ew_sub (List.forall_mem_cons.mpr ⟨lm1, (List.forall_mem_cons.mpr ⟨lm2, (List.forall_mem_cons.mpr ⟨lm3, (List.forall_mem_cons.mpr ⟨lm0, e_nm⟩)⟩)⟩)⟩) ?_
      exact ew_sub (List.forall_mem_cons.mpr ⟨lm0, (List.forall_mem_cons.mpr ⟨lm1, (List.forall_mem_cons.mpr ⟨lm2, (List.forall_mem_cons.mpr ⟨lm3, e_nm⟩)⟩)⟩)⟩) H
    · replace H := H.1 c4
      obtain ⟨v5, H⟩ := H
      refine ew_iinc dX7_named_65 lm2 (by decide) v5 (lv' := [(3, aI (x3 + (-1))), (0, aR (some mT)), (2, aI x2)]) rfl ?_
      refine ew_sub (List.forall_mem_cons.mpr ⟨lm1, (List.forall_mem_cons.mpr ⟨lm2, (List.forall_mem_cons.mpr ⟨lm0, e_nm⟩)⟩)⟩) ?_
      refine ew_goto (tgt := 47) dX7_named_68 (by decide) ?_
      exact ew_sub (List.forall_mem_cons.mpr ⟨lm0, (List.forall_mem_cons.mpr ⟨lm1, (List.forall_mem_cons.mpr ⟨lm2, e_nm⟩)⟩)⟩) H
set_option maxHeartbeats 4000000 in
theorem T_named_74 (d : Nat) (g : AH) (K : Int → MS → Prop) (x2 : Int) (x3 : Int) (x4 : Int) (s0 : MS) (H : B_named_74 (W_named_25 d g K) (W_named_47 d g K) (W_named_74 d g K) K x2 x3 x4 s0) : EW mm_named (d + 1) 0 0 (mQi g K) 74 [(0, aR (some mT)), (2, aI x2), (3, aI x3), (4, aI x4)] [] (mh s0 g) := by
  refine ew_iload_n dX7_named_74 rfl lm2 ?_
  refine ew_iload_n dX7_named_75 rfl lm1 ?_
  refine ew_icmp_le (tgt := 115) dX7_named_76 (by decide) (fun c1 => ?_) (fun c1 => ?_)
  · replace H := H.1 c1
    refine ew_aload_n dX7_named_115 rfl lm0 ?_
    refine ew_iconst dX7_named_116 (inI_of rfl) ?_
    refine mw_pI dX7_named_117 (e_fl.a q1406) mf_0 (Or.inl rfl) (ty := .int) (by decide +kernel) trivial (fun s2 e3 => ?_)
    replace H := H s2 e3
    refine ew_iconst dX7_named_120 (inI_of rfl) ?_
    exact ew_ret (o := some (aI 0)) rfl ⟨_, _, rfl, rfl, H⟩ ⟨dX7_named_121, .int, rfl, Or.inl rfl, rfl⟩
  · replace H := H.2 c1
    refine ew_iload dX7_named_79 lm3 ?_
    refine ew_aload_n dX7_named_81 rfl lm0 ?_
    refine mw_gI dX7_named_82 (e_fl.a q1432) mf_26 rfl ?_
    refine ew_icmp_ge (tgt := 115) dX7_named_85 (by decide) (fun c4 => ?_) (fun c4 => ?_)
    · replace H := H.1 c4
      refine ew_aload_n dX7_named_115 rfl lm0 ?_
      refine ew_iconst dX7_named_116 (inI_of rfl) ?_
      refine mw_pI dX7_named_117 (e_fl.a q1406) mf_0 (Or.inl rfl) (ty := .int) (by decide +kernel) trivial (fun s5 e6 => ?_)
      replace H := H s5 e6
      refine ew_iconst dX7_named_120 (inI_of rfl) ?_
      exact ew_ret (o := some (aI 0)) rfl ⟨_, _, rfl, rfl, H⟩ ⟨dX7_named_121, .int, rfl, Or.inl rfl, rfl⟩
    · replace H := H.2 c4
      refine ew_aload_n dX7_named_88 rfl lm0 ?_
      refine ew_aload_n dX7_named_89 rfl lm0 ?_
      refine mw_gA dX7_named_90 (e_fl.a q1418) mf_12 rfl ?_
      refine ew_bipush dX7_named_93 (inI_of rfl) (by decide) ?_
      refine ew_iload dX7_named_95 lm3 ?_
      obtain ⟨v7, H⟩ := H
      refine ew_imul dX7_named_97 v7 ?_
      refine ew_iload_n dX7_named_98 rfl lm1 ?_
      refine ew_iload_n dX7_named_99 rfl lm2 ?_
      refine ew_callV (d := d + 0) (as := [aR (some (0, 1, 12)), aI (6 * x4), aI x2, aI x3]) rfl dX7_named_100 me_isAt rfl (ci := 1) rfl rfl (mh_o _ _) (Or.inl q1640) q1642 qs66 (Nat.le_of_ble_eq_true rfl) (Nat.le_refl 0) (Nat.le_refl 0) (S_isAt (d := d + 0) H) (fun o h' hq9 _ => ?_) (fun E i h' q _ => (mQi_no q).elim)
      obtain ⟨r11, s8, E10, rfl, H⟩ := hq9
      cases E10
      refine ew_if_eq (tgt := 109) dX7_named_103 (by decide) (fun c12 => ?_) (fun c12 => ?_)
      · replace H := H.1 c12
        obtain ⟨v13, H⟩ := H
        refine ew_iinc dX7_named_109 lm3 (by decide) v13 (lv' := [(4, aI (x4 + 1)), (0, aR (some mT)), (2, aI x2), (3, aI x3)]) rfl ?_
        refine ew_sub (List.forall_mem_cons.mpr ⟨lm1, (List.forall_mem_cons.mpr ⟨lm2, (List.forall_mem_cons.mpr ⟨lm3, (List.forall_mem_cons.mpr ⟨lm0, e_nm⟩)⟩)⟩)⟩) ?_
        refine ew_goto (tgt := 74) dX7_named_112 (by decide) ?_
        exact ew_sub (List.forall_mem_cons.mpr ⟨lm0, (List.forall_mem_cons.mpr ⟨lm1, (List.forall_mem_cons.mpr ⟨lm2, (List.forall_mem_cons.mpr ⟨lm3, e_nm⟩)⟩)⟩)⟩) H
      · replace H := H.2 c12
        refine ew_iload dX7_named_106 lm3 ?_
        exact ew_ret (o := some (aI x4)) rfl ⟨_, _, rfl, rfl, H⟩ ⟨dX7_named_108, .int, rfl, Or.inl rfl, rfl⟩
set_option maxHeartbeats 4000000 in
theorem T_named_E (d : Nat) (g : AH) (K : Int → MS → Prop) (a : Int) (s0 : MS) (H : B_named_E (W_named_25 d g K) (W_named_47 d g K) (W_named_74 d g K) K a s0) : EW mm_named (d + 1) 0 0 (mQi g K) 0 [(0, aR (some mT)), (1, aI a)] [] (mh s0 g) := by
  refine ew_aload_n dX7_named_0 rfl lm0 ?_
  refine ew_iconst dX7_named_1 (inI_of rfl) ?_
  refine mw_pI dX7_named_2 (e_fl.a q1406) mf_0 (Or.inl rfl) (ty := .int) (by decide +kernel) trivial (fun s1 e2 => ?_)
  replace H := H s1 e2
  refine ew_iconst dX7_named_5 (inI_of rfl) ?_
  refine ew_istore_n dX7_named_6 rfl (by decide) (lv' := [(2, aI 0), (0, aR (some mT)), (1, aI a)]) rfl ?_
  refine ew_sub (List.forall_mem_cons.mpr ⟨lm1, (List.forall_mem_cons.mpr ⟨lm2, (List.forall_mem_cons.mpr ⟨lm0, e_nm⟩)⟩)⟩) ?_
  refine ew_iload_n dX7_named_7 rfl lm1 ?_
  refine ew_iconst dX7_named_8 (inI_of rfl) ?_
  refine ew_aload_n dX7_named_9 rfl lm0 ?_
  refine mw_gI dX7_named_10 (e_fl.a q1411) mf_5 rfl ?_
  refine ew_callS (d := d + 0) (as := [aI a, aI 0, aI (s1.1 5)]) rfl dX7_named_13 me_in rfl (Or.inl q1591) q1592 (Nat.le_of_ble_eq_true rfl) (Nat.le_refl 0) (Nat.le_refl 0) (S_in (d := d + 0) H) (fun o h' hq4 _ => ?_) (fun E i h' q _ => (mQi_no q).elim)
  obtain ⟨r6, s3, E5, rfl, H⟩ := hq4
  cases E5
  refine ew_if_eq (tgt := 23) dX7_named_16 (by decide) (fun c7 => ?_) (fun c7 => ?_)
  · replace H := H.1 c7
    refine ew_iconst dX7_named_23 (inI_of rfl) ?_
    refine ew_istore_n dX7_named_24 rfl (by decide) (lv' := [(3, aI 0), (0, aR (some mT)), (1, aI a), (2, aI 0)]) rfl ?_
    refine ew_sub (List.forall_mem_cons.mpr ⟨lm1, (List.forall_mem_cons.mpr ⟨lm2, (List.forall_mem_cons.mpr ⟨lm3, (List.forall_mem_cons.mpr ⟨lm0, e_nm⟩)⟩)⟩)⟩) ?_
    exact ew_sub (List.forall_mem_cons.mpr ⟨lm0, (List.forall_mem_cons.mpr ⟨lm2, (List.forall_mem_cons.mpr ⟨lm3, e_nm⟩)⟩)⟩) H
  · replace H := H.2 c7
    refine ew_iload_n dX7_named_19 rfl lm1 ?_
    refine ew_goto (tgt := 24) dX7_named_20 (by decide) ?_
    refine ew_istore_n dX7_named_24 rfl (by decide) (lv' := [(3, aI a), (0, aR (some mT)), (1, aI a), (2, aI 0)]) rfl ?_
    refine ew_sub (List.forall_mem_cons.mpr ⟨lm1, (List.forall_mem_cons.mpr ⟨lm2, (List.forall_mem_cons.mpr ⟨lm3, (List.forall_mem_cons.mpr ⟨lm0, e_nm⟩)⟩)⟩)⟩) ?_
    exact ew_sub (List.forall_mem_cons.mpr ⟨lm0, (List.forall_mem_cons.mpr ⟨lm2, (List.forall_mem_cons.mpr ⟨lm3, e_nm⟩)⟩)⟩) H
def C_named (a : Int) (s0 : MS) (K : Int → MS → Prop) : Prop := ∀ (X25 : Int → Int → MS → Prop) (X47 : Int → Int → MS → Prop) (X74 : Int → Int → Int → MS → Prop), (∀ (x2 : Int) (x3 : Int) (s0 : MS), B_named_25 X25 X47 X74 K x2 x3 s0 → X25 x2 x3 s0) → (∀ (x2 : Int) (x3 : Int) (s0 : MS), B_named_47 X25 X47 X74 K x2 x3 s0 → X47 x2 x3 s0) → (∀ (x2 : Int) (x3 : Int) (x4 : Int) (s0 : MS), B_named_74 X25 X47 X74 K x2 x3 x4 s0 → X74 x2 x3 x4 s0) → B_named_E X25 X47 X74 K a s0
theorem S_named {d : Nat} {g : AH} {K : Int → MS → Prop} {a : Int} {s0 : MS} (H : C_named a s0 K) : Sp mm_named (d + 1) 0 0 [aR (some mT), aI a] (mh s0 g) (mQi g K) :=
  ew_sp rfl (Nat.le_of_ble_eq_true rfl) (T_named_E d g K a s0 (H _ _ _ (fun x2 x3 s0 H => T_named_25 d g K x2 x3 s0 H) (fun x2 x3 s0 H => T_named_47 d g K x2 x3 s0 H) (fun x2 x3 x4 s0 H => T_named_74 d g K x2 x3 x4 s0 H)))
