set_option maxRecDepth 100000
abbrev mm_base : EM := (yX7_base, cX7_base, 3, some .int, [])
theorem me_base : e_mth mm_base 0 := ⟨rfl, q1841, q117, by decide +kernel, by decide⟩
def B_base_17 (X17 : Int → Int → MS → Prop) (K : Int → MS → Prop) (x1 : Int) (x2 : Int) (s0 : MS) : Prop :=
  ((x2 < 0 → K x1 s0) ∧ (¬ x2 < 0 → ((0 ≤ x2 ∧ x2 < 13) ∧ ((0 ≤ x2 ∧ x2 < 13) ∧ (C_isOneBy (jand x1 (jxor (jshl 1 x2) (-1))) (s0.2 31 x2) (s0.2 32 x2) s0 (fun r7 s4 => ((r7 = 0 → (inI (x2 + (-1)) ∧ X17 x1 (x2 + (-1)) s4)) ∧ (¬ r7 = 0 → (inI (x2 + (-1)) ∧ X17 (jand x1 (jxor (jshl 1 x2) (-1))) (x2 + (-1)) s4)))))))))
def B_base_E (X17 : Int → Int → MS → Prop) (K : Int → MS → Prop)  (s0 : MS) : Prop :=
  (∀ s1 : MS, s1 = ms s0 0 0 → (C_allSames s1 (fun r6 s3 => ((inI ((s3.1 30) - 1)) ∧ X17 r6 ((s3.1 30) - 1) s3))))
def W_base_17 (d : Nat) (g : AH) (K : Int → MS → Prop) (x1 : Int) (x2 : Int) (s0 : MS) : Prop := EW mm_base (d + 4) 0 0 (mQi g K) 17 [(0, aR (some mT)), (1, aI x1), (2, aI x2)] [] (mh s0 g)
set_option maxHeartbeats 4000000 in
theorem T_base_17 (d : Nat) (g : AH) (K : Int → MS → Prop) (x1 : Int) (x2 : Int) (s0 : MS) (H : B_base_17 (W_base_17 d g K) K x1 x2 s0) : EW mm_base (d + 4) 0 0 (mQi g K) 17 [(0, aR (some mT)), (1, aI x1), (2, aI x2)] [] (mh s0 g) := by
  refine ew_iload_n dX7_base_17 rfl lm2 ?_
  refine ew_if_lt (tgt := 65) dX7_base_18 (by decide) (fun c1 => ?_) (fun c1 => ?_)
  · replace H := H.1 c1
    refine ew_iload_n dX7_base_65 rfl lm1 ?_
    exact ew_ret (o := some (aI x1)) rfl ⟨_, _, rfl, rfl, H⟩ ⟨dX7_base_66, .int, rfl, Or.inl rfl, rfl⟩
  · replace H := H.2 c1
    refine ew_aload_n dX7_base_21 rfl lm0 ?_
    refine ew_iload_n dX7_base_22 rfl lm1 ?_
    refine ew_iconst dX7_base_23 (inI_of rfl) ?_
    refine ew_iload_n dX7_base_24 rfl lm2 ?_
    refine ew_ishl dX7_base_25 ?_
    refine ew_iconst dX7_base_26 (inI_of rfl) ?_
    refine ew_ixor dX7_base_27 ?_
    refine ew_iand dX7_base_28 ?_
    refine ew_aload_n dX7_base_29 rfl lm0 ?_
    refine mw_gA dX7_base_30 (e_fl.a q1437) mf_31 rfl ?_
    refine ew_iload_n dX7_base_33 rfl lm2 ?_
    obtain ⟨v2, H⟩ := H
    refine mw_iald dX7_base_34 rfl v2.1 v2.2 ?_
    refine ew_aload_n dX7_base_35 rfl lm0 ?_
    refine mw_gA dX7_base_36 (e_fl.a q1438) mf_32 rfl ?_
    refine ew_iload_n dX7_base_39 rfl lm2 ?_
    obtain ⟨v3, H⟩ := H
    refine mw_iald dX7_base_40 rfl v3.1 v3.2 ?_
    refine ew_callV (d := d + 3) (as := [aI (jand x1 (jxor (jshl 1 x2) (-1))), aI (s0.2 31 x2), aI (s0.2 32 x2)]) rfl dX7_base_41 me_isOneBy rfl (ci := 1) rfl rfl (mh_o _ _) (Or.inl q1787) q1789 qs93 (Nat.le_of_ble_eq_true rfl) (Nat.le_refl 0) (Nat.le_refl 0) (S_isOneBy (d := d + 0) H) (fun o h' hq5 _ => ?_) (fun E i h' q _ => (mQi_no q).elim)
    obtain ⟨r7, s4, E6, rfl, H⟩ := hq5
    cases E6
    refine ew_if_eq (tgt := 57) dX7_base_44 (by decide) (fun c8 => ?_) (fun c8 => ?_)
    · replace H := H.1 c8
      refine ew_iload_n dX7_base_57 rfl lm1 ?_
      refine ew_istore_n dX7_base_58 rfl (by decide) (lv' := [(1, aI x1), (0, aR (some mT)), (2, aI x2)]) rfl ?_
      refine ew_sub (List.forall_mem_cons.mpr ⟨lm1, (List.forall_mem_cons.mpr ⟨lm0, (List.forall_mem_cons.mpr ⟨lm2, e_nm⟩)⟩)⟩) ?_
      obtain ⟨v9, H⟩ := H
      refine ew_iinc dX7_base_59 lm2 (by decide) v9 (lv' := [(2, aI (x2 + (-1))), (0, aR (some mT)), (1, aI x1)]) rfl ?_
      refine ew_sub (List.forall_mem_cons.mpr ⟨lm1, (List.forall_mem_cons.mpr ⟨lm2, (List.forall_mem_cons.mpr ⟨lm0, e_nm⟩)⟩)⟩) ?_
      refine ew_goto (tgt := 17) dX7_base_62 (by decide) ?_
      exact ew_sub (List.forall_mem_cons.mpr ⟨lm0, (List.forall_mem_cons.mpr ⟨lm1, (List.forall_mem_cons.mpr ⟨lm2, e_nm⟩)⟩)⟩) H
    · replace H := H.2 c8
      refine ew_iload_n dX7_base_47 rfl lm1 ?_
      refine ew_iconst dX7_base_48 (inI_of rfl) ?_
      refine ew_iload_n dX7_base_49 rfl lm2 ?_
      refine ew_ishl dX7_base_50 ?_
      refine ew_iconst dX7_base_51 (inI_of rfl) ?_
      refine ew_ixor dX7_base_52 ?_
      refine ew_iand dX7_base_53 ?_
      refine ew_goto (tgt := 58) dX7_base_54 (by decide) ?_
      refine ew_istore_n dX7_base_58 rfl (by decide) (lv' := [(1, aI (jand x1 (jxor (jshl 1 x2) (-1)))), (0, aR (some mT)), (2, aI x2)]) rfl ?_
      refine ew_sub (List.forall_mem_cons.mpr ⟨lm1, (List.forall_mem_cons.mpr ⟨lm0, (List.forall_mem_cons.mpr ⟨lm2, e_nm⟩)⟩)⟩) ?_
      obtain ⟨v10, H⟩ := H
      refine ew_iinc dX7_base_59 lm2 (by decide) v10 (lv' := [(2, aI (x2 + (-1))), (0, aR (some mT)), (1, aI (jand x1 (jxor (jshl 1 x2) (-1))))]) rfl ?_
      refine ew_sub (List.forall_mem_cons.mpr ⟨lm1, (List.forall_mem_cons.mpr ⟨lm2, (List.forall_mem_cons.mpr ⟨lm0, e_nm⟩)⟩)⟩) ?_
      refine ew_goto (tgt := 17) dX7_base_62 (by decide) ?_
      exact ew_sub (List.forall_mem_cons.mpr ⟨lm0, (List.forall_mem_cons.mpr ⟨lm1, (List.forall_mem_cons.mpr ⟨lm2, e_nm⟩)⟩)⟩) H
set_option maxHeartbeats 4000000 in
theorem T_base_E (d : Nat) (g : AH) (K : Int → MS → Prop)  (s0 : MS) (H : B_base_E (W_base_17 d g K) K  s0) : EW mm_base (d + 4) 0 0 (mQi g K) 0 [(0, aR (some mT))] [] (mh s0 g) := by
  refine ew_aload_n dX7_base_0 rfl lm0 ?_
  refine ew_iconst dX7_base_1 (inI_of rfl) ?_
  refine mw_pI dX7_base_2 (e_fl.a q1406) mf_0 (Or.inl rfl) (ty := .int) (by decide +kernel) trivial (fun s1 e2 => ?_)
  replace H := H s1 e2
  refine ew_aload_n dX7_base_5 rfl lm0 ?_
  refine ew_callV (d := d + 3) (as := []) rfl dX7_base_6 me_allSames rfl (ci := 1) rfl rfl (mh_o _ _) (Or.inl q1783) q1785 qs92 (Nat.le_of_ble_eq_true rfl) (Nat.le_refl 0) (Nat.le_refl 0) (S_allSames (d := d + 3) H) (fun o h' hq4 _ => ?_) (fun E i h' q _ => (mQi_no q).elim)
  obtain ⟨r6, s3, E5, rfl, H⟩ := hq4
  cases E5
  refine ew_istore_n dX7_base_9 rfl (by decide) (lv' := [(1, aI r6), (0, aR (some mT))]) rfl ?_
  refine ew_sub (List.forall_mem_cons.mpr ⟨lm1, (List.forall_mem_cons.mpr ⟨lm0, e_nm⟩)⟩) ?_
  refine ew_aload_n dX7_base_10 rfl lm0 ?_
  refine mw_gI dX7_base_11 (e_fl.a q1436) mf_30 rfl ?_
  refine ew_iconst dX7_base_14 (inI_of rfl) ?_
  obtain ⟨v7, H⟩ := H
  refine ew_isub dX7_base_15 v7 ?_
  refine ew_istore_n dX7_base_16 rfl (by decide) (lv' := [(2, aI ((s3.1 30) - 1)), (0, aR (some mT)), (1, aI r6)]) rfl ?_
  refine ew_sub (List.forall_mem_cons.mpr ⟨lm1, (List.forall_mem_cons.mpr ⟨lm2, (List.forall_mem_cons.mpr ⟨lm0, e_nm⟩)⟩)⟩) ?_
  exact ew_sub (List.forall_mem_cons.mpr ⟨lm0, (List.forall_mem_cons.mpr ⟨lm1, (List.forall_mem_cons.mpr ⟨lm2, e_nm⟩)⟩)⟩) H
def C_base  (s0 : MS) (K : Int → MS → Prop) : Prop := ∀ (X17 : Int → Int → MS → Prop), (∀ (x1 : Int) (x2 : Int) (s0 : MS), B_base_17 X17 K x1 x2 s0 → X17 x1 x2 s0) → B_base_E X17 K  s0
theorem S_base {d : Nat} {g : AH} {K : Int → MS → Prop}  {s0 : MS} (H : C_base  s0 K) : Sp mm_base (d + 4) 0 0 [aR (some mT)] (mh s0 g) (mQi g K) :=
  ew_sp rfl (Nat.le_of_ble_eq_true rfl) (T_base_E d g K  s0 (H _ (fun x1 x2 s0 H => T_base_17 d g K x1 x2 s0 H)))
abbrev mm_proves : EM := (yX7_proves, cX7_proves, 5, some .int, [])
theorem me_proves : e_mth mm_proves 3 := ⟨rfl, q1845, q117, by decide +kernel, by decide⟩
def B_proves_E  (K : Int → MS → Prop) (a : Int) (b : Int) (c : Int) (s0 : MS) : Prop :=
  (C_isTerm b s0 (fun r4 s1 => ((r4 = 0 → (C_isRefused 1 s1 (fun r10 s7 => ((r10 = 0 → (C_isOneBy a b c s7 (fun r15 s12 => ((r15 = 0 → K 0 s12) ∧ (¬ r15 = 0 → K 1 s12))))) ∧ (¬ r10 = 0 → K (-1) s7))))) ∧ (¬ r4 = 0 → (C_isTerm c s1 (fun r20 s17 => ((r20 = 0 → (C_isRefused 1 s17 (fun r26 s23 => ((r26 = 0 → (C_isOneBy a b c s23 (fun r31 s28 => ((r31 = 0 → K 0 s28) ∧ (¬ r31 = 0 → K 1 s28))))) ∧ (¬ r26 = 0 → K (-1) s23))))) ∧ (¬ r20 = 0 → (C_allSames s17 (fun r37 s34 => (C_in a 0 r37 s34 (fun r41 s38 => ((r41 = 0 → (C_isRefused 2 s38 (fun r46 s43 => ((r46 = 0 → (C_isOneBy a b c s43 (fun r51 s48 => ((r51 = 0 → K 0 s48) ∧ (¬ r51 = 0 → K 1 s48))))) ∧ (¬ r46 = 0 → K (-1) s43))))) ∧ (¬ r41 = 0 → (C_isRefused 0 s38 (fun r56 s53 => ((r56 = 0 → (C_isOneBy a b c s53 (fun r61 s58 => ((r61 = 0 → K 0 s58) ∧ (¬ r61 = 0 → K 1 s58))))) ∧ (¬ r56 = 0 → K (-1) s53))))))))))))))))))
set_option maxHeartbeats 4000000 in
theorem T_proves_E (d : Nat) (g : AH) (K : Int → MS → Prop) (a : Int) (b : Int) (c : Int) (s0 : MS) (H : B_proves_E  K a b c s0) : EW mm_proves (d + 4) 0 0 (mQi g K) 0 [(0, aR (some mT)), (1, aI a), (2, aI b), (3, aI c)] [] (mh s0 g) := by
  refine ew_aload_n dX7_proves_0 rfl lm0 ?_
  refine ew_iload_n dX7_proves_1 rfl lm2 ?_
  refine ew_callV (d := d + 3) (as := [aI b]) rfl dX7_proves_2 me_isTerm rfl (ci := 1) rfl rfl (mh_o _ _) (Or.inl q1751) q1753 qs88 (Nat.le_of_ble_eq_true rfl) (Nat.le_refl 0) (Nat.le_refl 0) (S_isTerm (d := d + 2) H) (fun o h' hq2 _ => ?_) (fun E i h' q _ => (mQi_no q).elim)
  obtain ⟨r4, s1, E3, rfl, H⟩ := hq2
  cases E3
  refine ew_if_eq (tgt := 20) dX7_proves_5 (by decide) (fun c5 => ?_) (fun c5 => ?_)
  · replace H := H.1 c5
    refine ew_iconst dX7_proves_20 (inI_of rfl) ?_
    refine ew_istore dX7_proves_21 (by decide) (lv' := [(4, aI 0), (0, aR (some mT)), (1, aI a), (2, aI b), (3, aI c)]) rfl ?_
    refine ew_sub (List.forall_mem_cons.mpr ⟨lm1, (List.forall_mem_cons.mpr ⟨lm2, (List.forall_mem_cons.mpr ⟨lm3, (List.forall_mem_cons.mpr ⟨lm4, (List.forall_mem_cons.mpr ⟨lm0, e_nm⟩)⟩)⟩)⟩)⟩) ?_
    refine ew_aload_n dX7_proves_23 rfl lm0 ?_
    refine ew_iload dX7_proves_24 lm4 ?_
    refine ew_if_ne (tgt := 33) dX7_proves_26 (by decide) (fun c => False.elim (by revert c; decide)) (fun _ => ?_)
    refine ew_iconst dX7_proves_29 (inI_of rfl) ?_
    refine ew_goto (tgt := 50) dX7_proves_30 (by decide) ?_
    refine ew_callV (d := d + 3) (as := [aI 1]) rfl dX7_proves_50 me_isRefused rfl (ci := 1) rfl rfl (mh_o _ _) (Or.inl q1594) q1596 qs56 (Nat.le_of_ble_eq_true rfl) (Nat.le_refl 0) (Nat.le_refl 0) (S_isRefused (d := d + 3) H) (fun o h' hq8 _ => ?_) (fun E i h' q _ => (mQi_no q).elim)
    obtain ⟨r10, s7, E9, rfl, H⟩ := hq8
    cases E9
    refine ew_if_eq (tgt := 58) dX7_proves_53 (by decide) (fun c11 => ?_) (fun c11 => ?_)
    · replace H := H.1 c11
      refine ew_aload_n dX7_proves_58 rfl lm0 ?_
      refine ew_iload_n dX7_proves_59 rfl lm1 ?_
      refine ew_iload_n dX7_proves_60 rfl lm2 ?_
      refine ew_iload_n dX7_proves_61 rfl lm3 ?_
      refine ew_callV (d := d + 3) (as := [aI a, aI b, aI c]) rfl dX7_proves_62 me_isOneBy rfl (ci := 1) rfl rfl (mh_o _ _) (Or.inl q1787) q1789 qs93 (Nat.le_of_ble_eq_true rfl) (Nat.le_refl 0) (Nat.le_refl 0) (S_isOneBy (d := d + 0) H) (fun o h' hq13 _ => ?_) (fun E i h' q _ => (mQi_no q).elim)
      obtain ⟨r15, s12, E14, rfl, H⟩ := hq13
      cases E14
      refine ew_if_eq (tgt := 72) dX7_proves_65 (by decide) (fun c16 => ?_) (fun c16 => ?_)
      · replace H := H.1 c16
        refine ew_iconst dX7_proves_72 (inI_of rfl) ?_
        exact ew_ret (o := some (aI 0)) rfl ⟨_, _, rfl, rfl, H⟩ ⟨dX7_proves_73, .int, rfl, Or.inl rfl, rfl⟩
      · replace H := H.2 c16
        refine ew_iconst dX7_proves_68 (inI_of rfl) ?_
        refine ew_goto (tgt := 73) dX7_proves_69 (by decide) ?_
        exact ew_ret (o := some (aI 1)) rfl ⟨_, _, rfl, rfl, H⟩ ⟨dX7_proves_73, .int, rfl, Or.inl rfl, rfl⟩
    · replace H := H.2 c11
      refine ew_iconst dX7_proves_56 (inI_of rfl) ?_
      exact ew_ret (o := some (aI (-1))) rfl ⟨_, _, rfl, rfl, H⟩ ⟨dX7_proves_57, .int, rfl, Or.inl rfl, rfl⟩
  · replace H := H.2 c5
    refine ew_aload_n dX7_proves_8 rfl lm0 ?_
    refine ew_iload_n dX7_proves_9 rfl lm3 ?_
    refine ew_callV (d := d + 3) (as := [aI c]) rfl dX7_proves_10 me_isTerm rfl (ci := 1) rfl rfl (mh_o _ _) (Or.inl q1751) q1753 qs88 (Nat.le_of_ble_eq_true rfl) (Nat.le_refl 0) (Nat.le_refl 0) (S_isTerm (d := d + 2) H) (fun o h' hq18 _ => ?_) (fun E i h' q _ => (mQi_no q).elim)
    obtain ⟨r20, s17, E19, rfl, H⟩ := hq18
    cases E19
    refine ew_if_eq (tgt := 20) dX7_proves_13 (by decide) (fun c21 => ?_) (fun c21 => ?_)
    · replace H := H.1 c21
      refine ew_iconst dX7_proves_20 (inI_of rfl) ?_
      refine ew_istore dX7_proves_21 (by decide) (lv' := [(4, aI 0), (0, aR (some mT)), (1, aI a), (2, aI b), (3, aI c)]) rfl ?_
      refine ew_sub (List.forall_mem_cons.mpr ⟨lm1, (List.forall_mem_cons.mpr ⟨lm2, (List.forall_mem_cons.mpr ⟨lm3, (List.forall_mem_cons.mpr ⟨lm4, (List.forall_mem_cons.mpr ⟨lm0, e_nm⟩)⟩)⟩)⟩)⟩) ?_
      refine ew_aload_n dX7_proves_23 rfl lm0 ?_
      refine ew_iload dX7_proves_24 lm4 ?_
      refine ew_if_ne (tgt := 33) dX7_proves_26 (by decide) (fun c => False.elim (by revert c; decide)) (fun _ => ?_)
      refine ew_iconst dX7_proves_29 (inI_of rfl) ?_
      refine ew_goto (tgt := 50) dX7_proves_30 (by decide) ?_
      refine ew_callV (d := d + 3) (as := [aI 1]) rfl dX7_proves_50 me_isRefused rfl (ci := 1) rfl rfl (mh_o _ _) (Or.inl q1594) q1596 qs56 (Nat.le_of_ble_eq_true rfl) (Nat.le_refl 0) (Nat.le_refl 0) (S_isRefused (d := d + 3) H) (fun o h' hq24 _ => ?_) (fun E i h' q _ => (mQi_no q).elim)
      obtain ⟨r26, s23, E25, rfl, H⟩ := hq24
      cases E25
      refine ew_if_eq (tgt := 58) dX7_proves_53 (by decide) (fun c27 => ?_) (fun c27 => ?_)
      · replace H := H.1 c27
        refine ew_aload_n dX7_proves_58 rfl lm0 ?_
        refine ew_iload_n dX7_proves_59 rfl lm1 ?_
        refine ew_iload_n dX7_proves_60 rfl lm2 ?_
        refine ew_iload_n dX7_proves_61 rfl lm3 ?_
        refine ew_callV (d := d + 3) (as := [aI a, aI b, aI c]) rfl dX7_proves_62 me_isOneBy rfl (ci := 1) rfl rfl (mh_o _ _) (Or.inl q1787) q1789 qs93 (Nat.le_of_ble_eq_true rfl) (Nat.le_refl 0) (Nat.le_refl 0) (S_isOneBy (d := d + 0) H) (fun o h' hq29 _ => ?_) (fun E i h' q _ => (mQi_no q).elim)
        obtain ⟨r31, s28, E30, rfl, H⟩ := hq29
        cases E30
        refine ew_if_eq (tgt := 72) dX7_proves_65 (by decide) (fun c32 => ?_) (fun c32 => ?_)
        · replace H := H.1 c32
          refine ew_iconst dX7_proves_72 (inI_of rfl) ?_
          exact ew_ret (o := some (aI 0)) rfl ⟨_, _, rfl, rfl, H⟩ ⟨dX7_proves_73, .int, rfl, Or.inl rfl, rfl⟩
        · replace H := H.2 c32
          refine ew_iconst dX7_proves_68 (inI_of rfl) ?_
          refine ew_goto (tgt := 73) dX7_proves_69 (by decide) ?_
          exact ew_ret (o := some (aI 1)) rfl ⟨_, _, rfl, rfl, H⟩ ⟨dX7_proves_73, .int, rfl, Or.inl rfl, rfl⟩
      · replace H := H.2 c27
        refine ew_iconst dX7_proves_56 (inI_of rfl) ?_
        exact ew_ret (o := some (aI (-1))) rfl ⟨_, _, rfl, rfl, H⟩ ⟨dX7_proves_57, .int, rfl, Or.inl rfl, rfl⟩
    · replace H := H.2 c21
      refine ew_iconst dX7_proves_16 (inI_of rfl) ?_
      refine ew_goto (tgt := 21) dX7_proves_17 (by decide) ?_
      refine ew_istore dX7_proves_21 (by decide) (lv' := [(4, aI 1), (0, aR (some mT)), (1, aI a), (2, aI b), (3, aI c)]) rfl ?_
      refine ew_sub (List.forall_mem_cons.mpr ⟨lm1, (List.forall_mem_cons.mpr ⟨lm2, (List.forall_mem_cons.mpr ⟨lm3, (List.forall_mem_cons.mpr ⟨lm4, (List.forall_mem_cons.mpr ⟨lm0, e_nm⟩)⟩)⟩)⟩)⟩) ?_
      refine ew_aload_n dX7_proves_23 rfl lm0 ?_
      refine ew_iload dX7_proves_24 lm4 ?_
      refine ew_if_ne (tgt := 33) dX7_proves_26 (by decide) (fun _ => ?_) (fun c => False.elim (by revert c; decide))
      refine ew_iload_n dX7_proves_33 rfl lm1 ?_
      refine ew_iconst dX7_proves_34 (inI_of rfl) ?_
      refine ew_aload_n dX7_proves_35 rfl lm0 ?_
      refine ew_callV (d := d + 3) (as := []) rfl dX7_proves_36 me_allSames rfl (ci := 1) rfl rfl (mh_o _ _) (Or.inl q1783) q1785 qs92 (Nat.le_of_ble_eq_true rfl) (Nat.le_refl 0) (Nat.le_refl 0) (S_allSames (d := d + 3) H) (fun o h' hq35 _ => ?_) (fun E i h' q _ => (mQi_no q).elim)
      obtain ⟨r37, s34, E36, rfl, H⟩ := hq35
      cases E36
      refine ew_callS (d := d + 3) (as := [aI a, aI 0, aI r37]) rfl dX7_proves_39 me_in rfl (Or.inl q1591) q1592 (Nat.le_of_ble_eq_true rfl) (Nat.le_refl 0) (Nat.le_refl 0) (S_in (d := d + 3) H) (fun o h' hq39 _ => ?_) (fun E i h' q _ => (mQi_no q).elim)
      obtain ⟨r41, s38, E40, rfl, H⟩ := hq39
      cases E40
      refine ew_if_eq (tgt := 49) dX7_proves_42 (by decide) (fun c42 => ?_) (fun c42 => ?_)
      · replace H := H.1 c42
        refine ew_iconst dX7_proves_49 (inI_of rfl) ?_
        refine ew_callV (d := d + 3) (as := [aI 2]) rfl dX7_proves_50 me_isRefused rfl (ci := 1) rfl rfl (mh_o _ _) (Or.inl q1594) q1596 qs56 (Nat.le_of_ble_eq_true rfl) (Nat.le_refl 0) (Nat.le_refl 0) (S_isRefused (d := d + 3) H) (fun o h' hq44 _ => ?_) (fun E i h' q _ => (mQi_no q).elim)
        obtain ⟨r46, s43, E45, rfl, H⟩ := hq44
        cases E45
        refine ew_if_eq (tgt := 58) dX7_proves_53 (by decide) (fun c47 => ?_) (fun c47 => ?_)
        · replace H := H.1 c47
          refine ew_aload_n dX7_proves_58 rfl lm0 ?_
          refine ew_iload_n dX7_proves_59 rfl lm1 ?_
          refine ew_iload_n dX7_proves_60 rfl lm2 ?_
          refine ew_iload_n dX7_proves_61 rfl lm3 ?_
          refine ew_callV (d := d + 3) (as := [aI a, aI b, aI c]) rfl dX7_proves_62 me_isOneBy rfl (ci := 1) rfl rfl (mh_o _ _) (Or.inl q1787) q1789 qs93 (Nat.le_of_ble_eq_true rfl) (Nat.le_refl 0) (Nat.le_refl 0) (S_isOneBy (d := d + 0) H) (fun o h' hq49 _ => ?_) (fun E i h' q _ => (mQi_no q).elim)
          obtain ⟨r51, s48, E50, rfl, H⟩ := hq49
          cases E50
          refine ew_if_eq (tgt := 72) dX7_proves_65 (by decide) (fun c52 => ?_) (fun c52 => ?_)
          · replace H := H.1 c52
            refine ew_iconst dX7_proves_72 (inI_of rfl) ?_
            exact ew_ret (o := some (aI 0)) rfl ⟨_, _, rfl, rfl, H⟩ ⟨dX7_proves_73, .int, rfl, Or.inl rfl, rfl⟩
          · replace H := H.2 c52
            refine ew_iconst dX7_proves_68 (inI_of rfl) ?_
            refine ew_goto (tgt := 73) dX7_proves_69 (by decide) ?_
            exact ew_ret (o := some (aI 1)) rfl ⟨_, _, rfl, rfl, H⟩ ⟨dX7_proves_73, .int, rfl, Or.inl rfl, rfl⟩
        · replace H := H.2 c47
          refine ew_iconst dX7_proves_56 (inI_of rfl) ?_
          exact ew_ret (o := some (aI (-1))) rfl ⟨_, _, rfl, rfl, H⟩ ⟨dX7_proves_57, .int, rfl, Or.inl rfl, rfl⟩
      · replace H := H.2 c42
        refine ew_iconst dX7_proves_45 (inI_of rfl) ?_
        refine ew_goto (tgt := 50) dX7_proves_46 (by decide) ?_
        refine ew_callV (d := d + 3) (as := [aI 0]) rfl dX7_proves_50 me_isRefused rfl (ci := 1) rfl rfl (mh_o _ _) (Or.inl q1594) q1596 qs56 (Nat.le_of_ble_eq_true rfl) (Nat.le_refl 0) (Nat.le_refl 0) (S_isRefused (d := d + 3) H) (fun o h' hq54 _ => ?_) (fun E i h' q _ => (mQi_no q).elim)
        obtain ⟨r56, s53, E55, rfl, H⟩ := hq54
        cases E55
        refine ew_if_eq (tgt := 58) dX7_proves_53 (by decide) (fun c57 => ?_) (fun c57 => ?_)
        · replace H := H.1 c57
          refine ew_aload_n dX7_proves_58 rfl lm0 ?_
          refine ew_iload_n dX7_proves_59 rfl lm1 ?_
          refine ew_iload_n dX7_proves_60 rfl lm2 ?_
          refine ew_iload_n dX7_proves_61 rfl lm3 ?_
          refine ew_callV (d := d + 3) (as := [aI a, aI b, aI c]) rfl dX7_proves_62 me_isOneBy rfl (ci := 1) rfl rfl (mh_o _ _) (Or.inl q1787) q1789 qs93 (Nat.le_of_ble_eq_true rfl) (Nat.le_refl 0) (Nat.le_refl 0) (S_isOneBy (d := d + 0) H) (fun o h' hq59 _ => ?_) (fun E i h' q _ => (mQi_no q).elim)
          obtain ⟨r61, s58, E60, rfl, H⟩ := hq59
          cases E60
          refine ew_if_eq (tgt := 72) dX7_proves_65 (by decide) (fun c62 => ?_) (fun c62 => ?_)
          · replace H := H.1 c62
            refine ew_iconst dX7_proves_72 (inI_of rfl) ?_
            exact ew_ret (o := some (aI 0)) rfl ⟨_, _, rfl, rfl, H⟩ ⟨dX7_proves_73, .int, rfl, Or.inl rfl, rfl⟩
          · replace H := H.2 c62
            refine ew_iconst dX7_proves_68 (inI_of rfl) ?_
            refine ew_goto (tgt := 73) dX7_proves_69 (by decide) ?_
            exact ew_ret (o := some (aI 1)) rfl ⟨_, _, rfl, rfl, H⟩ ⟨dX7_proves_73, .int, rfl, Or.inl rfl, rfl⟩
        · replace H := H.2 c57
          refine ew_iconst dX7_proves_56 (inI_of rfl) ?_
          exact ew_ret (o := some (aI (-1))) rfl ⟨_, _, rfl, rfl, H⟩ ⟨dX7_proves_57, .int, rfl, Or.inl rfl, rfl⟩
def C_proves (a : Int) (b : Int) (c : Int) (s0 : MS) (K : Int → MS → Prop) : Prop := B_proves_E  K a b c s0
theorem S_proves {d : Nat} {g : AH} {K : Int → MS → Prop} {a : Int} {b : Int} {c : Int} {s0 : MS} (H : C_proves a b c s0 K) : Sp mm_proves (d + 4) 0 0 [aR (some mT), aI a, aI b, aI c] (mh s0 g) (mQi g K) :=
  ew_sp rfl (Nat.le_of_ble_eq_true rfl) (T_proves_E d g K a b c s0 (H  ))
abbrev mm_since : EM := (yX7_since, cX7_since, 4, some .int, [])
theorem me_since : e_mth mm_since 2 := ⟨rfl, q1849, q117, by decide +kernel, by decide⟩
def B_since_17 (X17 : Int → Int → Int → MS → Prop) (K : Int → MS → Prop) (x1 : Int) (x2 : Int) (x3 : Int) (s0 : MS) : Prop :=
  ((inI ((jshl 1 x3) - 1)) ∧ (C_isOneBy ((jshl 1 x3) - 1) x1 x2 s0 (fun r5 s2 => ((r5 = 0 → (inI (x3 + 1) ∧ X17 x1 x2 (x3 + 1) s2)) ∧ (¬ r5 = 0 → K x3 s2)))))
def B_since_E (X17 : Int → Int → Int → MS → Prop) (K : Int → MS → Prop) (a : Int) (b : Int) (s0 : MS) : Prop :=
  (C_whyNotOne a b s0 (fun r4 s1 => (C_isRefused r4 s1 (fun r8 s5 => ((r8 = 0 → X17 a b 0 s5) ∧ (¬ r8 = 0 → K (-1) s5))))))
def W_since_17 (d : Nat) (g : AH) (K : Int → MS → Prop) (x1 : Int) (x2 : Int) (x3 : Int) (s0 : MS) : Prop := EW mm_since (d + 4) 0 0 (mQi g K) 17 [(0, aR (some mT)), (1, aI x1), (2, aI x2), (3, aI x3)] [] (mh s0 g)
set_option maxHeartbeats 4000000 in
theorem T_since_17 (d : Nat) (g : AH) (K : Int → MS → Prop) (x1 : Int) (x2 : Int) (x3 : Int) (s0 : MS) (H : B_since_17 (W_since_17 d g K) K x1 x2 x3 s0) : EW mm_since (d + 4) 0 0 (mQi g K) 17 [(0, aR (some mT)), (1, aI x1), (2, aI x2), (3, aI x3)] [] (mh s0 g) := by
  refine ew_aload_n dX7_since_17 rfl lm0 ?_
  refine ew_iconst dX7_since_18 (inI_of rfl) ?_
  refine ew_iload_n dX7_since_19 rfl lm3 ?_
  refine ew_ishl dX7_since_20 ?_
  refine ew_iconst dX7_since_21 (inI_of rfl) ?_
  obtain ⟨v1, H⟩ := H
  refine ew_isub dX7_since_22 v1 ?_
  refine ew_iload_n dX7_since_23 rfl lm1 ?_
  refine ew_iload_n dX7_since_24 rfl lm2 ?_
  refine ew_callV (d := d + 3) (as := [aI ((jshl 1 x3) - 1), aI x1, aI x2]) rfl dX7_since_25 me_isOneBy rfl (ci := 1) rfl rfl (mh_o _ _) (Or.inl q1787) q1789 qs93 (Nat.le_of_ble_eq_true rfl) (Nat.le_refl 0) (Nat.le_refl 0) (S_isOneBy (d := d + 0) H) (fun o h' hq3 _ => ?_) (fun E i h' q _ => (mQi_no q).elim)
  obtain ⟨r5, s2, E4, rfl, H⟩ := hq3
  cases E4
  refine ew_if_ne (tgt := 37) dX7_since_28 (by decide) (fun c6 => ?_) (fun c6 => ?_)
  · replace H := H.2 c6
    refine ew_iload_n dX7_since_37 rfl lm3 ?_
    exact ew_ret (o := some (aI x3)) rfl ⟨_, _, rfl, rfl, H⟩ ⟨dX7_since_38, .int, rfl, Or.inl rfl, rfl⟩
  · replace H := H.1 c6
    obtain ⟨v7, H⟩ := H
    refine ew_iinc dX7_since_31 lm3 (by decide) v7 (lv' := [(3, aI (x3 + 1)), (0, aR (some mT)), (1, aI x1), (2, aI x2)]) rfl ?_
    refine ew_sub (List.forall_mem_cons.mpr ⟨lm1, (List.forall_mem_cons.mpr ⟨lm2, (List.forall_mem_cons.mpr ⟨lm3, (List.forall_mem_cons.mpr ⟨lm0, e_nm⟩)⟩)⟩)⟩) ?_
    refine ew_goto (tgt := 17) dX7_since_34 (by decide) ?_
    exact ew_sub (List.forall_mem_cons.mpr ⟨lm0, (List.forall_mem_cons.mpr ⟨lm1, (List.forall_mem_cons.mpr ⟨lm2, (List.forall_mem_cons.mpr ⟨lm3, e_nm⟩)⟩)⟩)⟩) H
set_option maxHeartbeats 4000000 in
theorem T_since_E (d : Nat) (g : AH) (K : Int → MS → Prop) (a : Int) (b : Int) (s0 : MS) (H : B_since_E (W_since_17 d g K) K a b s0) : EW mm_since (d + 4) 0 0 (mQi g K) 0 [(0, aR (some mT)), (1, aI a), (2, aI b)] [] (mh s0 g) := by
  refine ew_aload_n dX7_since_0 rfl lm0 ?_
  refine ew_aload_n dX7_since_1 rfl lm0 ?_
  refine ew_iload_n dX7_since_2 rfl lm1 ?_
  refine ew_iload_n dX7_since_3 rfl lm2 ?_
  refine ew_callV (d := d + 3) (as := [aI a, aI b]) rfl dX7_since_4 me_whyNotOne rfl (ci := 1) rfl rfl (mh_o _ _) (Or.inl q1815) q1817 qs95 (Nat.le_of_ble_eq_true rfl) (Nat.le_refl 0) (Nat.le_refl 0) (S_whyNotOne (d := d + 1) H) (fun o h' hq2 _ => ?_) (fun E i h' q _ => (mQi_no q).elim)
  obtain ⟨r4, s1, E3, rfl, H⟩ := hq2
  cases E3
  refine ew_callV (d := d + 3) (as := [aI r4]) rfl dX7_since_7 me_isRefused rfl (ci := 1) rfl rfl (mh_o _ _) (Or.inl q1594) q1596 qs56 (Nat.le_of_ble_eq_true rfl) (Nat.le_refl 0) (Nat.le_refl 0) (S_isRefused (d := d + 3) H) (fun o h' hq6 _ => ?_) (fun E i h' q _ => (mQi_no q).elim)
  obtain ⟨r8, s5, E7, rfl, H⟩ := hq6
  cases E7
  refine ew_if_eq (tgt := 15) dX7_since_10 (by decide) (fun c9 => ?_) (fun c9 => ?_)
  · replace H := H.1 c9
    refine ew_iconst dX7_since_15 (inI_of rfl) ?_
    refine ew_istore_n dX7_since_16 rfl (by decide) (lv' := [(3, aI 0), (0, aR (some mT)), (1, aI a), (2, aI b)]) rfl ?_
    refine ew_sub (List.forall_mem_cons.mpr ⟨lm1, (List.forall_mem_cons.mpr ⟨lm2, (List.forall_mem_cons.mpr ⟨lm3, (List.forall_mem_cons.mpr ⟨lm0, e_nm⟩)⟩)⟩)⟩) ?_
    exact ew_sub (List.forall_mem_cons.mpr ⟨lm0, (List.forall_mem_cons.mpr ⟨lm1, (List.forall_mem_cons.mpr ⟨lm2, (List.forall_mem_cons.mpr ⟨lm3, e_nm⟩)⟩)⟩)⟩) H
  · replace H := H.2 c9
    refine ew_iconst dX7_since_13 (inI_of rfl) ?_
    exact ew_ret (o := some (aI (-1))) rfl ⟨_, _, rfl, rfl, H⟩ ⟨dX7_since_14, .int, rfl, Or.inl rfl, rfl⟩
def C_since (a : Int) (b : Int) (s0 : MS) (K : Int → MS → Prop) : Prop := ∀ (X17 : Int → Int → Int → MS → Prop), (∀ (x1 : Int) (x2 : Int) (x3 : Int) (s0 : MS), B_since_17 X17 K x1 x2 x3 s0 → X17 x1 x2 x3 s0) → B_since_E X17 K a b s0
theorem S_since {d : Nat} {g : AH} {K : Int → MS → Prop} {a : Int} {b : Int} {s0 : MS} (H : C_since a b s0 K) : Sp mm_since (d + 4) 0 0 [aR (some mT), aI a, aI b] (mh s0 g) (mQi g K) :=
  ew_sp rfl (Nat.le_of_ble_eq_true rfl) (T_since_E d g K a b s0 (H _ (fun x1 x2 x3 s0 H => T_since_17 d g K x1 x2 x3 s0 H)))
abbrev mm_level : EM := (yX7_level, cX7_level, 6, some .int, [])
theorem me_level : e_mth mm_level 2 := ⟨rfl, q1853, q117, by decide +kernel, by decide⟩
def B_level_17 (X17 : Int → Int → Int → MS → Prop) (X40 : Int → Int → Int → MS → Prop) (X76 : Int → Int → Int → MS → Prop) (X94 : Int → Int → Int → Int → MS → Prop) (X126 : Int → Int → Int → Int → MS → Prop) (X141 : Int → Int → Int → Int → Int → MS → Prop) (K : Int → MS → Prop) (x1 : Int) (x2 : Int) (x3 : Int) (s0 : MS) : Prop :=
  (((s0.1 27) ≤ x3 → X40 x1 x2 0 s0) ∧ (¬ (s0.1 27) ≤ x3 → ((0 ≤ x3 ∧ x3 < 24) ∧ ∀ s2 : MS, s2 = ma s0 47 x3 x3 → (inI (x3 + 1) ∧ X17 x1 x2 (x3 + 1) s2))))
def B_level_40 (X17 : Int → Int → Int → MS → Prop) (X40 : Int → Int → Int → MS → Prop) (X76 : Int → Int → Int → MS → Prop) (X94 : Int → Int → Int → Int → MS → Prop) (X126 : Int → Int → Int → Int → MS → Prop) (X141 : Int → Int → Int → Int → Int → MS → Prop) (K : Int → MS → Prop) (x1 : Int) (x2 : Int) (x3 : Int) (s0 : MS) : Prop :=
  (((s0.1 30) ≤ x3 → X76 x1 x2 0 s0) ∧ (¬ (s0.1 30) ≤ x3 → ((0 ≤ x3 ∧ x3 < 13) ∧ ((0 ≤ x3 ∧ x3 < 13) ∧ (C_unites 47 (s0.2 31 x3) (s0.2 32 x3) s0 (fun s4 => (inI (x3 + 1) ∧ X40 x1 x2 (x3 + 1) s4)))))))
def B_level_76 (X17 : Int → Int → Int → MS → Prop) (X40 : Int → Int → Int → MS → Prop) (X76 : Int → Int → Int → MS → Prop) (X94 : Int → Int → Int → Int → MS → Prop) (X126 : Int → Int → Int → Int → MS → Prop) (X141 : Int → Int → Int → Int → Int → MS → Prop) (K : Int → MS → Prop) (x1 : Int) (x2 : Int) (x3 : Int) (s0 : MS) : Prop :=
  ((0 ≤ x1 ∧ x1 < 24) ∧ ((0 ≤ x2 ∧ x2 < 24) ∧ (((s0.2 47 x1) = (s0.2 47 x2) → K x3 s0) ∧ (¬ (s0.2 47 x1) = (s0.2 47 x2) → X94 x1 x2 x3 0 s0))))
def B_level_94 (X17 : Int → Int → Int → MS → Prop) (X40 : Int → Int → Int → MS → Prop) (X76 : Int → Int → Int → MS → Prop) (X94 : Int → Int → Int → Int → MS → Prop) (X126 : Int → Int → Int → Int → MS → Prop) (X141 : Int → Int → Int → Int → Int → MS → Prop) (K : Int → MS → Prop) (x1 : Int) (x2 : Int) (x3 : Int) (x4 : Int) (s0 : MS) : Prop :=
  (((s0.1 27) ≤ x4 → X126 x1 x2 x3 0 s0) ∧ (¬ (s0.1 27) ≤ x4 → ((0 ≤ x4 ∧ x4 < 24) ∧ ((0 ≤ x4 ∧ x4 < 24) ∧ ∀ s3 : MS, s3 = ma s0 48 x4 (s0.2 47 x4) → (inI (x4 + 1) ∧ X94 x1 x2 x3 (x4 + 1) s3)))))
def B_level_126 (X17 : Int → Int → Int → MS → Prop) (X40 : Int → Int → Int → MS → Prop) (X76 : Int → Int → Int → MS → Prop) (X94 : Int → Int → Int → Int → MS → Prop) (X126 : Int → Int → Int → Int → MS → Prop) (X141 : Int → Int → Int → Int → Int → MS → Prop) (K : Int → MS → Prop) (x1 : Int) (x2 : Int) (x3 : Int) (x4 : Int) (s0 : MS) : Prop :=
  (((s0.1 27) ≤ x4 → (inI (x3 + 1) ∧ X76 x1 x2 (x3 + 1) s0)) ∧ (¬ (s0.1 27) ≤ x4 → ((inI (x4 + 1)) ∧ X141 x1 x2 x3 x4 (x4 + 1) s0)))
def B_level_141 (X17 : Int → Int → Int → MS → Prop) (X40 : Int → Int → Int → MS → Prop) (X76 : Int → Int → Int → MS → Prop) (X94 : Int → Int → Int → Int → MS → Prop) (X126 : Int → Int → Int → Int → MS → Prop) (X141 : Int → Int → Int → Int → Int → MS → Prop) (K : Int → MS → Prop) (x1 : Int) (x2 : Int) (x3 : Int) (x4 : Int) (x5 : Int) (s0 : MS) : Prop :=
  (((s0.1 27) ≤ x5 → (inI (x4 + 1) ∧ X126 x1 x2 x3 (x4 + 1) s0)) ∧ (¬ (s0.1 27) ≤ x5 → (C_isAlike 48 x4 x5 s0 (fun r6 s3 => ((r6 = 0 → (inI (x5 + 1) ∧ X141 x1 x2 x3 x4 (x5 + 1) s3)) ∧ (¬ r6 = 0 → (C_unites 47 x4 x5 s3 (fun s9 => (inI (x5 + 1) ∧ X141 x1 x2 x3 x4 (x5 + 1) s9)))))))))
def B_level_E (X17 : Int → Int → Int → MS → Prop) (X40 : Int → Int → Int → MS → Prop) (X76 : Int → Int → Int → MS → Prop) (X94 : Int → Int → Int → Int → MS → Prop) (X126 : Int → Int → Int → Int → MS → Prop) (X141 : Int → Int → Int → Int → Int → MS → Prop) (K : Int → MS → Prop) (a : Int) (b : Int) (s0 : MS) : Prop :=
  (C_whyNotOne a b s0 (fun r4 s1 => (C_isRefused r4 s1 (fun r8 s5 => ((r8 = 0 → X17 a b 0 s5) ∧ (¬ r8 = 0 → K (-1) s5))))))
def W_level_17 (d : Nat) (g : AH) (K : Int → MS → Prop) (x1 : Int) (x2 : Int) (x3 : Int) (s0 : MS) : Prop := EW mm_level (d + 3) 0 0 (mQi g K) 17 [(0, aR (some mT)), (1, aI x1), (2, aI x2), (3, aI x3)] [] (mh s0 g)
def W_level_40 (d : Nat) (g : AH) (K : Int → MS → Prop) (x1 : Int) (x2 : Int) (x3 : Int) (s0 : MS) : Prop := EW mm_level (d + 3) 0 0 (mQi g K) 40 [(0, aR (some mT)), (1, aI x1), (2, aI x2), (3, aI x3)] [] (mh s0 g)
def W_level_76 (d : Nat) (g : AH) (K : Int → MS → Prop) (x1 : Int) (x2 : Int) (x3 : Int) (s0 : MS) : Prop := EW mm_level (d + 3) 0 0 (mQi g K) 76 [(0, aR (some mT)), (1, aI x1), (2, aI x2), (3, aI x3)] [] (mh s0 g)
def W_level_94 (d : Nat) (g : AH) (K : Int → MS → Prop) (x1 : Int) (x2 : Int) (x3 : Int) (x4 : Int) (s0 : MS) : Prop := EW mm_level (d + 3) 0 0 (mQi g K) 94 [(0, aR (some mT)), (1, aI x1), (2, aI x2), (3, aI x3), (4, aI x4)] [] (mh s0 g)
def W_level_126 (d : Nat) (g : AH) (K : Int → MS → Prop) (x1 : Int) (x2 : Int) (x3 : Int) (x4 : Int) (s0 : MS) : Prop := EW mm_level (d + 3) 0 0 (mQi g K) 126 [(0, aR (some mT)), (1, aI x1), (2, aI x2), (3, aI x3), (4, aI x4)] [] (mh s0 g)
def W_level_141 (d : Nat) (g : AH) (K : Int → MS → Prop) (x1 : Int) (x2 : Int) (x3 : Int) (x4 : Int) (x5 : Int) (s0 : MS) : Prop := EW mm_level (d + 3) 0 0 (mQi g K) 141 [(0, aR (some mT)), (1, aI x1), (2, aI x2), (3, aI x3), (4, aI x4), (5, aI x5)] [] (mh s0 g)
set_option maxHeartbeats 4000000 in
theorem T_level_17 (d : Nat) (g : AH) (K : Int → MS → Prop) (x1 : Int) (x2 : Int) (x3 : Int) (s0 : MS) (H : B_level_17 (W_level_17 d g K) (W_level_40 d g K) (W_level_76 d g K) (W_level_94 d g K) (W_level_126 d g K) (W_level_141 d g K) K x1 x2 x3 s0) : EW mm_level (d + 3) 0 0 (mQi g K) 17 [(0, aR (some mT)), (1, aI x1), (2, aI x2), (3, aI x3)] [] (mh s0 g) := by
  refine ew_iload_n dX7_level_17 rfl lm3 ?_
  refine ew_aload_n dX7_level_18 rfl lm0 ?_
  refine mw_gI dX7_level_19 (e_fl.a q1433) mf_27 rfl ?_
  refine ew_icmp_ge (tgt := 38) dX7_level_22 (by decide) (fun c1 => ?_) (fun c1 => ?_)
  · replace H := H.1 c1
    refine ew_iconst dX7_level_38 (inI_of rfl) ?_
    refine ew_istore_n dX7_level_39 rfl (by decide) (lv' := [(3, aI 0), (0, aR (some mT)), (1, aI x1), (2, aI x2)]) rfl ?_
    refine ew_sub (List.forall_mem_cons.mpr ⟨lm1, (List.forall_mem_cons.mpr ⟨lm2, (List.forall_mem_cons.mpr ⟨lm3, (List.forall_mem_cons.mpr ⟨lm0, e_nm⟩)⟩)⟩)⟩) ?_
    exact ew_sub (List.forall_mem_cons.mpr ⟨lm0, (List.forall_mem_cons.mpr ⟨lm1, (List.forall_mem_cons.mpr ⟨lm2, (List.forall_mem_cons.mpr ⟨lm3, e_nm⟩)⟩)⟩)⟩) H
  · replace H := H.2 c1
    refine ew_aload_n dX7_level_25 rfl lm0 ?_
    refine mw_gA dX7_level_26 (e_fl.a q1453) mf_47 rfl ?_
    refine ew_iload_n dX7_level_29 rfl lm3 ?_
    refine ew_iload_n dX7_level_30 rfl lm3 ?_
    obtain ⟨v4, H⟩ := H
    refine mw_iast dX7_level_31 rfl v4.1 v4.2 (fun s2 e3 => ?_)
    replace H := H s2 e3
    obtain ⟨v5, H⟩ := H
    refine ew_iinc dX7_level_32 lm3 (by decide) v5 (lv' := [(3, aI (x3 + 1)), (0, aR (some mT)), (1, aI x1), (2, aI x2)]) rfl ?_
    refine ew_sub (List.forall_mem_cons.mpr ⟨lm1, (List.forall_mem_cons.mpr ⟨lm2, (List.forall_mem_cons.mpr ⟨lm3, (List.forall_mem_cons.mpr ⟨lm0, e_nm⟩)⟩)⟩)⟩) ?_
    refine ew_goto (tgt := 17) dX7_level_35 (by decide) ?_
    exact ew_sub (List.forall_mem_cons.mpr ⟨lm0, (List.forall_mem_cons.mpr ⟨lm1, (List.forall_mem_cons.mpr ⟨lm2, (List.forall_mem_cons.mpr ⟨lm3, e_nm⟩)⟩)⟩)⟩) H
set_option maxHeartbeats 4000000 in
theorem T_level_40 (d : Nat) (g : AH) (K : Int → MS → Prop) (x1 : Int) (x2 : Int) (x3 : Int) (s0 : MS) (H : B_level_40 (W_level_17 d g K) (W_level_40 d g K) (W_level_76 d g K) (W_level_94 d g K) (W_level_126 d g K) (W_level_141 d g K) K x1 x2 x3 s0) : EW mm_level (d + 3) 0 0 (mQi g K) 40 [(0, aR (some mT)), (1, aI x1), (2, aI x2), (3, aI x3)] [] (mh s0 g) := by
  refine ew_iload_n dX7_level_40 rfl lm3 ?_
  refine ew_aload_n dX7_level_41 rfl lm0 ?_
  refine mw_gI dX7_level_42 (e_fl.a q1436) mf_30 rfl ?_
  refine ew_icmp_ge (tgt := 74) dX7_level_45 (by decide) (fun c1 => ?_) (fun c1 => ?_)
  · replace H := H.1 c1
    refine ew_iconst dX7_level_74 (inI_of rfl) ?_
    refine ew_istore_n dX7_level_75 rfl (by decide) (lv' := [(3, aI 0), (0, aR (some mT)), (1, aI x1), (2, aI x2)]) rfl ?_
    refine ew_sub (List.forall_mem_cons.mpr ⟨lm1, (List.forall_mem_cons.mpr ⟨lm2, (List.forall_mem_cons.mpr ⟨lm3, (List.forall_mem_cons.mpr ⟨lm0, e_nm⟩)⟩)⟩)⟩) ?_
    exact ew_sub (List.forall_mem_cons.mpr ⟨lm0, (List.forall_mem_cons.mpr ⟨lm1, (List.forall_mem_cons.mpr ⟨lm2, (List.forall_mem_cons.mpr ⟨lm3, e_nm⟩)⟩)⟩)⟩) H
  · replace H := H.2 c1
    refine ew_aload_n dX7_level_48 rfl lm0 ?_
    refine ew_aload_n dX7_level_49 rfl lm0 ?_
    refine mw_gA dX7_level_50 (e_fl.a q1453) mf_47 rfl ?_
    refine ew_aload_n dX7_level_53 rfl lm0 ?_
    refine mw_gA dX7_level_54 (e_fl.a q1437) mf_31 rfl ?_
    refine ew_iload_n dX7_level_57 rfl lm3 ?_
    obtain ⟨v2, H⟩ := H
    refine mw_iald dX7_level_58 rfl v2.1 v2.2 ?_
    refine ew_aload_n dX7_level_59 rfl lm0 ?_
    refine mw_gA dX7_level_60 (e_fl.a q1438) mf_32 rfl ?_
    refine ew_iload_n dX7_level_63 rfl lm3 ?_
    obtain ⟨v3, H⟩ := H
    refine mw_iald dX7_level_64 rfl v3.1 v3.2 ?_
    refine ew_callV (d := d + 2) (as := [aR (some (0, 1, 47)), aI (s0.2 31 x3), aI (s0.2 32 x3)]) rfl dX7_level_65 me_unites rfl (ci := 1) rfl rfl (mh_o _ _) (Or.inl q1712) q1714 qs84 (Nat.le_of_ble_eq_true rfl) (Nat.le_refl 0) (Nat.le_refl 0) (S_unites (d := d + 2) H) (fun o h' hq5 _ => ?_) (fun E i h' q _ => (mQ_no q).elim)
    obtain ⟨s4, E6, rfl, H⟩ := hq5
    cases E6
    obtain ⟨v7, H⟩ := H
    refine ew_iinc dX7_level_68 lm3 (by decide) v7 (lv' := [(3, aI (x3 + 1)), (0, aR (some mT)), (1, aI x1), (2, aI x2)]) rfl ?_
    refine ew_sub (List.forall_mem_cons.mpr ⟨lm1, (List.forall_mem_cons.mpr ⟨lm2, (List.forall_mem_cons.mpr ⟨lm3, (List.forall_mem_cons.mpr ⟨lm0, e_nm⟩)⟩)⟩)⟩) ?_
    refine ew_goto (tgt := 40) dX7_level_71 (by decide) ?_
    exact ew_sub (List.forall_mem_cons.mpr ⟨lm0, (List.forall_mem_cons.mpr ⟨lm1, (List.forall_mem_cons.mpr ⟨lm2, (List.forall_mem_cons.mpr ⟨lm3, e_nm⟩)⟩)⟩)⟩) H
set_option maxHeartbeats 4000000 in
theorem T_level_76 (d : Nat) (g : AH) (K : Int → MS → Prop) (x1 : Int) (x2 : Int) (x3 : Int) (s0 : MS) (H : B_level_76 (W_level_17 d g K) (W_level_40 d g K) (W_level_76 d g K) (W_level_94 d g K) (W_level_126 d g K) (W_level_141 d g K) K x1 x2 x3 s0) : EW mm_level (d + 3) 0 0 (mQi g K) 76 [(0, aR (some mT)), (1, aI x1), (2, aI x2), (3, aI x3)] [] (mh s0 g) := by
  refine ew_aload_n dX7_level_76 rfl lm0 ?_
  refine mw_gA dX7_level_77 (e_fl.a q1453) mf_47 rfl ?_
  refine ew_iload_n dX7_level_80 rfl lm1 ?_
  obtain ⟨v1, H⟩ := H
  refine mw_iald dX7_level_81 rfl v1.1 v1.2 ?_
  refine ew_aload_n dX7_level_82 rfl lm0 ?_
  refine mw_gA dX7_level_83 (e_fl.a q1453) mf_47 rfl ?_
  refine ew_iload_n dX7_level_86 rfl lm2 ?_
  obtain ⟨v2, H⟩ := H
  refine mw_iald dX7_level_87 rfl v2.1 v2.2 ?_
  refine ew_icmp_eq (tgt := 195) dX7_level_88 (by decide) (fun c3 => ?_) (fun c3 => ?_)
  · replace H := H.1 c3
    refine ew_iload_n dX7_level_195 rfl lm3 ?_
    exact ew_ret (o := some (aI x3)) rfl ⟨_, _, rfl, rfl, H⟩ ⟨dX7_level_196, .int, rfl, Or.inl rfl, rfl⟩
  · replace H := H.2 c3
    refine ew_iconst dX7_level_91 (inI_of rfl) ?_
    refine ew_istore dX7_level_92 (by decide) (lv' := [(4, aI 0), (0, aR (some mT)), (1, aI x1), (2, aI x2), (3, aI x3)]) rfl ?_
    refine ew_sub (List.forall_mem_cons.mpr ⟨lm1, (List.forall_mem_cons.mpr ⟨lm2, (List.forall_mem_cons.mpr ⟨lm3, (List.forall_mem_cons.mpr ⟨lm4, (List.forall_mem_cons.mpr ⟨lm0, e_nm⟩)⟩)⟩)⟩)⟩) ?_
    exact ew_sub (List.forall_mem_cons.mpr ⟨lm0, (List.forall_mem_cons.mpr ⟨lm1, (List.forall_mem_cons.mpr ⟨lm2, (List.forall_mem_cons.mpr ⟨lm3, (List.forall_mem_cons.mpr ⟨lm4, e_nm⟩)⟩)⟩)⟩)⟩) H
set_option maxHeartbeats 4000000 in
theorem T_level_94 (d : Nat) (g : AH) (K : Int → MS → Prop) (x1 : Int) (x2 : Int) (x3 : Int) (x4 : Int) (s0 : MS) (H : B_level_94 (W_level_17 d g K) (W_level_40 d g K) (W_level_76 d g K) (W_level_94 d g K) (W_level_126 d g K) (W_level_141 d g K) K x1 x2 x3 x4 s0) : EW mm_level (d + 3) 0 0 (mQi g K) 94 [(0, aR (some mT)), (1, aI x1), (2, aI x2), (3, aI x3), (4, aI x4)] [] (mh s0 g) := by
  refine ew_iload dX7_level_94 lm4 ?_
  refine ew_aload_n dX7_level_96 rfl lm0 ?_
  refine mw_gI dX7_level_97 (e_fl.a q1433) mf_27 rfl ?_
  refine ew_icmp_ge (tgt := 123) dX7_level_100 (by decide) (fun c1 => ?_) (fun c1 => ?_)
  · replace H := H.1 c1
    refine ew_iconst dX7_level_123 (inI_of rfl) ?_
    refine ew_istore dX7_level_124 (by decide) (lv' := [(4, aI 0), (0, aR (some mT)), (1, aI x1), (2, aI x2), (3, aI x3)]) rfl ?_
    refine ew_sub (List.forall_mem_cons.mpr ⟨lm1, (List.forall_mem_cons.mpr ⟨lm2, (List.forall_mem_cons.mpr ⟨lm3, (List.forall_mem_cons.mpr ⟨lm4, (List.forall_mem_cons.mpr ⟨lm0, e_nm⟩)⟩)⟩)⟩)⟩) ?_
    exact ew_sub (List.forall_mem_cons.mpr ⟨lm0, (List.forall_mem_cons.mpr ⟨lm1, (List.forall_mem_cons.mpr ⟨lm2, (List.forall_mem_cons.mpr ⟨lm3, (List.forall_mem_cons.mpr ⟨lm4, e_nm⟩)⟩)⟩)⟩)⟩) H
  · replace H := H.2 c1
    refine ew_aload_n dX7_level_103 rfl lm0 ?_
    refine mw_gA dX7_level_104 (e_fl.a q1454) mf_48 rfl ?_
    refine ew_iload dX7_level_107 lm4 ?_
    refine ew_aload_n dX7_level_109 rfl lm0 ?_
    refine mw_gA dX7_level_110 (e_fl.a q1453) mf_47 rfl ?_
    refine ew_iload dX7_level_113 lm4 ?_
    obtain ⟨v2, H⟩ := H
    refine mw_iald dX7_level_115 rfl v2.1 v2.2 ?_
    obtain ⟨v5, H⟩ := H
    refine mw_iast dX7_level_116 rfl v5.1 v5.2 (fun s3 e4 => ?_)
    replace H := H s3 e4
    obtain ⟨v6, H⟩ := H
    refine ew_iinc dX7_level_117 lm4 (by decide) v6 (lv' := [(4, aI (x4 + 1)), (0, aR (some mT)), (1, aI x1), (2, aI x2), (3, aI x3)]) rfl ?_
    refine ew_sub (List.forall_mem_cons.mpr ⟨lm1, (List.forall_mem_cons.mpr ⟨lm2, (List.forall_mem_cons.mpr ⟨lm3, (List.forall_mem_cons.mpr ⟨lm4, (List.forall_mem_cons.mpr ⟨lm0, e_nm⟩)⟩)⟩)⟩)⟩) ?_
    refine ew_goto (tgt := 94) dX7_level_120 (by decide) ?_
    exact ew_sub (List.forall_mem_cons.mpr ⟨lm0, (List.forall_mem_cons.mpr ⟨lm1, (List.forall_mem_cons.mpr ⟨lm2, (List.forall_mem_cons.mpr ⟨lm3, (List.forall_mem_cons.mpr ⟨lm4, e_nm⟩)⟩)⟩)⟩)⟩) H
set_option maxHeartbeats 4000000 in
theorem T_level_126 (d : Nat) (g : AH) (K : Int → MS → Prop) (x1 : Int) (x2 : Int) (x3 : Int) (x4 : Int) (s0 : MS) (H : B_level_126 (W_level_17 d g K) (W_level_40 d g K) (W_level_76 d g K) (W_level_94 d g K) (W_level_126 d g K) (W_level_141 d g K) K x1 x2 x3 x4 s0) : EW mm_level (d + 3) 0 0 (mQi g K) 126 [(0, aR (some mT)), (1, aI x1), (2, aI x2), (3, aI x3), (4, aI x4)] [] (mh s0 g) := by
  refine ew_iload dX7_level_126 lm4 ?_
  refine ew_aload_n dX7_level_128 rfl lm0 ?_
  refine mw_gI dX7_level_129 (e_fl.a q1433) mf_27 rfl ?_
  refine ew_icmp_ge (tgt := 189) dX7_level_132 (by decide) (fun c1 => ?_) (fun c1 => ?_)
  · replace H := H.1 c1
    obtain ⟨v2, H⟩ := H
    refine ew_iinc dX7_level_189 lm3 (by decide) v2 (lv' := [(3, aI (x3 + 1)), (0, aR (some mT)), (1, aI x1), (2, aI x2), (4, aI x4)]) rfl ?_
    refine ew_sub (List.forall_mem_cons.mpr ⟨lm1, (List.forall_mem_cons.mpr ⟨lm2, (List.forall_mem_cons.mpr ⟨lm3, (List.forall_mem_cons.mpr ⟨lm0, (List.forall_mem_cons.mpr ⟨lm4, e_nm⟩)⟩)⟩)⟩)⟩) ?_
    refine ew_goto (tgt := 76) dX7_level_192 (by decide) ?_
    exact ew_sub (List.forall_mem_cons.mpr ⟨lm0, (List.forall_mem_cons.mpr ⟨lm1, (List.forall_mem_cons.mpr ⟨lm2, (List.forall_mem_cons.mpr ⟨lm3, e_nm⟩)⟩)⟩)⟩) H
  · replace H := H.2 c1
    refine ew_iload dX7_level_135 lm4 ?_
    refine ew_iconst dX7_level_137 (inI_of rfl) ?_
    obtain ⟨v3, H⟩ := H
    refine ew_iadd dX7_level_138 v3 ?_
    refine ew_istore dX7_level_139 (by decide) (lv' := [(5, aI (x4 + 1)), (0, aR (some mT)), (1, aI x1), (2, aI x2), (3, aI x3), (4, aI x4)]) rfl ?_
    refine ew_sub (List.forall_mem_cons.mpr ⟨lm1, (List.forall_mem_cons.mpr ⟨lm2, (List.forall_mem_cons.mpr ⟨lm3, (List.forall_mem_cons.mpr ⟨lm4, (List.forall_mem_cons.mpr ⟨lm5, (List.forall_mem_cons.mpr ⟨lm0, e_nm⟩)⟩)⟩)⟩)⟩)⟩) ?_
    exact ew_sub (List.forall_mem_cons.mpr ⟨lm0, (List.forall_mem_cons.mpr ⟨lm1, (List.forall_mem_cons.mpr ⟨lm2, (List.forall_mem_cons.mpr ⟨lm3, (List.forall_mem_cons.mpr ⟨lm4, (List.forall_mem_cons.mpr ⟨lm5, e_nm⟩)⟩)⟩)⟩)⟩)⟩) H
set_option maxHeartbeats 4000000 in
theorem T_level_141 (d : Nat) (g : AH) (K : Int → MS → Prop) (x1 : Int) (x2 : Int) (x3 : Int) (x4 : Int) (x5 : Int) (s0 : MS) (H : B_level_141 (W_level_17 d g K) (W_level_40 d g K) (W_level_76 d g K) (W_level_94 d g K) (W_level_126 d g K) (W_level_141 d g K) K x1 x2 x3 x4 x5 s0) : EW mm_level (d + 3) 0 0 (mQi g K) 141 [(0, aR (some mT)), (1, aI x1), (2, aI x2), (3, aI x3), (4, aI x4), (5, aI x5)] [] (mh s0 g) := by
  refine ew_iload dX7_level_141 lm5 ?_
  refine ew_aload_n dX7_level_143 rfl lm0 ?_
  refine mw_gI dX7_level_144 (e_fl.a q1433) mf_27 rfl ?_
  refine ew_icmp_ge (tgt := 183) dX7_level_147 (by decide) (fun c1 => ?_) (fun c1 => ?_)
  · replace H := H.1 c1
    obtain ⟨v2, H⟩ := H
    refine ew_iinc dX7_level_183 lm4 (by decide) v2 (lv' := [(4, aI (x4 + 1)), (0, aR (some mT)), (1, aI x1), (2, aI x2), (3, aI x3), (5, aI x5)]) rfl ?_
    refine ew_sub (List.forall_mem_cons.mpr ⟨lm1, (List.forall_mem_cons.mpr ⟨lm2, (List.forall_mem_cons.mpr ⟨lm3, (List.forall_mem_cons.mpr ⟨lm4, (List.forall_mem_cons.mpr ⟨lm0, (List.forall_mem_cons.mpr ⟨lm5, e_nm⟩)⟩)⟩)⟩)⟩)⟩) ?_
    refine ew_goto (tgt := 126) dX7_level_186 (by decide) ?_
    exact ew_sub (List.forall_mem_cons.mpr ⟨lm0, (List.forall_mem_cons.mpr ⟨lm1, (List.forall_mem_cons.mpr ⟨lm2, (List.forall_mem_cons.mpr ⟨lm3, (List.forall_mem_cons.mpr ⟨lm4, e_nm⟩)⟩)⟩)⟩)⟩) H
  · replace H := H.2 c1
    refine ew_aload_n dX7_level_150 rfl lm0 ?_
    refine ew_aload_n dX7_level_151 rfl lm0 ?_
    refine mw_gA dX7_level_152 (e_fl.a q1454) mf_48 rfl ?_
    refine ew_iload dX7_level_155 lm4 ?_
    refine ew_iload dX7_level_157 lm5 ?_
    refine ew_callV (d := d + 2) (as := [aR (some (0, 1, 48)), aI x4, aI x5]) rfl dX7_level_159 me_isAlike rfl (ci := 1) rfl rfl (mh_o _ _) (Or.inl q1688) q1690 qs78 (Nat.le_of_ble_eq_true rfl) (Nat.le_refl 0) (Nat.le_refl 0) (S_isAlike (d := d + 1) H) (fun o h' hq4 _ => ?_) (fun E i h' q _ => (mQi_no q).elim)
    obtain ⟨r6, s3, E5, rfl, H⟩ := hq4
    cases E5
    refine ew_if_eq (tgt := 177) dX7_level_162 (by decide) (fun c7 => ?_) (fun c7 => ?_)
    · replace H := H.1 c7
      obtain ⟨v8, H⟩ := H
      refine ew_iinc dX7_level_177 lm5 (by decide) v8 (lv' := [(5, aI (x5 + 1)), (0, aR (some mT)), (1, aI x1), (2, aI x2), (3, aI x3), (4, aI x4)]) rfl ?_
      refine ew_sub (List.forall_mem_cons.mpr ⟨lm1, (List.forall_mem_cons.mpr ⟨lm2, (List.forall_mem_cons.mpr ⟨lm3, (List.forall_mem_cons.mpr ⟨lm4, (List.forall_mem_cons.mpr ⟨lm5, (List.forall_mem_cons.mpr ⟨lm0, e_nm⟩)⟩)⟩)⟩)⟩)⟩) ?_
      refine ew_goto (tgt := 141) dX7_level_180 (by decide) ?_
      exact ew_sub (List.forall_mem_cons.mpr ⟨lm0, (List.forall_mem_cons.mpr ⟨lm1, (List.forall_mem_cons.mpr ⟨lm2, (List.forall_mem_cons.mpr ⟨lm3, (List.forall_mem_cons.mpr ⟨lm4, (List.forall_mem_cons.mpr ⟨lm5, e_nm⟩)⟩)⟩)⟩)⟩)⟩) H
    · replace H := H.2 c7
      refine ew_aload_n dX7_level_165 rfl lm0 ?_
      refine ew_aload_n dX7_level_166 rfl lm0 ?_
      refine mw_gA dX7_level_167 (e_fl.a q1453) mf_47 rfl ?_
      refine ew_iload dX7_level_170 lm4 ?_
      refine ew_iload dX7_level_172 lm5 ?_
      refine ew_callV (d := d + 2) (as := [aR (some (0, 1, 47)), aI x4, aI x5]) rfl dX7_level_174 me_unites rfl (ci := 1) rfl rfl (mh_o _ _) (Or.inl q1712) q1714 qs84 (Nat.le_of_ble_eq_true rfl) (Nat.le_refl 0) (Nat.le_refl 0) (S_unites (d := d + 2) H) (fun o h' hq10 _ => ?_) (fun E i h' q _ => (mQ_no q).elim)
      obtain ⟨s9, E11, rfl, H⟩ := hq10
      cases E11
      obtain ⟨v12, H⟩ := H
      refine ew_iinc dX7_level_177 lm5 (by decide) v12 (lv' := [(5, aI (x5 + 1)), (0, aR (some mT)), (1, aI x1), (2, aI x2), (3, aI x3), (4, aI x4)]) rfl ?_
      refine ew_sub (List.forall_mem_cons.mpr ⟨lm1, (List.forall_mem_cons.mpr ⟨lm2, (List.forall_mem_cons.mpr ⟨lm3, (List.forall_mem_cons.mpr ⟨lm4, (List.forall_mem_cons.mpr ⟨lm5, (List.forall_mem_cons.mpr ⟨lm0, e_nm⟩)⟩)⟩)⟩)⟩)⟩) ?_
      refine ew_goto (tgt := 141) dX7_level_180 (by decide) ?_
      exact ew_sub (List.forall_mem_cons.mpr ⟨lm0, (List.forall_mem_cons.mpr ⟨lm1, (List.forall_mem_cons.mpr ⟨lm2, (List.forall_mem_cons.mpr ⟨lm3, (List.forall_mem_cons.mpr ⟨lm4, (List.forall_mem_cons.mpr ⟨lm5, e_nm⟩)⟩)⟩)⟩)⟩)⟩) H
set_option maxHeartbeats 4000000 in
theorem T_level_E (d : Nat) (g : AH) (K : Int → MS → Prop) (a : Int) (b : Int) (s0 : MS) (H : B_level_E (W_level_17 d g K) (W_level_40 d g K) (W_level_76 d g K) (W_level_94 d g K) (W_level_126 d g K) (W_level_141 d g K) K a b s0) : EW mm_level (d + 3) 0 0 (mQi g K) 0 [(0, aR (some mT)), (1, aI a), (2, aI b)] [] (mh s0 g) := by
  refine ew_aload_n dX7_level_0 rfl lm0 ?_
  refine ew_aload_n dX7_level_1 rfl lm0 ?_
  refine ew_iload_n dX7_level_2 rfl lm1 ?_
  refine ew_iload_n dX7_level_3 rfl lm2 ?_
  refine ew_callV (d := d + 2) (as := [aI a, aI b]) rfl dX7_level_4 me_whyNotOne rfl (ci := 1) rfl rfl (mh_o _ _) (Or.inl q1815) q1817 qs95 (Nat.le_of_ble_eq_true rfl) (Nat.le_refl 0) (Nat.le_refl 0) (S_whyNotOne (d := d + 0) H) (fun o h' hq2 _ => ?_) (fun E i h' q _ => (mQi_no q).elim)
  obtain ⟨r4, s1, E3, rfl, H⟩ := hq2
  cases E3
  refine ew_callV (d := d + 2) (as := [aI r4]) rfl dX7_level_7 me_isRefused rfl (ci := 1) rfl rfl (mh_o _ _) (Or.inl q1594) q1596 qs56 (Nat.le_of_ble_eq_true rfl) (Nat.le_refl 0) (Nat.le_refl 0) (S_isRefused (d := d + 2) H) (fun o h' hq6 _ => ?_) (fun E i h' q _ => (mQi_no q).elim)
  obtain ⟨r8, s5, E7, rfl, H⟩ := hq6
  cases E7
  refine ew_if_eq (tgt := 15) dX7_level_10 (by decide) (fun c9 => ?_) (fun c9 => ?_)
  · replace H := H.1 c9
    refine ew_iconst dX7_level_15 (inI_of rfl) ?_
    refine ew_istore_n dX7_level_16 rfl (by decide) (lv' := [(3, aI 0), (0, aR (some mT)), (1, aI a), (2, aI b)]) rfl ?_
    refine ew_sub (List.forall_mem_cons.mpr ⟨lm1, (List.forall_mem_cons.mpr ⟨lm2, (List.forall_mem_cons.mpr ⟨lm3, (List.forall_mem_cons.mpr ⟨lm0, e_nm⟩)⟩)⟩)⟩) ?_
    exact ew_sub (List.forall_mem_cons.mpr ⟨lm0, (List.forall_mem_cons.mpr ⟨lm1, (List.forall_mem_cons.mpr ⟨lm2, (List.forall_mem_cons.mpr ⟨lm3, e_nm⟩)⟩)⟩)⟩) H
  · replace H := H.2 c9
    refine ew_iconst dX7_level_13 (inI_of rfl) ?_
    exact ew_ret (o := some (aI (-1))) rfl ⟨_, _, rfl, rfl, H⟩ ⟨dX7_level_14, .int, rfl, Or.inl rfl, rfl⟩
def C_level (a : Int) (b : Int) (s0 : MS) (K : Int → MS → Prop) : Prop := ∀ (X17 : Int → Int → Int → MS → Prop) (X40 : Int → Int → Int → MS → Prop) (X76 : Int → Int → Int → MS → Prop) (X94 : Int → Int → Int → Int → MS → Prop) (X126 : Int → Int → Int → Int → MS → Prop) (X141 : Int → Int → Int → Int → Int → MS → Prop), (∀ (x1 : Int) (x2 : Int) (x3 : Int) (s0 : MS), B_level_17 X17 X40 X76 X94 X126 X141 K x1 x2 x3 s0 → X17 x1 x2 x3 s0) → (∀ (x1 : Int) (x2 : Int) (x3 : Int) (s0 : MS), B_level_40 X17 X40 X76 X94 X126 X141 K x1 x2 x3 s0 → X40 x1 x2 x3 s0) → (∀ (x1 : Int) (x2 : Int) (x3 : Int) (s0 : MS), B_level_76 X17 X40 X76 X94 X126 X141 K x1 x2 x3 s0 → X76 x1 x2 x3 s0) → (∀ (x1 : Int) (x2 : Int) (x3 : Int) (x4 : Int) (s0 : MS), B_level_94 X17 X40 X76 X94 X126 X141 K x1 x2 x3 x4 s0 → X94 x1 x2 x3 x4 s0) → (∀ (x1 : Int) (x2 : Int) (x3 : Int) (x4 : Int) (s0 : MS), B_level_126 X17 X40 X76 X94 X126 X141 K x1 x2 x3 x4 s0 → X126 x1 x2 x3 x4 s0) → (∀ (x1 : Int) (x2 : Int) (x3 : Int) (x4 : Int) (x5 : Int) (s0 : MS), B_level_141 X17 X40 X76 X94 X126 X141 K x1 x2 x3 x4 x5 s0 → X141 x1 x2 x3 x4 x5 s0) → B_level_E X17 X40 X76 X94 X126 X141 K a b s0
theorem S_level {d : Nat} {g : AH} {K : Int → MS → Prop} {a : Int} {b : Int} {s0 : MS} (H : C_level a b s0 K) : Sp mm_level (d + 3) 0 0 [aR (some mT), aI a, aI b] (mh s0 g) (mQi g K) :=
  ew_sp rfl (Nat.le_of_ble_eq_true rfl) (T_level_E d g K a b s0 (H _ _ _ _ _ _ (fun x1 x2 x3 s0 H => T_level_17 d g K x1 x2 x3 s0 H) (fun x1 x2 x3 s0 H => T_level_40 d g K x1 x2 x3 s0 H) (fun x1 x2 x3 s0 H => T_level_76 d g K x1 x2 x3 s0 H) (fun x1 x2 x3 x4 s0 H => T_level_94 d g K x1 x2 x3 x4 s0 H) (fun x1 x2 x3 x4 s0 H => T_level_126 d g K x1 x2 x3 x4 s0 H) (fun x1 x2 x3 x4 x5 s0 H => T_level_141 d g K x1 x2 x3 x4 x5 s0 H)))
