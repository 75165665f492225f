set_option maxRecDepth 100000
abbrev mm_readLine : EM := (yX7_readLine, cX7_readLine, 1, some .boolean, [])
theorem me_readLine : e_mth mm_readLine 0 := ⟨rfl, q1613, q117, by decide +kernel, by decide⟩
def B_readLine_E  (K : Int → MS → Prop)  (s0 : MS) : Prop :=
  (C_isWord 0 s0 (fun r4 s1 => ((r4 = 0 → (C_isWord 1 s1 (fun r9 s6 => ((r9 = 0 → (C_isWord 2 s6 (fun r14 s11 => ((r14 = 0 → (C_isWord 3 s11 (fun r19 s16 => ((r19 = 0 → (C_errs 1 s16 (fun r24 s21 => ((r24 = 0 ∨ r24 = 1) ∧ K r24 s21)))) ∧ (¬ r19 = 0 → (C_readPair 0 s16 (fun r29 s26 => ((r29 = 0 ∨ r29 = 1) ∧ K r29 s26)))))))) ∧ (¬ r14 = 0 → (C_readPair 1 s11 (fun r34 s31 => ((r34 = 0 ∨ r34 = 1) ∧ K r34 s31)))))))) ∧ (¬ r9 = 0 → (C_readTerm s6 (fun r39 s36 => ((r39 = 0 ∨ r39 = 1) ∧ K r39 s36)))))))) ∧ (¬ r4 = 0 → (C_readFun s1 (fun r44 s41 => ((r44 = 0 ∨ r44 = 1) ∧ K r44 s41)))))))
set_option maxHeartbeats 4000000 in
theorem T_readLine_E (d : Nat) (g : AH) (K : Int → MS → Prop)  (s0 : MS) (H : B_readLine_E  K  s0) : EW mm_readLine (d + 10) 0 0 (mQi g K) 0 [(0, aR (some mT))] [] (mh s0 g) := by
  refine ew_aload_n dX7_readLine_0 rfl lm0 ?_
  refine ew_ldcS (i := 0) dX7_readLine_1 lm4 ?_
  refine ew_callV (d := d + 9) (as := [aR (some (9, 13, 0))]) rfl dX7_readLine_3 me_isWord rfl (ci := 1) rfl rfl (mh_o _ _) (Or.inl q1615) q1617 qs61 (Nat.le_of_ble_eq_true rfl) (Nat.le_refl 0) (Nat.le_refl 0) (S_isWord (d := d + 3) H) (fun o h' hq2 _ => ?_) (fun E i h' q _ => (mQi_no q).elim)
  obtain ⟨r4, s1, E3, rfl, H⟩ := hq2
  cases E3
  refine ew_if_eq (tgt := 14) dX7_readLine_6 (by decide) (fun c5 => ?_) (fun c5 => ?_)
  · replace H := H.1 c5
    refine ew_aload_n dX7_readLine_14 rfl lm0 ?_
    refine ew_ldcS (i := 1) dX7_readLine_15 lm5 ?_
    refine ew_callV (d := d + 9) (as := [aR (some (9, 13, 1))]) rfl dX7_readLine_17 me_isWord rfl (ci := 1) rfl rfl (mh_o _ _) (Or.inl q1615) q1617 qs61 (Nat.le_of_ble_eq_true rfl) (Nat.le_refl 0) (Nat.le_refl 0) (S_isWord (d := d + 3) H) (fun o h' hq7 _ => ?_) (fun E i h' q _ => (mQi_no q).elim)
    obtain ⟨r9, s6, E8, rfl, H⟩ := hq7
    cases E8
    refine ew_if_eq (tgt := 28) dX7_readLine_20 (by decide) (fun c10 => ?_) (fun c10 => ?_)
    · replace H := H.1 c10
      refine ew_aload_n dX7_readLine_28 rfl lm0 ?_
      refine ew_ldcS (i := 2) dX7_readLine_29 lm6 ?_
      refine ew_callV (d := d + 9) (as := [aR (some (9, 13, 2))]) rfl dX7_readLine_31 me_isWord rfl (ci := 1) rfl rfl (mh_o _ _) (Or.inl q1615) q1617 qs61 (Nat.le_of_ble_eq_true rfl) (Nat.le_refl 0) (Nat.le_refl 0) (S_isWord (d := d + 3) H) (fun o h' hq12 _ => ?_) (fun E i h' q _ => (mQi_no q).elim)
      obtain ⟨r14, s11, E13, rfl, H⟩ := hq12
      cases E13
      refine ew_if_eq (tgt := 45) dX7_readLine_34 (by decide) (fun c15 => ?_) (fun c15 => ?_)
      · replace H := H.1 c15
        refine ew_aload_n dX7_readLine_45 rfl lm0 ?_
        refine ew_ldcS (i := 3) dX7_readLine_46 lm7 ?_
        refine ew_callV (d := d + 9) (as := [aR (some (9, 13, 3))]) rfl dX7_readLine_48 me_isWord rfl (ci := 1) rfl rfl (mh_o _ _) (Or.inl q1615) q1617 qs61 (Nat.le_of_ble_eq_true rfl) (Nat.le_refl 0) (Nat.le_refl 0) (S_isWord (d := d + 3) H) (fun o h' hq17 _ => ?_) (fun E i h' q _ => (mQi_no q).elim)
        obtain ⟨r19, s16, E18, rfl, H⟩ := hq17
        cases E18
        refine ew_if_eq (tgt := 62) dX7_readLine_51 (by decide) (fun c20 => ?_) (fun c20 => ?_)
        · replace H := H.1 c20
          refine ew_aload_n dX7_readLine_62 rfl lm0 ?_
          refine ew_iconst dX7_readLine_63 (inI_of rfl) ?_
          refine ew_callV (d := d + 9) (as := [aI 1]) rfl dX7_readLine_64 me_errs rfl (ci := 1) rfl rfl (mh_o _ _) (Or.inl q1625) q1627 qs63 (Nat.le_of_ble_eq_true rfl) (Nat.le_refl 0) (Nat.le_refl 0) (S_errs (d := d + 9) H) (fun o h' hq22 _ => ?_) (fun E i h' q _ => (mQi_no q).elim)
          obtain ⟨r24, s21, E23, rfl, H⟩ := hq22
          cases E23
          obtain ⟨v25, H⟩ := H
          exact ew_ret (o := some (aI r24)) rfl ⟨_, _, rfl, rfl, H⟩ ⟨dX7_readLine_67, .boolean, rfl, Or.inr (Or.inl rfl), by rcases v25 with z | z <;> rw [z] <;> decide⟩
        · replace H := H.2 c20
          refine ew_aload_n dX7_readLine_54 rfl lm0 ?_
          refine ew_iconst dX7_readLine_55 (inI_of rfl) ?_
          refine ew_callV (d := d + 9) (as := [aI 0]) rfl dX7_readLine_56 me_readPair rfl (ci := 1) rfl rfl (mh_o _ _) (Or.inl q1660) q1662 qs71 (Nat.le_of_ble_eq_true rfl) (Nat.le_refl 0) (Nat.le_refl 0) (S_readPair (d := d + 1) H) (fun o h' hq27 _ => ?_) (fun E i h' q _ => (mQi_no q).elim)
          obtain ⟨r29, s26, E28, rfl, H⟩ := hq27
          cases E28
          refine ew_goto (tgt := 67) dX7_readLine_59 (by decide) ?_
          obtain ⟨v30, H⟩ := H
          exact ew_ret (o := some (aI r29)) rfl ⟨_, _, rfl, rfl, H⟩ ⟨dX7_readLine_67, .boolean, rfl, Or.inr (Or.inl rfl), by rcases v30 with z | z <;> rw [z] <;> decide⟩
      · replace H := H.2 c15
        refine ew_aload_n dX7_readLine_37 rfl lm0 ?_
        refine ew_iconst dX7_readLine_38 (inI_of rfl) ?_
        refine ew_callV (d := d + 9) (as := [aI 1]) rfl dX7_readLine_39 me_readPair rfl (ci := 1) rfl rfl (mh_o _ _) (Or.inl q1660) q1662 qs71 (Nat.le_of_ble_eq_true rfl) (Nat.le_refl 0) (Nat.le_refl 0) (S_readPair (d := d + 1) H) (fun o h' hq32 _ => ?_) (fun E i h' q _ => (mQi_no q).elim)
        obtain ⟨r34, s31, E33, rfl, H⟩ := hq32
        cases E33
        refine ew_goto (tgt := 67) dX7_readLine_42 (by decide) ?_
        obtain ⟨v35, H⟩ := H
        exact ew_ret (o := some (aI r34)) rfl ⟨_, _, rfl, rfl, H⟩ ⟨dX7_readLine_67, .boolean, rfl, Or.inr (Or.inl rfl), by rcases v35 with z | z <;> rw [z] <;> decide⟩
    · replace H := H.2 c10
      refine ew_aload_n dX7_readLine_23 rfl lm0 ?_
      refine ew_callV (d := d + 9) (as := []) rfl dX7_readLine_24 me_readTerm rfl (ci := 1) rfl rfl (mh_o _ _) (Or.inl q1652) q1654 qs69 (Nat.le_of_ble_eq_true rfl) (Nat.le_refl 0) (Nat.le_refl 0) (S_readTerm (d := d + 0) H) (fun o h' hq37 _ => ?_) (fun E i h' q _ => (mQi_no q).elim)
      obtain ⟨r39, s36, E38, rfl, H⟩ := hq37
      cases E38
      obtain ⟨v40, H⟩ := H
      exact ew_ret (o := some (aI r39)) rfl ⟨_, _, rfl, rfl, H⟩ ⟨dX7_readLine_27, .boolean, rfl, Or.inr (Or.inl rfl), by rcases v40 with z | z <;> rw [z] <;> decide⟩
  · replace H := H.2 c5
    refine ew_aload_n dX7_readLine_9 rfl lm0 ?_
    refine ew_callV (d := d + 9) (as := []) rfl dX7_readLine_10 me_readFun rfl (ci := 1) rfl rfl (mh_o _ _) (Or.inl q1621) q1623 qs62 (Nat.le_of_ble_eq_true rfl) (Nat.le_refl 0) (Nat.le_refl 0) (S_readFun (d := d + 1) H) (fun o h' hq42 _ => ?_) (fun E i h' q _ => (mQi_no q).elim)
    obtain ⟨r44, s41, E43, rfl, H⟩ := hq42
    cases E43
    obtain ⟨v45, H⟩ := H
    exact ew_ret (o := some (aI r44)) rfl ⟨_, _, rfl, rfl, H⟩ ⟨dX7_readLine_13, .boolean, rfl, Or.inr (Or.inl rfl), by rcases v45 with z | z <;> rw [z] <;> decide⟩
def C_readLine  (s0 : MS) (K : Int → MS → Prop) : Prop := B_readLine_E  K  s0
theorem S_readLine {d : Nat} {g : AH} {K : Int → MS → Prop}  {s0 : MS} (H : C_readLine  s0 K) : Sp mm_readLine (d + 10) 0 0 [aR (some mT)] (mh s0 g) (mQi g K) :=
  ew_sp rfl (Nat.le_of_ble_eq_true rfl) (T_readLine_E d g K  s0 (H  ))
abbrev mm_readAll : EM := (yX7_readAll, cX7_readAll, 2, some .boolean, [])
theorem me_readAll : e_mth mm_readAll 1 := ⟨rfl, q1601, q117, by decide +kernel, by decide⟩
def B_readAll_48 (X48 : MS → Prop) (K : Int → MS → Prop)  (s0 : MS) : Prop :=
  (((s0.1 16) = 59 → (C_goesOn s0 (fun s8 => (C_readLine s8 (fun r14 s11 => ((r14 = 0 → K 0 s11) ∧ (¬ r14 = 0 → X48 s11))))))) ∧ (¬ (s0.1 16) = 59 → (((s0.1 16) = 0 → K 1 s0) ∧ (¬ (s0.1 16) = 0 → (C_errs 1 s0 (fun r6 s3 => ((r6 = 0 → K 0 s3) ∧ (¬ r6 = 0 → K 1 s3))))))))
def B_readAll_E (X48 : MS → Prop) (K : Int → MS → Prop) (a : Int) (s0 : MS) : Prop :=
  (∀ s1 : MS, s1 = ms s0 13 a → (∀ s3 : MS, s3 = ms s1 15 0 → (∀ s5 : MS, s5 = ms s3 20 0 → (∀ s7 : MS, s7 = ms s5 21 0 → (∀ s9 : MS, s9 = ms s7 22 0 → (∀ s11 : MS, s11 = ms s9 23 0 → (∀ s13 : MS, s13 = ms s11 24 0 → (C_goesOn s13 (fun s15 => (C_readLine s15 (fun r21 s18 => ((r21 = 0 → K 0 s18) ∧ (¬ r21 = 0 → X48 s18)))))))))))))
def W_readAll_48 (d : Nat) (g : AH) (K : Int → MS → Prop)  (s0 : MS) : Prop := EW mm_readAll (d + 11) 0 0 (mQi g K) 48 [(0, aR (some mT))] [] (mh s0 g)
set_option maxHeartbeats 4000000 in
theorem T_readAll_48 (d : Nat) (g : AH) (K : Int → MS → Prop)  (s0 : MS) (H : B_readAll_48 (W_readAll_48 d g K) K  s0) : EW mm_readAll (d + 11) 0 0 (mQi g K) 48 [(0, aR (some mT))] [] (mh s0 g) := by
  refine ew_aload_n dX7_readAll_48 rfl lm0 ?_
  refine mw_gI dX7_readAll_49 (e_fl.a q1422) mf_16 rfl ?_
  refine ew_bipush dX7_readAll_52 (inI_of rfl) (by decide) ?_
  refine ew_icmp_ne (tgt := 70) dX7_readAll_54 (by decide) (fun c1 => ?_) (fun c1 => ?_)
  · replace H := H.2 c1
    refine ew_aload_n dX7_readAll_70 rfl lm0 ?_
    refine mw_gI dX7_readAll_71 (e_fl.a q1422) mf_16 rfl ?_
    refine ew_if_eq (tgt := 85) dX7_readAll_74 (by decide) (fun c2 => ?_) (fun c2 => ?_)
    · replace H := H.1 c2
      refine ew_iconst dX7_readAll_85 (inI_of rfl) ?_
      refine ew_goto (tgt := 90) dX7_readAll_86 (by decide) ?_
      exact ew_ret (o := some (aI 1)) rfl ⟨_, _, rfl, rfl, H⟩ ⟨dX7_readAll_90, .boolean, rfl, Or.inr (Or.inl rfl), by decide⟩
    · replace H := H.2 c2
      refine ew_aload_n dX7_readAll_77 rfl lm0 ?_
      refine ew_iconst dX7_readAll_78 (inI_of rfl) ?_
      refine ew_callV (d := d + 10) (as := [aI 1]) rfl dX7_readAll_79 me_errs rfl (ci := 1) rfl rfl (mh_o _ _) (Or.inl q1625) q1627 qs63 (Nat.le_of_ble_eq_true rfl) (Nat.le_refl 0) (Nat.le_refl 0) (S_errs (d := d + 10) H) (fun o h' hq4 _ => ?_) (fun E i h' q _ => (mQi_no q).elim)
      obtain ⟨r6, s3, E5, rfl, H⟩ := hq4
      cases E5
      refine ew_if_eq (tgt := 89) dX7_readAll_82 (by decide) (fun c7 => ?_) (fun c7 => ?_)
      · replace H := H.1 c7
        refine ew_iconst dX7_readAll_89 (inI_of rfl) ?_
        exact ew_ret (o := some (aI 0)) rfl ⟨_, _, rfl, rfl, H⟩ ⟨dX7_readAll_90, .boolean, rfl, Or.inr (Or.inl rfl), by decide⟩
      · replace H := H.2 c7
        refine ew_iconst dX7_readAll_85 (inI_of rfl) ?_
        refine ew_goto (tgt := 90) dX7_readAll_86 (by decide) ?_
        exact ew_ret (o := some (aI 1)) rfl ⟨_, _, rfl, rfl, H⟩ ⟨dX7_readAll_90, .boolean, rfl, Or.inr (Or.inl rfl), by decide⟩
  · replace H := H.1 c1
    refine ew_aload_n dX7_readAll_57 rfl lm0 ?_
    refine ew_callV (d := d + 10) (as := []) rfl dX7_readAll_58 me_goesOn rfl (ci := 1) rfl rfl (mh_o _ _) (Or.inl q1602) q1604 qs58 (Nat.le_of_ble_eq_true rfl) (Nat.le_refl 0) (Nat.le_refl 0) (S_goesOn (d := d + 9) H) (fun o h' hq9 _ => ?_) (fun E i h' q _ => (mQ_no q).elim)
    obtain ⟨s8, E10, rfl, H⟩ := hq9
    cases E10
    refine ew_aload_n dX7_readAll_61 rfl lm0 ?_
    refine ew_callV (d := d + 10) (as := []) rfl dX7_readAll_62 me_readLine rfl (ci := 1) rfl rfl (mh_o _ _) (Or.inl q1610) q1612 qs60 (Nat.le_of_ble_eq_true rfl) (Nat.le_refl 0) (Nat.le_refl 0) (S_readLine (d := d + 0) H) (fun o h' hq12 _ => ?_) (fun E i h' q _ => (mQi_no q).elim)
    obtain ⟨r14, s11, E13, rfl, H⟩ := hq12
    cases E13
    refine ew_if_ne (tgt := 48) dX7_readAll_65 (by decide) (fun c15 => ?_) (fun c15 => ?_)
    · replace H := H.2 c15
      exact ew_sub (List.forall_mem_cons.mpr ⟨lm0, e_nm⟩) H
    · replace H := H.1 c15
      refine ew_iconst dX7_readAll_68 (inI_of rfl) ?_
      exact ew_ret (o := some (aI 0)) rfl ⟨_, _, rfl, rfl, H⟩ ⟨dX7_readAll_69, .boolean, rfl, Or.inr (Or.inl rfl), by decide⟩
set_option maxHeartbeats 4000000 in
theorem T_readAll_E (d : Nat) (g : AH) (K : Int → MS → Prop) (a : Int) (s0 : MS) (H : B_readAll_E (W_readAll_48 d g K) K a s0) : EW mm_readAll (d + 11) 0 0 (mQi g K) 0 [(0, aR (some mT)), (1, aI a)] [] (mh s0 g) := by
  refine ew_aload_n dX7_readAll_0 rfl lm0 ?_
  refine ew_iload_n dX7_readAll_1 rfl lm1 ?_
  refine mw_pI dX7_readAll_2 (e_fl.a q1419) mf_13 (Or.inl rfl) (ty := .int) (by decide +kernel) trivial (fun s1 e2 => ?_)
  replace H := H s1 e2
  refine ew_aload_n dX7_readAll_5 rfl lm0 ?_
  refine ew_iconst dX7_readAll_6 (inI_of rfl) ?_
  refine mw_pI dX7_readAll_7 (e_fl.a q1421) mf_15 (Or.inl rfl) (ty := .int) (by decide +kernel) trivial (fun s3 e4 => ?_)
  replace H := H s3 e4
  refine ew_aload_n dX7_readAll_10 rfl lm0 ?_
  refine ew_iconst dX7_readAll_11 (inI_of rfl) ?_
  refine mw_pI dX7_readAll_12 (e_fl.a q1426) mf_20 (Or.inl rfl) (ty := .int) (by decide +kernel) trivial (fun s5 e6 => ?_)
  replace H := H s5 e6
  refine ew_aload_n dX7_readAll_15 rfl lm0 ?_
  refine ew_iconst dX7_readAll_16 (inI_of rfl) ?_
  refine mw_pI dX7_readAll_17 (e_fl.a q1427) mf_21 (Or.inl rfl) (ty := .int) (by decide +kernel) trivial (fun s7 e8 => ?_)
  replace H := H s7 e8
  refine ew_aload_n dX7_readAll_20 rfl lm0 ?_
  refine ew_iconst dX7_readAll_21 (inI_of rfl) ?_
  refine mw_pI dX7_readAll_22 (e_fl.a q1428) mf_22 (Or.inl rfl) (ty := .int) (by decide +kernel) trivial (fun s9 e10 => ?_)
  replace H := H s9 e10
  refine ew_aload_n dX7_readAll_25 rfl lm0 ?_
  refine ew_iconst dX7_readAll_26 (inI_of rfl) ?_
  refine mw_pI dX7_readAll_27 (e_fl.a q1429) mf_23 (Or.inl rfl) (ty := .int) (by decide +kernel) trivial (fun s11 e12 => ?_)
  replace H := H s11 e12
  refine ew_aload_n dX7_readAll_30 rfl lm0 ?_
  refine ew_iconst dX7_readAll_31 (inI_of rfl) ?_
  refine mw_pI dX7_readAll_32 (e_fl.a q1430) mf_24 (Or.inl rfl) (ty := .int) (by decide +kernel) trivial (fun s13 e14 => ?_)
  replace H := H s13 e14
  refine ew_aload_n dX7_readAll_35 rfl lm0 ?_
  refine ew_callV (d := d + 10) (as := []) rfl dX7_readAll_36 me_goesOn rfl (ci := 1) rfl rfl (mh_o _ _) (Or.inl q1602) q1604 qs58 (Nat.le_of_ble_eq_true rfl) (Nat.le_refl 0) (Nat.le_refl 0) (S_goesOn (d := d + 9) H) (fun o h' hq16 _ => ?_) (fun E i h' q _ => (mQ_no q).elim)
  obtain ⟨s15, E17, rfl, H⟩ := hq16
  cases E17
  refine ew_aload_n dX7_readAll_39 rfl lm0 ?_
  refine ew_callV (d := d + 10) (as := []) rfl dX7_readAll_40 me_readLine rfl (ci := 1) rfl rfl (mh_o _ _) (Or.inl q1610) q1612 qs60 (Nat.le_of_ble_eq_true rfl) (Nat.le_refl 0) (Nat.le_refl 0) (S_readLine (d := d + 0) H) (fun o h' hq19 _ => ?_) (fun E i h' q _ => (mQi_no q).elim)
  obtain ⟨r21, s18, E20, rfl, H⟩ := hq19
  cases E20
  refine ew_if_ne (tgt := 48) dX7_readAll_43 (by decide) (fun c22 => ?_) (fun c22 => ?_)
  · replace H := H.2 c22
    exact ew_sub (List.forall_mem_cons.mpr ⟨lm0, e_nm⟩) H
  · replace H := H.1 c22
    refine ew_iconst dX7_readAll_46 (inI_of rfl) ?_
    exact ew_ret (o := some (aI 0)) rfl ⟨_, _, rfl, rfl, H⟩ ⟨dX7_readAll_47, .boolean, rfl, Or.inr (Or.inl rfl), by decide⟩
def C_readAll (a : Int) (s0 : MS) (K : Int → MS → Prop) : Prop := ∀ (X48 : MS → Prop), (∀  (s0 : MS), B_readAll_48 X48 K  s0 → X48  s0) → B_readAll_E X48 K a s0
theorem S_readAll {d : Nat} {g : AH} {K : Int → MS → Prop} {a : Int} {s0 : MS} (H : C_readAll a s0 K) : Sp mm_readAll (d + 11) 0 0 [aR (some mT), aI a] (mh s0 g) (mQi g K) :=
  ew_sp rfl (Nat.le_of_ble_eq_true rfl) (T_readAll_E d g K a s0 (H _ (fun  s0 H => T_readAll_48 d g K  s0 H)))
abbrev mm_no : EM := (yX7_no, cX7_no, 2, some .int, [])
theorem me_no : e_mth mm_no 1 := ⟨rfl, q1667, q117, by decide +kernel, by decide⟩
def B_no_E  (K : Int → MS → Prop) (a : Int) (s0 : MS) : Prop :=
  (∀ s1 : MS, s1 = ms s0 1 a → K (-1) s1)
set_option maxHeartbeats 4000000 in
theorem T_no_E (d : Nat) (g : AH) (K : Int → MS → Prop) (a : Int) (s0 : MS) (H : B_no_E  K a s0) : EW mm_no (d + 0) 0 0 (mQi g K) 0 [(0, aR (some mT)), (1, aI a)] [] (mh s0 g) := by
  refine ew_aload_n dX7_no_0 rfl lm0 ?_
  refine ew_iload_n dX7_no_1 rfl lm1 ?_
  refine mw_pI dX7_no_2 (e_fl.a q1407) mf_1 (Or.inl rfl) (ty := .int) (by decide +kernel) trivial (fun s1 e2 => ?_)
  replace H := H s1 e2
  refine ew_iconst dX7_no_5 (inI_of rfl) ?_
  exact ew_ret (o := some (aI (-1))) rfl ⟨_, _, rfl, rfl, H⟩ ⟨dX7_no_6, .int, rfl, Or.inl rfl, rfl⟩
def C_no (a : Int) (s0 : MS) (K : Int → MS → Prop) : Prop := B_no_E  K a s0
theorem S_no {d : Nat} {g : AH} {K : Int → MS → Prop} {a : Int} {s0 : MS} (H : C_no a s0 K) : Sp mm_no (d + 0) 0 0 [aR (some mT), aI a] (mh s0 g) (mQi g K) :=
  ew_sp rfl (Nat.le_of_ble_eq_true rfl) (T_no_E d g K a s0 (H  ))
abbrev mm_takesOf : EM := (yX7_takesOf, cX7_takesOf, 2, some .int, [])
theorem me_takesOf : e_mth mm_takesOf 1 := ⟨rfl, q1695, q117, by decide +kernel, by decide⟩
def B_takesOf_E  (K : Int → MS → Prop) (a : Int) (s0 : MS) : Prop :=
  ((0 ≤ a ∧ a < 24) ∧ ((0 ≤ (s0.2 28 a) ∧ (s0.2 28 a) < 16) ∧ K (s0.2 7 (s0.2 28 a)) s0))
set_option maxHeartbeats 4000000 in
theorem T_takesOf_E (d : Nat) (g : AH) (K : Int → MS → Prop) (a : Int) (s0 : MS) (H : B_takesOf_E  K a s0) : EW mm_takesOf (d + 0) 0 0 (mQi g K) 0 [(0, aR (some mT)), (1, aI a)] [] (mh s0 g) := by
  refine ew_aload_n dX7_takesOf_0 rfl lm0 ?_
  refine mw_gA dX7_takesOf_1 (e_fl.a q1413) mf_7 rfl ?_
  refine ew_aload_n dX7_takesOf_4 rfl lm0 ?_
  refine mw_gA dX7_takesOf_5 (e_fl.a q1434) mf_28 rfl ?_
  refine ew_iload_n dX7_takesOf_8 rfl lm1 ?_
  obtain ⟨v1, H⟩ := H
  refine mw_iald dX7_takesOf_9 rfl v1.1 v1.2 ?_
  obtain ⟨v2, H⟩ := H
  refine mw_iald dX7_takesOf_10 rfl v2.1 v2.2 ?_
  exact ew_ret (o := some (aI (s0.2 7 (s0.2 28 a)))) rfl ⟨_, _, rfl, rfl, H⟩ ⟨dX7_takesOf_11, .int, rfl, Or.inl rfl, rfl⟩
def C_takesOf (a : Int) (s0 : MS) (K : Int → MS → Prop) : Prop := B_takesOf_E  K a s0
theorem S_takesOf {d : Nat} {g : AH} {K : Int → MS → Prop} {a : Int} {s0 : MS} (H : C_takesOf a s0 K) : Sp mm_takesOf (d + 0) 0 0 [aR (some mT), aI a] (mh s0 g) (mQi g K) :=
  ew_sp rfl (Nat.le_of_ble_eq_true rfl) (T_takesOf_E d g K a s0 (H  ))
abbrev mm_isAlike : EM := (yX7_isAlike, cX7_isAlike, 5, some .boolean, [])
theorem me_isAlike : e_mth mm_isAlike 3 := ⟨rfl, q1691, q117, by decide +kernel, by decide⟩
def B_isAlike_20 (X20 : Nat → Int → Int → Int → MS → Prop) (K : Int → MS → Prop) (x1 : Nat) (x2 : Int) (x3 : Int) (x4 : Int) (s0 : MS) : Prop :=
  (C_takesOf x2 s0 (fun r4 s1 => ((r4 ≤ x4 → K 1 s1) ∧ (¬ r4 ≤ x4 → ((inI (3 * x2)) ∧ ((inI ((3 * x2) + x4)) ∧ ((0 ≤ ((3 * x2) + x4) ∧ ((3 * x2) + x4) < 72) ∧ ((mK x1 = 1 ∧ 0 ≤ (s1.2 29 ((3 * x2) + x4)) ∧ (s1.2 29 ((3 * x2) + x4)) < (mL x1 : Int)) ∧ ((inI (3 * x3)) ∧ ((inI ((3 * x3) + x4)) ∧ ((0 ≤ ((3 * x3) + x4) ∧ ((3 * x3) + x4) < 72) ∧ ((mK x1 = 1 ∧ 0 ≤ (s1.2 29 ((3 * x3) + x4)) ∧ (s1.2 29 ((3 * x3) + x4)) < (mL x1 : Int)) ∧ (((s1.2 x1 (s1.2 29 ((3 * x2) + x4))) = (s1.2 x1 (s1.2 29 ((3 * x3) + x4))) → (inI (x4 + 1) ∧ X20 x1 x2 x3 (x4 + 1) s1)) ∧ (¬ (s1.2 x1 (s1.2 29 ((3 * x2) + x4))) = (s1.2 x1 (s1.2 29 ((3 * x3) + x4))) → K 0 s1))))))))))))))
def B_isAlike_E (X20 : Nat → Int → Int → Int → MS → Prop) (K : Int → MS → Prop) (a : Nat) (b : Int) (c : Int) (s0 : MS) : Prop :=
  ((0 ≤ b ∧ b < 24) ∧ ((0 ≤ c ∧ c < 24) ∧ (((s0.2 28 b) = (s0.2 28 c) → X20 a b c 0 s0) ∧ (¬ (s0.2 28 b) = (s0.2 28 c) → K 0 s0))))
def W_isAlike_20 (d : Nat) (g : AH) (K : Int → MS → Prop) (x1 : Nat) (x2 : Int) (x3 : Int) (x4 : Int) (s0 : MS) : Prop := EW mm_isAlike (d + 1) 0 0 (mQi g K) 20 [(0, aR (some mT)), (1, aR (some (0, 1, x1))), (2, aI x2), (3, aI x3), (4, aI x4)] [] (mh s0 g)
set_option maxHeartbeats 4000000 in
theorem T_isAlike_20 (d : Nat) (g : AH) (K : Int → MS → Prop) (x1 : Nat) (x2 : Int) (x3 : Int) (x4 : Int) (s0 : MS) (H : B_isAlike_20 (W_isAlike_20 d g K) K x1 x2 x3 x4 s0) : EW mm_isAlike (d + 1) 0 0 (mQi g K) 20 [(0, aR (some mT)), (1, aR (some (0, 1, x1))), (2, aI x2), (3, aI x3), (4, aI x4)] [] (mh s0 g) := by
  refine ew_iload dX7_isAlike_20 lm4 ?_
  refine ew_aload_n dX7_isAlike_22 rfl lm0 ?_
  refine ew_iload_n dX7_isAlike_23 rfl lm2 ?_
  refine ew_callV (d := d + 0) (as := [aI x2]) rfl dX7_isAlike_24 me_takesOf rfl (ci := 1) rfl rfl (mh_o _ _) (Or.inl q1692) q1694 qs79 (Nat.le_of_ble_eq_true rfl) (Nat.le_refl 0) (Nat.le_refl 0) (S_takesOf (d := d + 0) H) (fun o h' hq2 _ => ?_) (fun E i h' q _ => (mQi_no q).elim)
  obtain ⟨r4, s1, E3, rfl, H⟩ := hq2
  cases E3
  refine ew_icmp_ge (tgt := 67) dX7_isAlike_27 (by decide) (fun c5 => ?_) (fun c5 => ?_)
  · replace H := H.1 c5
    refine ew_iconst dX7_isAlike_67 (inI_of rfl) ?_
    exact ew_ret (o := some (aI 1)) rfl ⟨_, _, rfl, rfl, H⟩ ⟨dX7_isAlike_68, .boolean, rfl, Or.inr (Or.inl rfl), by decide⟩
  · replace H := H.2 c5
    refine ew_aload_n dX7_isAlike_30 rfl lm1 ?_
    refine ew_aload_n dX7_isAlike_31 rfl lm0 ?_
    refine mw_gA dX7_isAlike_32 (e_fl.a q1435) mf_29 rfl ?_
    refine ew_iconst dX7_isAlike_35 (inI_of rfl) ?_
    refine ew_iload_n dX7_isAlike_36 rfl lm2 ?_
    obtain ⟨v6, H⟩ := H
    refine ew_imul dX7_isAlike_37 v6 ?_
    refine ew_iload dX7_isAlike_38 lm4 ?_
    obtain ⟨v7, H⟩ := H
    refine ew_iadd dX7_isAlike_40 v7 ?_
    obtain ⟨v8, H⟩ := H
    refine mw_iald dX7_isAlike_41 rfl v8.1 v8.2 ?_
    obtain ⟨v9, H⟩ := H
    refine mw_iald dX7_isAlike_42 v9.1 v9.2.1 v9.2.2 ?_
    refine ew_aload_n dX7_isAlike_43 rfl lm1 ?_
    refine ew_aload_n dX7_isAlike_44 rfl lm0 ?_
    refine mw_gA dX7_isAlike_45 (e_fl.a q1435) mf_29 rfl ?_
    refine ew_iconst dX7_isAlike_48 (inI_of rfl) ?_
    refine ew_iload_n dX7_isAlike_49 rfl lm3 ?_
    obtain ⟨v10, H⟩ := H
    refine ew_imul dX7_isAlike_50 v10 ?_
    refine ew_iload dX7_isAlike_51 lm4 ?_
    obtain ⟨v11, H⟩ := H
    refine ew_iadd dX7_isAlike_53 v11 ?_
    obtain ⟨v12, H⟩ := H
    refine mw_iald dX7_isAlike_54 rfl v12.1 v12.2 ?_
    obtain ⟨v13, H⟩ := H
    refine mw_iald dX7_isAlike_55 v13.1 v13.2.1 v13.2.2 ?_
    refine ew_icmp_eq (tgt := 61) dX7_isAlike_56 (by decide) (fun c14 => ?_) (fun c14 => ?_)
    · replace H := H.1 c14
      obtain ⟨v15, H⟩ := H
      refine ew_iinc dX7_isAlike_61 lm4 (by decide) v15 (lv' := [(4, aI (x4 + 1)), (0, aR (some mT)), (1, aR (some (0, 1, x1))), (2, aI x2), (3, aI x3)]) rfl ?_
      refine ew_sub (List.forall_mem_cons.mpr ⟨lm1, (List.forall_mem_cons.mpr ⟨lm2, (List.forall_mem_cons.mpr ⟨lm3, (List.forall_mem_cons.mpr ⟨lm4, (List.forall_mem_cons.mpr ⟨lm0, e_nm⟩)⟩)⟩)⟩)⟩) ?_
      refine ew_goto (tgt := 20) dX7_isAlike_64 (by decide) ?_
      exact ew_sub (List.forall_mem_cons.mpr ⟨lm0, (List.forall_mem_cons.mpr ⟨lm1, (List.forall_mem_cons.mpr ⟨lm2, (List.forall_mem_cons.mpr ⟨lm3, (List.forall_mem_cons.mpr ⟨lm4, e_nm⟩)⟩)⟩)⟩)⟩) H
    · replace H := H.2 c14
      refine ew_iconst dX7_isAlike_59 (inI_of rfl) ?_
      exact ew_ret (o := some (aI 0)) rfl ⟨_, _, rfl, rfl, H⟩ ⟨dX7_isAlike_60, .boolean, rfl, Or.inr (Or.inl rfl), by decide⟩
set_option maxHeartbeats 4000000 in
theorem T_isAlike_E (d : Nat) (g : AH) (K : Int → MS → Prop) (a : Nat) (b : Int) (c : Int) (s0 : MS) (H : B_isAlike_E (W_isAlike_20 d g K) K a b c s0) : EW mm_isAlike (d + 1) 0 0 (mQi g K) 0 [(0, aR (some mT)), (1, aR (some (0, 1, a))), (2, aI b), (3, aI c)] [] (mh s0 g) := by
  refine ew_aload_n dX7_isAlike_0 rfl lm0 ?_
  refine mw_gA dX7_isAlike_1 (e_fl.a q1434) mf_28 rfl ?_
  refine ew_iload_n dX7_isAlike_4 rfl lm2 ?_
  obtain ⟨v1, H⟩ := H
  refine mw_iald dX7_isAlike_5 rfl v1.1 v1.2 ?_
  refine ew_aload_n dX7_isAlike_6 rfl lm0 ?_
  refine mw_gA dX7_isAlike_7 (e_fl.a q1434) mf_28 rfl ?_
  refine ew_iload_n dX7_isAlike_10 rfl lm3 ?_
  obtain ⟨v2, H⟩ := H
  refine mw_iald dX7_isAlike_11 rfl v2.1 v2.2 ?_
  refine ew_icmp_eq (tgt := 17) dX7_isAlike_12 (by decide) (fun c3 => ?_) (fun c3 => ?_)
  · replace H := H.1 c3
    refine ew_iconst dX7_isAlike_17 (inI_of rfl) ?_
    refine ew_istore dX7_isAlike_18 (by decide) (lv' := [(4, aI 0), (0, aR (some mT)), (1, aR (some (0, 1, a))), (2, aI b), (3, aI c)]) rfl ?_
    refine ew_sub (List.forall_mem_cons.mpr ⟨lm1, (List.forall_mem_cons.mpr ⟨lm2, (List.forall_mem_cons.mpr ⟨lm3, (List.forall_mem_cons.mpr ⟨lm4, (List.forall_mem_cons.mpr ⟨lm0, e_nm⟩)⟩)⟩)⟩)⟩) ?_
    exact ew_sub (List.forall_mem_cons.mpr ⟨lm0, (List.forall_mem_cons.mpr ⟨lm1, (List.forall_mem_cons.mpr ⟨lm2, (List.forall_mem_cons.mpr ⟨lm3, (List.forall_mem_cons.mpr ⟨lm4, e_nm⟩)⟩)⟩)⟩)⟩) H
  · replace H := H.2 c3
    refine ew_iconst dX7_isAlike_15 (inI_of rfl) ?_
    exact ew_ret (o := some (aI 0)) rfl ⟨_, _, rfl, rfl, H⟩ ⟨dX7_isAlike_16, .boolean, rfl, Or.inr (Or.inl rfl), by decide⟩
def C_isAlike (a : Nat) (b : Int) (c : Int) (s0 : MS) (K : Int → MS → Prop) : Prop := ∀ (X20 : Nat → Int → Int → Int → MS → Prop), (∀ (x1 : Nat) (x2 : Int) (x3 : Int) (x4 : Int) (s0 : MS), B_isAlike_20 X20 K x1 x2 x3 x4 s0 → X20 x1 x2 x3 x4 s0) → B_isAlike_E X20 K a b c s0
theorem S_isAlike {d : Nat} {g : AH} {K : Int → MS → Prop} {a : Nat} {b : Int} {c : Int} {s0 : MS} (H : C_isAlike a b c s0 K) : Sp mm_isAlike (d + 1) 0 0 [aR (some mT), aR (some (0, 1, a)), aI b, aI c] (mh s0 g) (mQi g K) :=
  ew_sp rfl (Nat.le_of_ble_eq_true rfl) (T_isAlike_E d g K a b c s0 (H _ (fun x1 x2 x3 x4 s0 H => T_isAlike_20 d g K x1 x2 x3 x4 s0 H)))
abbrev mm_depthOf : EM := (yX7_depthOf, cX7_depthOf, 4, some .int, [])
theorem me_depthOf : e_mth mm_depthOf 1 := ⟨rfl, q1707, q117, by decide +kernel, by decide⟩
def B_depthOf_4 (X4 : Int → Int → MS → Prop) (K : Int → MS → Prop) (x2 : Int) (x3 : Int) (s0 : MS) : Prop :=
  ((0 ≤ x3 ∧ x3 < 24) ∧ (((s0.2 37 x3) = (-2) → K x2 s0) ∧ (¬ (s0.2 37 x3) = (-2) → (inI (x2 + 1) ∧ ((0 ≤ x3 ∧ x3 < 24) ∧ X4 (x2 + 1) (s0.2 37 x3) s0)))))
def B_depthOf_E (X4 : Int → Int → MS → Prop) (K : Int → MS → Prop) (a : Int) (s0 : MS) : Prop :=
  X4 0 a s0
def W_depthOf_4 (d : Nat) (g : AH) (K : Int → MS → Prop) (x2 : Int) (x3 : Int) (s0 : MS) : Prop := EW mm_depthOf (d + 0) 0 0 (mQi g K) 4 [(0, aR (some mT)), (2, aI x2), (3, aI x3)] [] (mh s0 g)
set_option maxHeartbeats 4000000 in
theorem T_depthOf_4 (d : Nat) (g : AH) (K : Int → MS → Prop) (x2 : Int) (x3 : Int) (s0 : MS) (H : B_depthOf_4 (W_depthOf_4 d g K) K x2 x3 s0) : EW mm_depthOf (d + 0) 0 0 (mQi g K) 4 [(0, aR (some mT)), (2, aI x2), (3, aI x3)] [] (mh s0 g) := by
  refine ew_aload_n dX7_depthOf_4 rfl lm0 ?_
  refine mw_gA dX7_depthOf_5 (e_fl.a q1443) mf_37 rfl ?_
  refine ew_iload_n dX7_depthOf_8 rfl lm2 ?_
  obtain ⟨v1, H⟩ := H
  refine mw_iald dX7_depthOf_9 rfl v1.1 v1.2 ?_
  refine ew_bipush dX7_depthOf_10 (inI_of rfl) (by decide) ?_
  refine ew_icmp_eq (tgt := 28) dX7_depthOf_12 (by decide) (fun c2 => ?_) (fun c2 => ?_)
  · replace H := H.1 c2
    refine ew_iload_n dX7_depthOf_28 rfl lm1 ?_
    exact ew_ret (o := some (aI x2)) rfl ⟨_, _, rfl, rfl, H⟩ ⟨dX7_depthOf_29, .int, rfl, Or.inl rfl, rfl⟩
  · replace H := H.2 c2
    obtain ⟨v3, H⟩ := H
    refine ew_iinc dX7_depthOf_15 lm1 (by decide) v3 (lv' := [(2, aI (x2 + 1)), (0, aR (some mT)), (3, aI x3)]) rfl ?_
    refine ew_sub (List.forall_mem_cons.mpr ⟨lm1, (List.forall_mem_cons.mpr ⟨lm0, (List.forall_mem_cons.mpr ⟨lm2, e_nm⟩)⟩)⟩) ?_
    refine ew_aload_n dX7_depthOf_18 rfl lm0 ?_
    refine mw_gA dX7_depthOf_19 (e_fl.a q1443) mf_37 rfl ?_
    refine ew_iload_n dX7_depthOf_22 rfl lm2 ?_
    obtain ⟨v4, H⟩ := H
    refine mw_iald dX7_depthOf_23 rfl v4.1 v4.2 ?_
    refine ew_istore_n dX7_depthOf_24 rfl (by decide) (lv' := [(3, aI (s0.2 37 x3)), (0, aR (some mT)), (2, aI (x2 + 1))]) rfl ?_
    refine ew_sub (List.forall_mem_cons.mpr ⟨lm1, (List.forall_mem_cons.mpr ⟨lm2, (List.forall_mem_cons.mpr ⟨lm0, e_nm⟩)⟩)⟩) ?_
    refine ew_goto (tgt := 4) dX7_depthOf_25 (by decide) ?_
    exact ew_sub (List.forall_mem_cons.mpr ⟨lm0, (List.forall_mem_cons.mpr ⟨lm1, (List.forall_mem_cons.mpr ⟨lm2, e_nm⟩)⟩)⟩) H
set_option maxHeartbeats 4000000 in
theorem T_depthOf_E (d : Nat) (g : AH) (K : Int → MS → Prop) (a : Int) (s0 : MS) (H : B_depthOf_E (W_depthOf_4 d g K) K a s0) : EW mm_depthOf (d + 0) 0 0 (mQi g K) 0 [(0, aR (some mT)), (1, aI a)] [] (mh s0 g) := by
  refine ew_iconst dX7_depthOf_0 (inI_of rfl) ?_
  refine ew_istore_n dX7_depthOf_1 rfl (by decide) (lv' := [(2, aI 0), (0, aR (some mT)), (1, aI a)]) rfl ?_
  refine ew_sub (List.forall_mem_cons.mpr ⟨lm1, (List.forall_mem_cons.mpr ⟨lm2, (List.forall_mem_cons.mpr ⟨lm0, e_nm⟩)⟩)⟩) ?_
  refine ew_iload_n dX7_depthOf_2 rfl lm1 ?_
  refine ew_istore_n dX7_depthOf_3 rfl (by decide) (lv' := [(3, aI a), (0, aR (some mT)), (1, aI a), (2, aI 0)]) rfl ?_
  refine ew_sub (List.forall_mem_cons.mpr ⟨lm1, (List.forall_mem_cons.mpr ⟨lm2, (List.forall_mem_cons.mpr ⟨lm3, (List.forall_mem_cons.mpr ⟨lm0, e_nm⟩)⟩)⟩)⟩) ?_
  exact ew_sub (List.forall_mem_cons.mpr ⟨lm0, (List.forall_mem_cons.mpr ⟨lm2, (List.forall_mem_cons.mpr ⟨lm3, e_nm⟩)⟩)⟩) H
def C_depthOf (a : Int) (s0 : MS) (K : Int → MS → Prop) : Prop := ∀ (X4 : Int → Int → MS → Prop), (∀ (x2 : Int) (x3 : Int) (s0 : MS), B_depthOf_4 X4 K x2 x3 s0 → X4 x2 x3 s0) → B_depthOf_E X4 K a s0
theorem S_depthOf {d : Nat} {g : AH} {K : Int → MS → Prop} {a : Int} {s0 : MS} (H : C_depthOf a s0 K) : Sp mm_depthOf (d + 0) 0 0 [aR (some mT), aI a] (mh s0 g) (mQi g K) :=
  ew_sp rfl (Nat.le_of_ble_eq_true rfl) (T_depthOf_E d g K a s0 (H _ (fun x2 x3 s0 H => T_depthOf_4 d g K x2 x3 s0 H)))
abbrev mm_reasonsOf : EM := (yX7_reasonsOf, cX7_reasonsOf, 6, some .int, [])
theorem me_reasonsOf : e_mth mm_reasonsOf 2 := ⟨rfl, q1703, q117, by decide +kernel, by decide⟩
def B_reasonsOf_8 (X8 : Int → Int → Int → MS → Prop) (K : Int → MS → Prop) (x3 : Int) (x4 : Int) (x5 : Int) (s0 : MS) : Prop :=
  ((x4 = x5 → K x3 s0) ∧ (¬ x4 = x5 → (C_depthOf x4 s0 (fun r5 s2 => (C_depthOf x5 s2 (fun r9 s6 => ((r5 < r9 → ((0 ≤ x5 ∧ x5 < 24) ∧ ((0 ≤ (s6.2 38 x5) ∧ (s6.2 38 x5) < 24) ∧ ((0 ≤ x5 ∧ x5 < 24) ∧ X8 (jor x3 (s6.2 43 (s6.2 38 x5))) x4 (s6.2 37 x5) s6)))) ∧ (¬ r5 < r9 → ((0 ≤ x4 ∧ x4 < 24) ∧ ((0 ≤ (s6.2 38 x4) ∧ (s6.2 38 x4) < 24) ∧ ((0 ≤ x4 ∧ x4 < 24) ∧ X8 (jor x3 (s6.2 43 (s6.2 38 x4))) (s6.2 37 x4) x5 s6)))))))))))
def B_reasonsOf_E (X8 : Int → Int → Int → MS → Prop) (K : Int → MS → Prop) (a : Int) (b : Int) (s0 : MS) : Prop :=
  X8 0 a b s0
def W_reasonsOf_8 (d : Nat) (g : AH) (K : Int → MS → Prop) (x3 : Int) (x4 : Int) (x5 : Int) (s0 : MS) : Prop := EW mm_reasonsOf (d + 1) 0 0 (mQi g K) 8 [(0, aR (some mT)), (3, aI x3), (4, aI x4), (5, aI x5)] [] (mh s0 g)
set_option maxHeartbeats 4000000 in
theorem T_reasonsOf_8 (d : Nat) (g : AH) (K : Int → MS → Prop) (x3 : Int) (x4 : Int) (x5 : Int) (s0 : MS) (H : B_reasonsOf_8 (W_reasonsOf_8 d g K) K x3 x4 x5 s0) : EW mm_reasonsOf (d + 1) 0 0 (mQi g K) 8 [(0, aR (some mT)), (3, aI x3), (4, aI x4), (5, aI x5)] [] (mh s0 g) := by
  refine ew_iload dX7_reasonsOf_8 lm2 ?_
  refine ew_iload dX7_reasonsOf_10 lm3 ?_
  refine ew_icmp_eq (tgt := 84) dX7_reasonsOf_12 (by decide) (fun c1 => ?_) (fun c1 => ?_)
  · replace H := H.1 c1
    refine ew_iload_n dX7_reasonsOf_84 rfl lm1 ?_
    exact ew_ret (o := some (aI x3)) rfl ⟨_, _, rfl, rfl, H⟩ ⟨dX7_reasonsOf_85, .int, rfl, Or.inl rfl, rfl⟩
  · replace H := H.2 c1
    refine ew_aload_n dX7_reasonsOf_15 rfl lm0 ?_
    refine ew_iload dX7_reasonsOf_16 lm2 ?_
    refine ew_callV (d := d + 0) (as := [aI x4]) rfl dX7_reasonsOf_18 me_depthOf rfl (ci := 1) rfl rfl (mh_o _ _) (Or.inl q1704) q1706 qs82 (Nat.le_of_ble_eq_true rfl) (Nat.le_refl 0) (Nat.le_refl 0) (S_depthOf (d := d + 0) H) (fun o h' hq3 _ => ?_) (fun E i h' q _ => (mQi_no q).elim)
    obtain ⟨r5, s2, E4, rfl, H⟩ := hq3
    cases E4
    refine ew_aload_n dX7_reasonsOf_21 rfl lm0 ?_
    refine ew_iload dX7_reasonsOf_22 lm3 ?_
    refine ew_callV (d := d + 0) (as := [aI x5]) rfl dX7_reasonsOf_24 me_depthOf rfl (ci := 1) rfl rfl (mh_o _ _) (Or.inl q1704) q1706 qs82 (Nat.le_of_ble_eq_true rfl) (Nat.le_refl 0) (Nat.le_refl 0) (S_depthOf (d := d + 0) H) (fun o h' hq7 _ => ?_) (fun E i h' q _ => (mQi_no q).elim)
    obtain ⟨r9, s6, E8, rfl, H⟩ := hq7
    cases E8
    refine ew_icmp_lt (tgt := 57) dX7_reasonsOf_27 (by decide) (fun c10 => ?_) (fun c10 => ?_)
    · replace H := H.1 c10
      refine ew_iload_n dX7_reasonsOf_57 rfl lm1 ?_
      refine ew_aload_n dX7_reasonsOf_58 rfl lm0 ?_
      refine mw_gA dX7_reasonsOf_59 (e_fl.a q1449) mf_43 rfl ?_
      refine ew_aload_n dX7_reasonsOf_62 rfl lm0 ?_
      refine mw_gA dX7_reasonsOf_63 (e_fl.a q1444) mf_38 rfl ?_
      refine ew_iload dX7_reasonsOf_66 lm3 ?_
      obtain ⟨v11, H⟩ := H
      refine mw_iald dX7_reasonsOf_68 rfl v11.1 v11.2 ?_
      obtain ⟨v12, H⟩ := H
      refine mw_iald dX7_reasonsOf_69 rfl v12.1 v12.2 ?_
      refine ew_ior dX7_reasonsOf_70 ?_
      refine ew_istore_n dX7_reasonsOf_71 rfl (by decide) (lv' := [(3, aI (jor x3 (s6.2 43 (s6.2 38 x5)))), (0, aR (some mT)), (4, aI x4), (5, aI x5)]) rfl ?_
      refine ew_sub (List.forall_mem_cons.mpr ⟨lm1, (List.forall_mem_cons.mpr ⟨lm0, (List.forall_mem_cons.mpr ⟨lm2, (List.forall_mem_cons.mpr ⟨lm3, e_nm⟩)⟩)⟩)⟩) ?_
      refine ew_aload_n dX7_reasonsOf_72 rfl lm0 ?_
      refine mw_gA dX7_reasonsOf_73 (e_fl.a q1443) mf_37 rfl ?_
      refine ew_iload dX7_reasonsOf_76 lm3 ?_
      obtain ⟨v13, H⟩ := H
      refine mw_iald dX7_reasonsOf_78 rfl v13.1 v13.2 ?_
      refine ew_istore dX7_reasonsOf_79 (by decide) (lv' := [(5, aI (s6.2 37 x5)), (0, aR (some mT)), (3, aI (jor x3 (s6.2 43 (s6.2 38 x5)))), (4, aI x4)]) rfl ?_
      refine ew_sub (List.forall_mem_cons.mpr ⟨lm1, (List.forall_mem_cons.mpr ⟨lm2, (List.forall_mem_cons.mpr ⟨lm3, (List.forall_mem_cons.mpr ⟨lm0, e_nm⟩)⟩)⟩)⟩) ?_
      refine ew_goto (tgt := 8) dX7_reasonsOf_81 (by decide) ?_
      exact ew_sub (List.forall_mem_cons.mpr ⟨lm0, (List.forall_mem_cons.mpr ⟨lm1, (List.forall_mem_cons.mpr ⟨lm2, (List.forall_mem_cons.mpr ⟨lm3, e_nm⟩)⟩)⟩)⟩) H
    · replace H := H.2 c10
      refine ew_iload_n dX7_reasonsOf_30 rfl lm1 ?_
      refine ew_aload_n dX7_reasonsOf_31 rfl lm0 ?_
      refine mw_gA dX7_reasonsOf_32 (e_fl.a q1449) mf_43 rfl ?_
      refine ew_aload_n dX7_reasonsOf_35 rfl lm0 ?_
      refine mw_gA dX7_reasonsOf_36 (e_fl.a q1444) mf_38 rfl ?_
      refine ew_iload dX7_reasonsOf_39 lm2 ?_
      obtain ⟨v14, H⟩ := H
      refine mw_iald dX7_reasonsOf_41 rfl v14.1 v14.2 ?_
      obtain ⟨v15, H⟩ := H
      refine mw_iald dX7_reasonsOf_42 rfl v15.1 v15.2 ?_
      refine ew_ior dX7_reasonsOf_43 ?_
      refine ew_istore_n dX7_reasonsOf_44 rfl (by decide) (lv' := [(3, aI (jor x3 (s6.2 43 (s6.2 38 x4)))), (0, aR (some mT)), (4, aI x4), (5, aI x5)]) rfl ?_
      refine ew_sub (List.forall_mem_cons.mpr ⟨lm1, (List.forall_mem_cons.mpr ⟨lm0, (List.forall_mem_cons.mpr ⟨lm2, (List.forall_mem_cons.mpr ⟨lm3, e_nm⟩)⟩)⟩)⟩) ?_
      refine ew_aload_n dX7_reasonsOf_45 rfl lm0 ?_
      refine mw_gA dX7_reasonsOf_46 (e_fl.a q1443) mf_37 rfl ?_
      refine ew_iload dX7_reasonsOf_49 lm2 ?_
      obtain ⟨v16, H⟩ := H
      refine mw_iald dX7_reasonsOf_51 rfl v16.1 v16.2 ?_
      refine ew_istore dX7_reasonsOf_52 (by decide) (lv' := [(4, aI (s6.2 37 x4)), (0, aR (some mT)), (3, aI (jor x3 (s6.2 43 (s6.2 38 x4)))), (5, aI x5)]) rfl ?_
      refine ew_sub (List.forall_mem_cons.mpr ⟨lm1, (List.forall_mem_cons.mpr ⟨lm2, (List.forall_mem_cons.mpr ⟨lm0, (List.forall_mem_cons.mpr ⟨lm3, e_nm⟩)⟩)⟩)⟩) ?_
      refine ew_goto (tgt := 8) dX7_reasonsOf_54 (by decide) ?_
      exact ew_sub (List.forall_mem_cons.mpr ⟨lm0, (List.forall_mem_cons.mpr ⟨lm1, (List.forall_mem_cons.mpr ⟨lm2, (List.forall_mem_cons.mpr ⟨lm3, e_nm⟩)⟩)⟩)⟩) H
set_option maxHeartbeats 4000000 in
theorem T_reasonsOf_E (d : Nat) (g : AH) (K : Int → MS → Prop) (a : Int) (b : Int) (s0 : MS) (H : B_reasonsOf_E (W_reasonsOf_8 d g K) K a b s0) : EW mm_reasonsOf (d + 1) 0 0 (mQi g K) 0 [(0, aR (some mT)), (1, aI a), (2, aI b)] [] (mh s0 g) := by
  refine ew_iconst dX7_reasonsOf_0 (inI_of rfl) ?_
  refine ew_istore_n dX7_reasonsOf_1 rfl (by decide) (lv' := [(3, aI 0), (0, aR (some mT)), (1, aI a), (2, aI b)]) rfl ?_
  refine ew_sub (List.forall_mem_cons.mpr ⟨lm1, (List.forall_mem_cons.mpr ⟨lm2, (List.forall_mem_cons.mpr ⟨lm3, (List.forall_mem_cons.mpr ⟨lm0, e_nm⟩)⟩)⟩)⟩) ?_
  refine ew_iload_n dX7_reasonsOf_2 rfl lm1 ?_
  refine ew_istore dX7_reasonsOf_3 (by decide) (lv' := [(4, aI a), (0, aR (some mT)), (1, aI a), (2, aI b), (3, aI 0)]) rfl ?_
  refine ew_sub (List.forall_mem_cons.mpr ⟨lm1, (List.forall_mem_cons.mpr ⟨lm2, (List.forall_mem_cons.mpr ⟨lm3, (List.forall_mem_cons.mpr ⟨lm4, (List.forall_mem_cons.mpr ⟨lm0, e_nm⟩)⟩)⟩)⟩)⟩) ?_
  refine ew_iload_n dX7_reasonsOf_5 rfl lm2 ?_
  refine ew_istore dX7_reasonsOf_6 (by decide) (lv' := [(5, aI b), (0, aR (some mT)), (1, aI a), (2, aI b), (3, aI 0), (4, aI a)]) rfl ?_
  refine ew_sub (List.forall_mem_cons.mpr ⟨lm1, (List.forall_mem_cons.mpr ⟨lm2, (List.forall_mem_cons.mpr ⟨lm3, (List.forall_mem_cons.mpr ⟨lm4, (List.forall_mem_cons.mpr ⟨lm5, (List.forall_mem_cons.mpr ⟨lm0, e_nm⟩)⟩)⟩)⟩)⟩)⟩) ?_
  exact ew_sub (List.forall_mem_cons.mpr ⟨lm0, (List.forall_mem_cons.mpr ⟨lm3, (List.forall_mem_cons.mpr ⟨lm4, (List.forall_mem_cons.mpr ⟨lm5, e_nm⟩)⟩)⟩)⟩) H
def C_reasonsOf (a : Int) (b : Int) (s0 : MS) (K : Int → MS → Prop) : Prop := ∀ (X8 : Int → Int → Int → MS → Prop), (∀ (x3 : Int) (x4 : Int) (x5 : Int) (s0 : MS), B_reasonsOf_8 X8 K x3 x4 x5 s0 → X8 x3 x4 x5 s0) → B_reasonsOf_E X8 K a b s0
theorem S_reasonsOf {d : Nat} {g : AH} {K : Int → MS → Prop} {a : Int} {b : Int} {s0 : MS} (H : C_reasonsOf a b s0 K) : Sp mm_reasonsOf (d + 1) 0 0 [aR (some mT), aI a, aI b] (mh s0 g) (mQi g K) :=
  ew_sp rfl (Nat.le_of_ble_eq_true rfl) (T_reasonsOf_E d g K a b s0 (H _ (fun x3 x4 x5 s0 H => T_reasonsOf_8 d g K x3 x4 x5 s0 H)))
abbrev mm_turns : EM := (yX7_turns, cX7_turns, 7, none, [])
theorem me_turns : e_mth mm_turns 1 := ⟨rfl, q1711, q117, by decide +kernel, by decide⟩
def B_turns_8 (X8 : Int → Int → Int → MS → Prop) (K : MS → Prop) (x2 : Int) (x3 : Int) (x4 : Int) (s0 : MS) : Prop :=
  ((x2 = (-2) → K s0) ∧ (¬ x2 = (-2) → ((0 ≤ x2 ∧ x2 < 24) ∧ ((0 ≤ x2 ∧ x2 < 24) ∧ ((0 ≤ x2 ∧ x2 < 24) ∧ ∀ s4 : MS, s4 = ma s0 37 x2 x3 → ((0 ≤ x2 ∧ x2 < 24) ∧ ∀ s7 : MS, s7 = ma s4 38 x2 x4 → X8 (s0.2 37 x2) x2 (s0.2 38 x2) s7))))))
def B_turns_E (X8 : Int → Int → Int → MS → Prop) (K : MS → Prop) (a : Int) (s0 : MS) : Prop :=
  X8 a (-2) (-1) s0
def W_turns_8 (d : Nat) (g : AH) (K : MS → Prop) (x2 : Int) (x3 : Int) (x4 : Int) (s0 : MS) : Prop := EW mm_turns (d + 0) 0 0 (mQ g K) 8 [(0, aR (some mT)), (2, aI x2), (3, aI x3), (4, aI x4)] [] (mh s0 g)
set_option maxHeartbeats 4000000 in
theorem T_turns_8 (d : Nat) (g : AH) (K : MS → Prop) (x2 : Int) (x3 : Int) (x4 : Int) (s0 : MS) (H : B_turns_8 (W_turns_8 d g K) K x2 x3 x4 s0) : EW mm_turns (d + 0) 0 0 (mQ g K) 8 [(0, aR (some mT)), (2, aI x2), (3, aI x3), (4, aI x4)] [] (mh s0 g) := by
  refine ew_iload_n dX7_turns_8 rfl lm1 ?_
  refine ew_bipush dX7_turns_9 (inI_of rfl) (by decide) ?_
  refine ew_icmp_eq (tgt := 57) dX7_turns_11 (by decide) (fun c1 => ?_) (fun c1 => ?_)
  · replace H := H.1 c1
    exact ew_ret (o := none) rfl ⟨_, rfl, rfl, H⟩ ⟨rfl, dX7_turns_57⟩
  · replace H := H.2 c1
    refine ew_aload_n dX7_turns_14 rfl lm0 ?_
    refine mw_gA dX7_turns_15 (e_fl.a q1443) mf_37 rfl ?_
    refine ew_iload_n dX7_turns_18 rfl lm1 ?_
    obtain ⟨v2, H⟩ := H
    refine mw_iald dX7_turns_19 rfl v2.1 v2.2 ?_
    refine ew_istore dX7_turns_20 (by decide) (lv' := [(5, aI (s0.2 37 x2)), (0, aR (some mT)), (2, aI x2), (3, aI x3), (4, aI x4)]) rfl ?_
    refine ew_sub (List.forall_mem_cons.mpr ⟨lm1, (List.forall_mem_cons.mpr ⟨lm2, (List.forall_mem_cons.mpr ⟨lm3, (List.forall_mem_cons.mpr ⟨lm4, (List.forall_mem_cons.mpr ⟨lm0, e_nm⟩)⟩)⟩)⟩)⟩) ?_
    refine ew_aload_n dX7_turns_22 rfl lm0 ?_
    refine mw_gA dX7_turns_23 (e_fl.a q1444) mf_38 rfl ?_
    refine ew_iload_n dX7_turns_26 rfl lm1 ?_
    obtain ⟨v3, H⟩ := H
    refine mw_iald dX7_turns_27 rfl v3.1 v3.2 ?_
    refine ew_istore dX7_turns_28 (by decide) (lv' := [(6, aI (s0.2 38 x2)), (0, aR (some mT)), (2, aI x2), (3, aI x3), (4, aI x4), (5, aI (s0.2 37 x2))]) rfl ?_
    refine ew_sub (List.forall_mem_cons.mpr ⟨lm1, (List.forall_mem_cons.mpr ⟨lm2, (List.forall_mem_cons.mpr ⟨lm3, (List.forall_mem_cons.mpr ⟨lm4, (List.forall_mem_cons.mpr ⟨lm5, (List.forall_mem_cons.mpr ⟨lm0, e_nm⟩)⟩)⟩)⟩)⟩)⟩) ?_
    refine ew_aload_n dX7_turns_30 rfl lm0 ?_
    refine mw_gA dX7_turns_31 (e_fl.a q1443) mf_37 rfl ?_
    refine ew_iload_n dX7_turns_34 rfl lm1 ?_
    refine ew_iload_n dX7_turns_35 rfl lm2 ?_
    obtain ⟨v6, H⟩ := H
    refine mw_iast dX7_turns_36 rfl v6.1 v6.2 (fun s4 e5 => ?_)
    replace H := H s4 e5
    refine ew_aload_n dX7_turns_37 rfl lm0 ?_
    refine mw_gA dX7_turns_38 (e_fl.a q1444) mf_38 rfl ?_
    refine ew_iload_n dX7_turns_41 rfl lm1 ?_
    refine ew_iload dX7_turns_42 lm3 ?_
    obtain ⟨v9, H⟩ := H
    refine mw_iast dX7_turns_44 rfl v9.1 v9.2 (fun s7 e8 => ?_)
    replace H := H s7 e8
    refine ew_iload_n dX7_turns_45 rfl lm1 ?_
    refine ew_istore_n dX7_turns_46 rfl (by decide) (lv' := [(3, aI x2), (0, aR (some mT)), (2, aI x2), (4, aI x4), (5, aI (s0.2 37 x2)), (6, aI (s0.2 38 x2))]) rfl ?_
    refine ew_sub (List.forall_mem_cons.mpr ⟨lm1, (List.forall_mem_cons.mpr ⟨lm2, (List.forall_mem_cons.mpr ⟨lm0, (List.forall_mem_cons.mpr ⟨lm3, (List.forall_mem_cons.mpr ⟨lm4, (List.forall_mem_cons.mpr ⟨lm5, e_nm⟩)⟩)⟩)⟩)⟩)⟩) ?_
    refine ew_iload dX7_turns_47 lm5 ?_
    refine ew_istore dX7_turns_49 (by decide) (lv' := [(4, aI (s0.2 38 x2)), (0, aR (some mT)), (2, aI x2), (3, aI x2), (5, aI (s0.2 37 x2)), (6, aI (s0.2 38 x2))]) rfl ?_
    refine ew_sub (List.forall_mem_cons.mpr ⟨lm1, (List.forall_mem_cons.mpr ⟨lm2, (List.forall_mem_cons.mpr ⟨lm3, (List.forall_mem_cons.mpr ⟨lm0, (List.forall_mem_cons.mpr ⟨lm4, (List.forall_mem_cons.mpr ⟨lm5, e_nm⟩)⟩)⟩)⟩)⟩)⟩) ?_
    refine ew_iload dX7_turns_51 lm4 ?_
    refine ew_istore_n dX7_turns_53 rfl (by decide) (lv' := [(2, aI (s0.2 37 x2)), (0, aR (some mT)), (3, aI x2), (4, aI (s0.2 38 x2)), (5, aI (s0.2 37 x2)), (6, aI (s0.2 38 x2))]) rfl ?_
    refine ew_sub (List.forall_mem_cons.mpr ⟨lm1, (List.forall_mem_cons.mpr ⟨lm0, (List.forall_mem_cons.mpr ⟨lm2, (List.forall_mem_cons.mpr ⟨lm3, (List.forall_mem_cons.mpr ⟨lm4, (List.forall_mem_cons.mpr ⟨lm5, e_nm⟩)⟩)⟩)⟩)⟩)⟩) ?_
    refine ew_goto (tgt := 8) dX7_turns_54 (by decide) ?_
    exact ew_sub (List.forall_mem_cons.mpr ⟨lm0, (List.forall_mem_cons.mpr ⟨lm1, (List.forall_mem_cons.mpr ⟨lm2, (List.forall_mem_cons.mpr ⟨lm3, e_nm⟩)⟩)⟩)⟩) H
set_option maxHeartbeats 4000000 in
theorem T_turns_E (d : Nat) (g : AH) (K : MS → Prop) (a : Int) (s0 : MS) (H : B_turns_E (W_turns_8 d g K) K a s0) : EW mm_turns (d + 0) 0 0 (mQ g K) 0 [(0, aR (some mT)), (1, aI a)] [] (mh s0 g) := by
  refine ew_iload_n dX7_turns_0 rfl lm1 ?_
  refine ew_istore_n dX7_turns_1 rfl (by decide) (lv' := [(2, aI a), (0, aR (some mT)), (1, aI a)]) rfl ?_
  refine ew_sub (List.forall_mem_cons.mpr ⟨lm1, (List.forall_mem_cons.mpr ⟨lm2, (List.forall_mem_cons.mpr ⟨lm0, e_nm⟩)⟩)⟩) ?_
  refine ew_bipush dX7_turns_2 (inI_of rfl) (by decide) ?_
  refine ew_istore_n dX7_turns_4 rfl (by decide) (lv' := [(3, aI (-2)), (0, aR (some mT)), (1, aI a), (2, aI a)]) rfl ?_
  refine ew_sub (List.forall_mem_cons.mpr ⟨lm1, (List.forall_mem_cons.mpr ⟨lm2, (List.forall_mem_cons.mpr ⟨lm3, (List.forall_mem_cons.mpr ⟨lm0, e_nm⟩)⟩)⟩)⟩) ?_
  refine ew_iconst dX7_turns_5 (inI_of rfl) ?_
  refine ew_istore dX7_turns_6 (by decide) (lv' := [(4, aI (-1)), (0, aR (some mT)), (1, aI a), (2, aI a), (3, aI (-2))]) rfl ?_
  refine ew_sub (List.forall_mem_cons.mpr ⟨lm1, (List.forall_mem_cons.mpr ⟨lm2, (List.forall_mem_cons.mpr ⟨lm3, (List.forall_mem_cons.mpr ⟨lm4, (List.forall_mem_cons.mpr ⟨lm0, e_nm⟩)⟩)⟩)⟩)⟩) ?_
  exact ew_sub (List.forall_mem_cons.mpr ⟨lm0, (List.forall_mem_cons.mpr ⟨lm2, (List.forall_mem_cons.mpr ⟨lm3, (List.forall_mem_cons.mpr ⟨lm4, e_nm⟩)⟩)⟩)⟩) H
def C_turns (a : Int) (s0 : MS) (K : MS → Prop) : Prop := ∀ (X8 : Int → Int → Int → MS → Prop), (∀ (x2 : Int) (x3 : Int) (x4 : Int) (s0 : MS), B_turns_8 X8 K x2 x3 x4 s0 → X8 x2 x3 x4 s0) → B_turns_E X8 K a s0
theorem S_turns {d : Nat} {g : AH} {K : MS → Prop} {a : Int} {s0 : MS} (H : C_turns a s0 K) : Sp mm_turns (d + 0) 0 0 [aR (some mT), aI a] (mh s0 g) (mQ g K) :=
  ew_sp rfl (Nat.le_of_ble_eq_true rfl) (T_turns_E d g K a s0 (H _ (fun x2 x3 x4 s0 H => T_turns_8 d g K x2 x3 x4 s0 H)))
