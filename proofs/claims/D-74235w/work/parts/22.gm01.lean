set_option maxRecDepth 100000
abbrev mm_isWord : EM := (yX7_isWord, cX7_isWord, 3, some .boolean, [])
theorem me_isWord : e_mth mm_isWord 1 := ⟨rfl, q1618, q117, by decide +kernel, by decide⟩
def B_isWord_28 (X28 : Nat → Int → MS → Prop) (K : Int → MS → Prop) (x1 : Nat) (x2 : Int) (s0 : MS) : Prop :=
  (C_length x1 (fun r1 => ((r1 ≤ x2 → K 1 s0) ∧ (¬ r1 ≤ x2 → ((inI ((s0.1 14) + x2)) ∧ ((0 ≤ ((s0.1 14) + x2) ∧ ((s0.1 14) + x2) < 500) ∧ (C_charAt x1 x2 (fun r5 => (((s0.2 4 ((s0.1 14) + x2)) = r5 → (inI (x2 + 1) ∧ X28 x1 (x2 + 1) s0)) ∧ (¬ (s0.2 4 ((s0.1 14) + x2)) = r5 → K 0 s0))))))))))
def B_isWord_E (X28 : Nat → Int → MS → Prop) (K : Int → MS → Prop) (a : Nat) (s0 : MS) : Prop :=
  (((s0.1 16) = 2 → ((inI ((s0.1 15) - (s0.1 14))) ∧ (C_length a (fun r3 => ((((s0.1 15) - (s0.1 14)) = r3 → X28 a 0 s0) ∧ (¬ ((s0.1 15) - (s0.1 14)) = r3 → K 0 s0)))))) ∧ (¬ (s0.1 16) = 2 → K 0 s0))
def W_isWord_28 (d : Nat) (g : AH) (K : Int → MS → Prop) (x1 : Nat) (x2 : Int) (s0 : MS) : Prop := EW mm_isWord (d + 6) 0 0 (mQi g K) 28 [(0, aR (some mT)), (1, aR (some (9, 13, x1))), (2, aI x2)] [] (mh s0 g)
set_option maxHeartbeats 4000000 in
theorem T_isWord_28 (d : Nat) (g : AH) (K : Int → MS → Prop) (x1 : Nat) (x2 : Int) (s0 : MS) (H : B_isWord_28 (W_isWord_28 d g K) K x1 x2 s0) : EW mm_isWord (d + 6) 0 0 (mQi g K) 28 [(0, aR (some mT)), (1, aR (some (9, 13, x1))), (2, aI x2)] [] (mh s0 g) := by
  refine ew_iload_n dX7_isWord_28 rfl lm2 ?_
  refine ew_aload_n dX7_isWord_29 rfl lm1 ?_
  refine sw_length dX7_isWord_30 q1619 (Nat.le_of_ble_eq_true rfl) H (fun r1 H => ?_)
  refine ew_icmp_ge (tgt := 63) dX7_isWord_33 (by decide) (fun c2 => ?_) (fun c2 => ?_)
  · replace H := H.1 c2
    refine ew_iconst dX7_isWord_63 (inI_of rfl) ?_
    exact ew_ret (o := some (aI 1)) rfl ⟨_, _, rfl, rfl, H⟩ ⟨dX7_isWord_64, .boolean, rfl, Or.inr (Or.inl rfl), by decide⟩
  · replace H := H.2 c2
    refine ew_aload_n dX7_isWord_36 rfl lm0 ?_
    refine mw_gA dX7_isWord_37 (e_fl.a q1410) mf_4 rfl ?_
    refine ew_aload_n dX7_isWord_40 rfl lm0 ?_
    refine mw_gI dX7_isWord_41 (e_fl.a q1420) mf_14 rfl ?_
    refine ew_iload_n dX7_isWord_44 rfl lm2 ?_
    obtain ⟨v3, H⟩ := H
    refine ew_iadd dX7_isWord_45 v3 ?_
    obtain ⟨v4, H⟩ := H
    refine mw_iald dX7_isWord_46 rfl v4.1 v4.2 ?_
    refine ew_aload_n dX7_isWord_47 rfl lm1 ?_
    refine ew_iload_n dX7_isWord_48 rfl lm2 ?_
    refine sw_charAt dX7_isWord_49 q1620 (Nat.le_of_ble_eq_true rfl) H (fun r5 H => ?_)
    refine ew_icmp_eq (tgt := 57) dX7_isWord_52 (by decide) (fun c6 => ?_) (fun c6 => ?_)
    · replace H := H.1 c6
      obtain ⟨v7, H⟩ := H
      refine ew_iinc dX7_isWord_57 lm2 (by decide) v7 (lv' := [(2, aI (x2 + 1)), (0, aR (some mT)), (1, aR (some (9, 13, x1)))]) rfl ?_
      refine ew_sub (List.forall_mem_cons.mpr ⟨lm1, (List.forall_mem_cons.mpr ⟨lm2, (List.forall_mem_cons.mpr ⟨lm0, e_nm⟩)⟩)⟩) ?_
      refine ew_goto (tgt := 28) dX7_isWord_60 (by decide) ?_
      exact ew_sub (List.forall_mem_cons.mpr ⟨lm0, (List.forall_mem_cons.mpr ⟨lm1, (List.forall_mem_cons.mpr ⟨lm2, e_nm⟩)⟩)⟩) H
    · replace H := H.2 c6
      refine ew_iconst dX7_isWord_55 (inI_of rfl) ?_
      exact ew_ret (o := some (aI 0)) rfl ⟨_, _, rfl, rfl, H⟩ ⟨dX7_isWord_56, .boolean, rfl, Or.inr (Or.inl rfl), by decide⟩
set_option maxHeartbeats 4000000 in
theorem T_isWord_E (d : Nat) (g : AH) (K : Int → MS → Prop) (a : Nat) (s0 : MS) (H : B_isWord_E (W_isWord_28 d g K) K a s0) : EW mm_isWord (d + 6) 0 0 (mQi g K) 0 [(0, aR (some mT)), (1, aR (some (9, 13, a)))] [] (mh s0 g) := by
  refine ew_aload_n dX7_isWord_0 rfl lm0 ?_
  refine mw_gI dX7_isWord_1 (e_fl.a q1422) mf_16 rfl ?_
  refine ew_iconst dX7_isWord_4 (inI_of rfl) ?_
  refine ew_icmp_ne (tgt := 24) dX7_isWord_5 (by decide) (fun c1 => ?_) (fun c1 => ?_)
  · replace H := H.2 c1
    refine ew_iconst dX7_isWord_24 (inI_of rfl) ?_
    exact ew_ret (o := some (aI 0)) rfl ⟨_, _, rfl, rfl, H⟩ ⟨dX7_isWord_25, .boolean, rfl, Or.inr (Or.inl rfl), by decide⟩
  · replace H := H.1 c1
    refine ew_aload_n dX7_isWord_8 rfl lm0 ?_
    refine mw_gI dX7_isWord_9 (e_fl.a q1421) mf_15 rfl ?_
    refine ew_aload_n dX7_isWord_12 rfl lm0 ?_
    refine mw_gI dX7_isWord_13 (e_fl.a q1420) mf_14 rfl ?_
    obtain ⟨v2, H⟩ := H
    refine ew_isub dX7_isWord_16 v2 ?_
    refine ew_aload_n dX7_isWord_17 rfl lm1 ?_
    refine sw_length dX7_isWord_18 q1619 (Nat.le_of_ble_eq_true rfl) H (fun r3 H => ?_)
    refine ew_icmp_eq (tgt := 26) dX7_isWord_21 (by decide) (fun c4 => ?_) (fun c4 => ?_)
    · replace H := H.1 c4
      refine ew_iconst dX7_isWord_26 (inI_of rfl) ?_
      refine ew_istore_n dX7_isWord_27 rfl (by decide) (lv' := [(2, aI 0), (0, aR (some mT)), (1, aR (some (9, 13, a)))]) rfl ?_
      refine ew_sub (List.forall_mem_cons.mpr ⟨lm1, (List.forall_mem_cons.mpr ⟨lm2, (List.forall_mem_cons.mpr ⟨lm0, e_nm⟩)⟩)⟩) ?_
      exact ew_sub (List.forall_mem_cons.mpr ⟨lm0, (List.forall_mem_cons.mpr ⟨lm1, (List.forall_mem_cons.mpr ⟨lm2, e_nm⟩)⟩)⟩) H
    · replace H := H.2 c4
      refine ew_iconst dX7_isWord_24 (inI_of rfl) ?_
      exact ew_ret (o := some (aI 0)) rfl ⟨_, _, rfl, rfl, H⟩ ⟨dX7_isWord_25, .boolean, rfl, Or.inr (Or.inl rfl), by decide⟩
def C_isWord (a : Nat) (s0 : MS) (K : Int → MS → Prop) : Prop := ∀ (X28 : Nat → Int → MS → Prop), (∀ (x1 : Nat) (x2 : Int) (s0 : MS), B_isWord_28 X28 K x1 x2 s0 → X28 x1 x2 s0) → B_isWord_E X28 K a s0
theorem S_isWord {d : Nat} {g : AH} {K : Int → MS → Prop} {a : Nat} {s0 : MS} (H : C_isWord a s0 K) : Sp mm_isWord (d + 6) 0 0 [aR (some mT), aR (some (9, 13, a))] (mh s0 g) (mQi g K) :=
  ew_sp rfl (Nat.le_of_ble_eq_true rfl) (T_isWord_E d g K a s0 (H _ (fun x1 x2 s0 H => T_isWord_28 d g K x1 x2 s0 H)))
abbrev mm_errs : EM := (yX7_errs, cX7_errs, 2, some .boolean, [])
theorem me_errs : e_mth mm_errs 1 := ⟨rfl, q1628, q117, by decide +kernel, by decide⟩
def B_errs_E  (K : Int → MS → Prop) (a : Int) (s0 : MS) : Prop :=
  (∀ s1 : MS, s1 = ms s0 18 a → (∀ s3 : MS, s3 = ms s1 19 (s1.1 14) → K 0 s3))
set_option maxHeartbeats 4000000 in
theorem T_errs_E (d : Nat) (g : AH) (K : Int → MS → Prop) (a : Int) (s0 : MS) (H : B_errs_E  K a s0) : EW mm_errs (d + 0) 0 0 (mQi g K) 0 [(0, aR (some mT)), (1, aI a)] [] (mh s0 g) := by
  refine ew_aload_n dX7_errs_0 rfl lm0 ?_
  refine ew_iload_n dX7_errs_1 rfl lm1 ?_
  refine mw_pI dX7_errs_2 (e_fl.a q1424) mf_18 (Or.inl rfl) (ty := .int) (by decide +kernel) trivial (fun s1 e2 => ?_)
  replace H := H s1 e2
  refine ew_aload_n dX7_errs_5 rfl lm0 ?_
  refine ew_aload_n dX7_errs_6 rfl lm0 ?_
  refine mw_gI dX7_errs_7 (e_fl.a q1420) mf_14 rfl ?_
  refine mw_pI dX7_errs_10 (e_fl.a q1425) mf_19 (Or.inl rfl) (ty := .int) (by decide +kernel) trivial (fun s3 e4 => ?_)
  replace H := H s3 e4
  refine ew_iconst dX7_errs_13 (inI_of rfl) ?_
  exact ew_ret (o := some (aI 0)) rfl ⟨_, _, rfl, rfl, H⟩ ⟨dX7_errs_14, .boolean, rfl, Or.inr (Or.inl rfl), by decide⟩
def C_errs (a : Int) (s0 : MS) (K : Int → MS → Prop) : Prop := B_errs_E  K a s0
theorem S_errs {d : Nat} {g : AH} {K : Int → MS → Prop} {a : Int} {s0 : MS} (H : C_errs a s0 K) : Sp mm_errs (d + 0) 0 0 [aR (some mT), aI a] (mh s0 g) (mQi g K) :=
  ew_sp rfl (Nat.le_of_ble_eq_true rfl) (T_errs_E d g K a s0 (H  ))
abbrev mm_isName : EM := (yX7_isName, cX7_isName, 1, some .boolean, [])
theorem me_isName : e_mth mm_isName 0 := ⟨rfl, q1632, q117, by decide +kernel, by decide⟩
def B_isName_E  (K : Int → MS → Prop)  (s0 : MS) : Prop :=
  (((s0.1 16) = 2 → (C_isWord 0 s0 (fun r5 s2 => ((r5 = 0 → (C_isWord 1 s2 (fun r10 s7 => ((r10 = 0 → (C_isWord 2 s7 (fun r15 s12 => ((r15 = 0 → (C_isWord 3 s12 (fun r20 s17 => ((r20 = 0 → K 1 s17) ∧ (¬ r20 = 0 → K 0 s17))))) ∧ (¬ r15 = 0 → K 0 s12))))) ∧ (¬ r10 = 0 → K 0 s7))))) ∧ (¬ r5 = 0 → K 0 s2))))) ∧ (¬ (s0.1 16) = 2 → K 0 s0))
set_option maxHeartbeats 4000000 in
theorem T_isName_E (d : Nat) (g : AH) (K : Int → MS → Prop)  (s0 : MS) (H : B_isName_E  K  s0) : EW mm_isName (d + 7) 0 0 (mQi g K) 0 [(0, aR (some mT))] [] (mh s0 g) := by
  refine ew_aload_n dX7_isName_0 rfl lm0 ?_
  refine mw_gI dX7_isName_1 (e_fl.a q1422) mf_16 rfl ?_
  refine ew_iconst dX7_isName_4 (inI_of rfl) ?_
  refine ew_icmp_ne (tgt := 48) dX7_isName_5 (by decide) (fun c1 => ?_) (fun c1 => ?_)
  · replace H := H.2 c1
    refine ew_iconst dX7_isName_48 (inI_of rfl) ?_
    exact ew_ret (o := some (aI 0)) rfl ⟨_, _, rfl, rfl, H⟩ ⟨dX7_isName_49, .boolean, rfl, Or.inr (Or.inl rfl), by decide⟩
  · replace H := H.1 c1
    refine ew_aload_n dX7_isName_8 rfl lm0 ?_
    refine ew_ldcS (i := 0) dX7_isName_9 lm4 ?_
    refine ew_callV (d := d + 6) (as := [aR (some (9, 13, 0))]) rfl dX7_isName_11 me_isWord rfl (ci := 1) rfl rfl (mh_o _ _) (Or.inl q1615) q1617 qs61 (Nat.le_of_ble_eq_true rfl) (Nat.le_refl 0) (Nat.le_refl 0) (S_isWord (d := d + 0) H) (fun o h' hq3 _ => ?_) (fun E i h' q _ => (mQi_no q).elim)
    obtain ⟨r5, s2, E4, rfl, H⟩ := hq3
    cases E4
    refine ew_if_ne (tgt := 48) dX7_isName_14 (by decide) (fun c6 => ?_) (fun c6 => ?_)
    · replace H := H.2 c6
      refine ew_iconst dX7_isName_48 (inI_of rfl) ?_
      exact ew_ret (o := some (aI 0)) rfl ⟨_, _, rfl, rfl, H⟩ ⟨dX7_isName_49, .boolean, rfl, Or.inr (Or.inl rfl), by decide⟩
    · replace H := H.1 c6
      refine ew_aload_n dX7_isName_17 rfl lm0 ?_
      refine ew_ldcS (i := 1) dX7_isName_18 lm5 ?_
      refine ew_callV (d := d + 6) (as := [aR (some (9, 13, 1))]) rfl dX7_isName_20 me_isWord rfl (ci := 1) rfl rfl (mh_o _ _) (Or.inl q1615) q1617 qs61 (Nat.le_of_ble_eq_true rfl) (Nat.le_refl 0) (Nat.le_refl 0) (S_isWord (d := d + 0) H) (fun o h' hq8 _ => ?_) (fun E i h' q _ => (mQi_no q).elim)
      obtain ⟨r10, s7, E9, rfl, H⟩ := hq8
      cases E9
      refine ew_if_ne (tgt := 48) dX7_isName_23 (by decide) (fun c11 => ?_) (fun c11 => ?_)
      · replace H := H.2 c11
        refine ew_iconst dX7_isName_48 (inI_of rfl) ?_
        exact ew_ret (o := some (aI 0)) rfl ⟨_, _, rfl, rfl, H⟩ ⟨dX7_isName_49, .boolean, rfl, Or.inr (Or.inl rfl), by decide⟩
      · replace H := H.1 c11
        refine ew_aload_n dX7_isName_26 rfl lm0 ?_
        refine ew_ldcS (i := 2) dX7_isName_27 lm6 ?_
        refine ew_callV (d := d + 6) (as := [aR (some (9, 13, 2))]) rfl dX7_isName_29 me_isWord rfl (ci := 1) rfl rfl (mh_o _ _) (Or.inl q1615) q1617 qs61 (Nat.le_of_ble_eq_true rfl) (Nat.le_refl 0) (Nat.le_refl 0) (S_isWord (d := d + 0) H) (fun o h' hq13 _ => ?_) (fun E i h' q _ => (mQi_no q).elim)
        obtain ⟨r15, s12, E14, rfl, H⟩ := hq13
        cases E14
        refine ew_if_ne (tgt := 48) dX7_isName_32 (by decide) (fun c16 => ?_) (fun c16 => ?_)
        · replace H := H.2 c16
          refine ew_iconst dX7_isName_48 (inI_of rfl) ?_
          exact ew_ret (o := some (aI 0)) rfl ⟨_, _, rfl, rfl, H⟩ ⟨dX7_isName_49, .boolean, rfl, Or.inr (Or.inl rfl), by decide⟩
        · replace H := H.1 c16
          refine ew_aload_n dX7_isName_35 rfl lm0 ?_
          refine ew_ldcS (i := 3) dX7_isName_36 lm7 ?_
          refine ew_callV (d := d + 6) (as := [aR (some (9, 13, 3))]) rfl dX7_isName_38 me_isWord rfl (ci := 1) rfl rfl (mh_o _ _) (Or.inl q1615) q1617 qs61 (Nat.le_of_ble_eq_true rfl) (Nat.le_refl 0) (Nat.le_refl 0) (S_isWord (d := d + 0) H) (fun o h' hq18 _ => ?_) (fun E i h' q _ => (mQi_no q).elim)
          obtain ⟨r20, s17, E19, rfl, H⟩ := hq18
          cases E19
          refine ew_if_ne (tgt := 48) dX7_isName_41 (by decide) (fun c21 => ?_) (fun c21 => ?_)
          · replace H := H.2 c21
            refine ew_iconst dX7_isName_48 (inI_of rfl) ?_
            exact ew_ret (o := some (aI 0)) rfl ⟨_, _, rfl, rfl, H⟩ ⟨dX7_isName_49, .boolean, rfl, Or.inr (Or.inl rfl), by decide⟩
          · replace H := H.1 c21
            refine ew_iconst dX7_isName_44 (inI_of rfl) ?_
            refine ew_goto (tgt := 49) dX7_isName_45 (by decide) ?_
            exact ew_ret (o := some (aI 1)) rfl ⟨_, _, rfl, rfl, H⟩ ⟨dX7_isName_49, .boolean, rfl, Or.inr (Or.inl rfl), by decide⟩
def C_isName  (s0 : MS) (K : Int → MS → Prop) : Prop := B_isName_E  K  s0
theorem S_isName {d : Nat} {g : AH} {K : Int → MS → Prop}  {s0 : MS} (H : C_isName  s0 K) : Sp mm_isName (d + 7) 0 0 [aR (some mT)] (mh s0 g) (mQi g K) :=
  ew_sp rfl (Nat.le_of_ble_eq_true rfl) (T_isName_E d g K  s0 (H  ))
abbrev mm_isAt : EM := (yX7_isAt, cX7_isAt, 7, some .boolean, [])
theorem me_isAt : e_mth mm_isAt 4 := ⟨rfl, q1643, q117, by decide +kernel, by decide⟩
def B_isAt_6 (X6 : Nat → Int → Int → Int → Int → Int → MS → Prop) (K : Int → MS → Prop) (x1 : Nat) (x2 : Int) (x3 : Int) (x4 : Int) (x5 : Int) (x6 : Int) (s0 : MS) : Prop :=
  ((6 ≤ x6 → ((x5 = 0 → K 0 s0) ∧ (¬ x5 = 0 → ((inI (x4 - x3)) ∧ ((6 < (x4 - x3) → K 0 s0) ∧ (¬ 6 < (x4 - x3) → K 1 s0)))))) ∧ (¬ 6 ≤ x6 → ((x5 = 0 → (inI (x6 + 1) ∧ X6 x1 x2 x3 x4 0 (x6 + 1) s0)) ∧ (¬ x5 = 0 → ((inI (x2 + x6)) ∧ ((mK x1 = 1 ∧ 0 ≤ (x2 + x6) ∧ (x2 + x6) < (mL x1 : Int)) ∧ ((inI (x3 + x6)) ∧ ((x4 ≤ (x3 + x6) → (((s0.2 x1 (x2 + x6)) = 0 → ((inI (x3 + x6)) ∧ ((x4 ≤ (x3 + x6) → (inI (x6 + 1) ∧ X6 x1 x2 x3 x4 1 (x6 + 1) s0)) ∧ (¬ x4 ≤ (x3 + x6) → ((inI (x3 + x6)) ∧ ((0 ≤ (x3 + x6) ∧ (x3 + x6) < 500) ∧ (((s0.2 4 (x3 + x6)) = 0 → (inI (x6 + 1) ∧ X6 x1 x2 x3 x4 0 (x6 + 1) s0)) ∧ (¬ (s0.2 4 (x3 + x6)) = 0 → (inI (x6 + 1) ∧ X6 x1 x2 x3 x4 1 (x6 + 1) s0))))))))) ∧ (¬ (s0.2 x1 (x2 + x6)) = 0 → (inI (x6 + 1) ∧ X6 x1 x2 x3 x4 0 (x6 + 1) s0)))) ∧ (¬ x4 ≤ (x3 + x6) → ((inI (x3 + x6)) ∧ ((0 ≤ (x3 + x6) ∧ (x3 + x6) < 500) ∧ (((s0.2 x1 (x2 + x6)) = (s0.2 4 (x3 + x6)) → ((inI (x3 + x6)) ∧ ((x4 ≤ (x3 + x6) → (inI (x6 + 1) ∧ X6 x1 x2 x3 x4 1 (x6 + 1) s0)) ∧ (¬ x4 ≤ (x3 + x6) → ((inI (x3 + x6)) ∧ ((0 ≤ (x3 + x6) ∧ (x3 + x6) < 500) ∧ (((s0.2 4 (x3 + x6)) = 0 → (inI (x6 + 1) ∧ X6 x1 x2 x3 x4 0 (x6 + 1) s0)) ∧ (¬ (s0.2 4 (x3 + x6)) = 0 → (inI (x6 + 1) ∧ X6 x1 x2 x3 x4 1 (x6 + 1) s0))))))))) ∧ (¬ (s0.2 x1 (x2 + x6)) = (s0.2 4 (x3 + x6)) → (inI (x6 + 1) ∧ X6 x1 x2 x3 x4 0 (x6 + 1) s0))))))))))))))
def B_isAt_E (X6 : Nat → Int → Int → Int → Int → Int → MS → Prop) (K : Int → MS → Prop) (a : Nat) (b : Int) (c : Int) (e : Int) (s0 : MS) : Prop :=
  X6 a b c e 1 0 s0
def W_isAt_6 (d : Nat) (g : AH) (K : Int → MS → Prop) (x1 : Nat) (x2 : Int) (x3 : Int) (x4 : Int) (x5 : Int) (x6 : Int) (s0 : MS) : Prop := EW mm_isAt (d + 0) 0 0 (mQi g K) 6 [(0, aR (some mT)), (1, aR (some (0, 1, x1))), (2, aI x2), (3, aI x3), (4, aI x4), (5, aI x5), (6, aI x6)] [] (mh s0 g)
set_option maxHeartbeats 4000000 in
theorem T_isAt_6 (d : Nat) (g : AH) (K : Int → MS → Prop) (x1 : Nat) (x2 : Int) (x3 : Int) (x4 : Int) (x5 : Int) (x6 : Int) (s0 : MS) (H : B_isAt_6 (W_isAt_6 d g K) K x1 x2 x3 x4 x5 x6 s0) : EW mm_isAt (d + 0) 0 0 (mQi g K) 6 [(0, aR (some mT)), (1, aR (some (0, 1, x1))), (2, aI x2), (3, aI x3), (4, aI x4), (5, aI x5), (6, aI x6)] [] (mh s0 g) := by
  refine ew_iload dX7_isAt_6 lm6 ?_
  refine ew_bipush dX7_isAt_8 (inI_of rfl) (by decide) ?_
  refine ew_icmp_ge (tgt := 83) dX7_isAt_10 (by decide) (fun c1 => ?_) (fun c1 => ?_)
  · replace H := H.1 c1
    refine ew_iload dX7_isAt_83 lm5 ?_
    refine ew_if_eq (tgt := 101) dX7_isAt_85 (by decide) (fun c2 => ?_) (fun c2 => ?_)
    · replace H := H.1 c2
      refine ew_iconst dX7_isAt_101 (inI_of rfl) ?_
      exact ew_ret (o := some (aI 0)) rfl ⟨_, _, rfl, rfl, H⟩ ⟨dX7_isAt_102, .boolean, rfl, Or.inr (Or.inl rfl), by decide⟩
    · replace H := H.2 c2
      refine ew_iload dX7_isAt_88 lm4 ?_
      refine ew_iload_n dX7_isAt_90 rfl lm3 ?_
      obtain ⟨v3, H⟩ := H
      refine ew_isub dX7_isAt_91 v3 ?_
      refine ew_bipush dX7_isAt_92 (inI_of rfl) (by decide) ?_
      refine ew_icmp_gt (tgt := 101) dX7_isAt_94 (by decide) (fun c4 => ?_) (fun c4 => ?_)
      · replace H := H.1 c4
        refine ew_iconst dX7_isAt_101 (inI_of rfl) ?_
        exact ew_ret (o := some (aI 0)) rfl ⟨_, _, rfl, rfl, H⟩ ⟨dX7_isAt_102, .boolean, rfl, Or.inr (Or.inl rfl), by decide⟩
      · replace H := H.2 c4
        refine ew_iconst dX7_isAt_97 (inI_of rfl) ?_
        refine ew_goto (tgt := 102) dX7_isAt_98 (by decide) ?_
        exact ew_ret (o := some (aI 1)) rfl ⟨_, _, rfl, rfl, H⟩ ⟨dX7_isAt_102, .boolean, rfl, Or.inr (Or.inl rfl), by decide⟩
  · replace H := H.2 c1
    refine ew_iload dX7_isAt_13 lm5 ?_
    refine ew_if_eq (tgt := 74) dX7_isAt_15 (by decide) (fun c5 => ?_) (fun c5 => ?_)
    · replace H := H.1 c5
      refine ew_iconst dX7_isAt_74 (inI_of rfl) ?_
      refine ew_istore dX7_isAt_75 (by decide) (lv' := [(5, aI 0), (0, aR (some mT)), (1, aR (some (0, 1, x1))), (2, aI x2), (3, aI x3), (4, aI x4), (6, aI x6)]) rfl ?_
      refine ew_sub (List.forall_mem_cons.mpr ⟨lm1, (List.forall_mem_cons.mpr ⟨lm2, (List.forall_mem_cons.mpr ⟨lm3, (List.forall_mem_cons.mpr ⟨lm4, (List.forall_mem_cons.mpr ⟨lm5, (List.forall_mem_cons.mpr ⟨lm0, (List.forall_mem_cons.mpr ⟨lm6, e_nm⟩)⟩)⟩)⟩)⟩)⟩)⟩) ?_
      obtain ⟨v6, H⟩ := H
      refine ew_iinc dX7_isAt_77 lm6 (by decide) v6 (lv' := [(6, aI (x6 + 1)), (0, aR (some mT)), (1, aR (some (0, 1, x1))), (2, aI x2), (3, aI x3), (4, aI x4), (5, aI 0)]) rfl ?_
      refine ew_sub (List.forall_mem_cons.mpr ⟨lm1, (List.forall_mem_cons.mpr ⟨lm2, (List.forall_mem_cons.mpr ⟨lm3, (List.forall_mem_cons.mpr ⟨lm4, (List.forall_mem_cons.mpr ⟨lm5, (List.forall_mem_cons.mpr ⟨lm6, (List.forall_mem_cons.mpr ⟨lm0, e_nm⟩)⟩)⟩)⟩)⟩)⟩)⟩) ?_
      refine ew_goto (tgt := 6) dX7_isAt_80 (by decide) ?_
      exact ew_sub (List.forall_mem_cons.mpr ⟨lm0, (List.forall_mem_cons.mpr ⟨lm1, (List.forall_mem_cons.mpr ⟨lm2, (List.forall_mem_cons.mpr ⟨lm3, (List.forall_mem_cons.mpr ⟨lm4, (List.forall_mem_cons.mpr ⟨lm5, (List.forall_mem_cons.mpr ⟨lm6, e_nm⟩)⟩)⟩)⟩)⟩)⟩)⟩) H
    · replace H := H.2 c5
      refine ew_aload_n dX7_isAt_18 rfl lm1 ?_
      refine ew_iload_n dX7_isAt_19 rfl lm2 ?_
      refine ew_iload dX7_isAt_20 lm6 ?_
      obtain ⟨v7, H⟩ := H
      refine ew_iadd dX7_isAt_22 v7 ?_
      obtain ⟨v8, H⟩ := H
      refine mw_iald dX7_isAt_23 v8.1 v8.2.1 v8.2.2 ?_
      refine ew_iload_n dX7_isAt_24 rfl lm3 ?_
      refine ew_iload dX7_isAt_25 lm6 ?_
      obtain ⟨v9, H⟩ := H
      refine ew_iadd dX7_isAt_27 v9 ?_
      refine ew_iload dX7_isAt_28 lm4 ?_
      refine ew_icmp_ge (tgt := 45) dX7_isAt_30 (by decide) (fun c10 => ?_) (fun c10 => ?_)
      · replace H := H.1 c10
        refine ew_iconst dX7_isAt_45 (inI_of rfl) ?_
        refine ew_icmp_ne (tgt := 74) dX7_isAt_46 (by decide) (fun c11 => ?_) (fun c11 => ?_)
        · replace H := H.2 c11
          refine ew_iconst dX7_isAt_74 (inI_of rfl) ?_
          refine ew_istore dX7_isAt_75 (by decide) (lv' := [(5, aI 0), (0, aR (some mT)), (1, aR (some (0, 1, x1))), (2, aI x2), (3, aI x3), (4, aI x4), (6, aI x6)]) rfl ?_
          refine ew_sub (List.forall_mem_cons.mpr ⟨lm1, (List.forall_mem_cons.mpr ⟨lm2, (List.forall_mem_cons.mpr ⟨lm3, (List.forall_mem_cons.mpr ⟨lm4, (List.forall_mem_cons.mpr ⟨lm5, (List.forall_mem_cons.mpr ⟨lm0, (List.forall_mem_cons.mpr ⟨lm6, e_nm⟩)⟩)⟩)⟩)⟩)⟩)⟩) ?_
          obtain ⟨v12, H⟩ := H
          refine ew_iinc dX7_isAt_77 lm6 (by decide) v12 (lv' := [(6, aI (x6 + 1)), (0, aR (some mT)), (1, aR (some (0, 1, x1))), (2, aI x2), (3, aI x3), (4, aI x4), (5, aI 0)]) rfl ?_
          refine ew_sub (List.forall_mem_cons.mpr ⟨lm1, (List.forall_mem_cons.mpr ⟨lm2, (List.forall_mem_cons.mpr ⟨lm3, (List.forall_mem_cons.mpr ⟨lm4, (List.forall_mem_cons.mpr ⟨lm5, (List.forall_mem_cons.mpr ⟨lm6, (List.forall_mem_cons.mpr ⟨lm0, e_nm⟩)⟩)⟩)⟩)⟩)⟩)⟩) ?_
          refine ew_goto (tgt := 6) dX7_isAt_80 (by decide) ?_
          exact ew_sub (List.forall_mem_cons.mpr ⟨lm0, (List.forall_mem_cons.mpr ⟨lm1, (List.forall_mem_cons.mpr ⟨lm2, (List.forall_mem_cons.mpr ⟨lm3, (List.forall_mem_cons.mpr ⟨lm4, (List.forall_mem_cons.mpr ⟨lm5, (List.forall_mem_cons.mpr ⟨lm6, e_nm⟩)⟩)⟩)⟩)⟩)⟩)⟩) H
        · replace H := H.1 c11
          refine ew_iload_n dX7_isAt_49 rfl lm3 ?_
          refine ew_iload dX7_isAt_50 lm6 ?_
          obtain ⟨v13, H⟩ := H
          refine ew_iadd dX7_isAt_52 v13 ?_
          refine ew_iload dX7_isAt_53 lm4 ?_
          refine ew_icmp_ge (tgt := 70) dX7_isAt_55 (by decide) (fun c14 => ?_) (fun c14 => ?_)
          · replace H := H.1 c14
            refine ew_iconst dX7_isAt_70 (inI_of rfl) ?_
            refine ew_goto (tgt := 75) dX7_isAt_71 (by decide) ?_
            refine ew_istore dX7_isAt_75 (by decide) (lv' := [(5, aI 1), (0, aR (some mT)), (1, aR (some (0, 1, x1))), (2, aI x2), (3, aI x3), (4, aI x4), (6, aI x6)]) rfl ?_
            refine ew_sub (List.forall_mem_cons.mpr ⟨lm1, (List.forall_mem_cons.mpr ⟨lm2, (List.forall_mem_cons.mpr ⟨lm3, (List.forall_mem_cons.mpr ⟨lm4, (List.forall_mem_cons.mpr ⟨lm5, (List.forall_mem_cons.mpr ⟨lm0, (List.forall_mem_cons.mpr ⟨lm6, e_nm⟩)⟩)⟩)⟩)⟩)⟩)⟩) ?_
            obtain ⟨v15, H⟩ := H
            refine ew_iinc dX7_isAt_77 lm6 (by decide) v15 (lv' := [(6, aI (x6 + 1)), (0, aR (some mT)), (1, aR (some (0, 1, x1))), (2, aI x2), (3, aI x3), (4, aI x4), (5, aI 1)]) rfl ?_
            refine ew_sub (List.forall_mem_cons.mpr ⟨lm1, (List.forall_mem_cons.mpr ⟨lm2, (List.forall_mem_cons.mpr ⟨lm3, (List.forall_mem_cons.mpr ⟨lm4, (List.forall_mem_cons.mpr ⟨lm5, (List.forall_mem_cons.mpr ⟨lm6, (List.forall_mem_cons.mpr ⟨lm0, e_nm⟩)⟩)⟩)⟩)⟩)⟩)⟩) ?_
            refine ew_goto (tgt := 6) dX7_isAt_80 (by decide) ?_
            exact ew_sub (List.forall_mem_cons.mpr ⟨lm0, (List.forall_mem_cons.mpr ⟨lm1, (List.forall_mem_cons.mpr ⟨lm2, (List.forall_mem_cons.mpr ⟨lm3, (List.forall_mem_cons.mpr ⟨lm4, (List.forall_mem_cons.mpr ⟨lm5, (List.forall_mem_cons.mpr ⟨lm6, e_nm⟩)⟩)⟩)⟩)⟩)⟩)⟩) H
          · replace H := H.2 c14
            refine ew_aload_n dX7_isAt_58 rfl lm0 ?_
            refine mw_gA dX7_isAt_59 (e_fl.a q1410) mf_4 rfl ?_
            refine ew_iload_n dX7_isAt_62 rfl lm3 ?_
            refine ew_iload dX7_isAt_63 lm6 ?_
            obtain ⟨v16, H⟩ := H
            refine ew_iadd dX7_isAt_65 v16 ?_
            obtain ⟨v17, H⟩ := H
            refine mw_iald dX7_isAt_66 rfl v17.1 v17.2 ?_
            refine ew_if_eq (tgt := 74) dX7_isAt_67 (by decide) (fun c18 => ?_) (fun c18 => ?_)
            · replace H := H.1 c18
              refine ew_iconst dX7_isAt_74 (inI_of rfl) ?_
              refine ew_istore dX7_isAt_75 (by decide) (lv' := [(5, aI 0), (0, aR (some mT)), (1, aR (some (0, 1, x1))), (2, aI x2), (3, aI x3), (4, aI x4), (6, aI x6)]) rfl ?_
              refine ew_sub (List.forall_mem_cons.mpr ⟨lm1, (List.forall_mem_cons.mpr ⟨lm2, (List.forall_mem_cons.mpr ⟨lm3, (List.forall_mem_cons.mpr ⟨lm4, (List.forall_mem_cons.mpr ⟨lm5, (List.forall_mem_cons.mpr ⟨lm0, (List.forall_mem_cons.mpr ⟨lm6, e_nm⟩)⟩)⟩)⟩)⟩)⟩)⟩) ?_
              obtain ⟨v19, H⟩ := H
              refine ew_iinc dX7_isAt_77 lm6 (by decide) v19 (lv' := [(6, aI (x6 + 1)), (0, aR (some mT)), (1, aR (some (0, 1, x1))), (2, aI x2), (3, aI x3), (4, aI x4), (5, aI 0)]) rfl ?_
              refine ew_sub (List.forall_mem_cons.mpr ⟨lm1, (List.forall_mem_cons.mpr ⟨lm2, (List.forall_mem_cons.mpr ⟨lm3, (List.forall_mem_cons.mpr ⟨lm4, (List.forall_mem_cons.mpr ⟨lm5, (List.forall_mem_cons.mpr ⟨lm6, (List.forall_mem_cons.mpr ⟨lm0, e_nm⟩)⟩)⟩)⟩)⟩)⟩)⟩) ?_
              refine ew_goto (tgt := 6) dX7_isAt_80 (by decide) ?_
              exact ew_sub (List.forall_mem_cons.mpr ⟨lm0, (List.forall_mem_cons.mpr ⟨lm1, (List.forall_mem_cons.mpr ⟨lm2, (List.forall_mem_cons.mpr ⟨lm3, (List.forall_mem_cons.mpr ⟨lm4, (List.forall_mem_cons.mpr ⟨lm5, (List.forall_mem_cons.mpr ⟨lm6, e_nm⟩)⟩)⟩)⟩)⟩)⟩)⟩) H
            · replace H := H.2 c18
              refine ew_iconst dX7_isAt_70 (inI_of rfl) ?_
              refine ew_goto (tgt := 75) dX7_isAt_71 (by decide) ?_
              refine ew_istore dX7_isAt_75 (by decide) (lv' := [(5, aI 1), (0, aR (some mT)), (1, aR (some (0, 1, x1))), (2, aI x2), (3, aI x3), (4, aI x4), (6, aI x6)]) rfl ?_
              refine ew_sub (List.forall_mem_cons.mpr ⟨lm1, (List.forall_mem_cons.mpr ⟨lm2, (List.forall_mem_cons.mpr ⟨lm3, (List.forall_mem_cons.mpr ⟨lm4, (List.forall_mem_cons.mpr ⟨lm5, (List.forall_mem_cons.mpr ⟨lm0, (List.forall_mem_cons.mpr ⟨lm6, e_nm⟩)⟩)⟩)⟩)⟩)⟩)⟩) ?_
              obtain ⟨v20, H⟩ := H
              refine ew_iinc dX7_isAt_77 lm6 (by decide) v20 (lv' := [(6, aI (x6 + 1)), (0, aR (some mT)), (1, aR (some (0, 1, x1))), (2, aI x2), (3, aI x3), (4, aI x4), (5, aI 1)]) rfl ?_
              refine ew_sub (List.forall_mem_cons.mpr ⟨lm1, (List.forall_mem_cons.mpr ⟨lm2, (List.forall_mem_cons.mpr ⟨lm3, (List.forall_mem_cons.mpr ⟨lm4, (List.forall_mem_cons.mpr ⟨lm5, (List.forall_mem_cons.mpr ⟨lm6, (List.forall_mem_cons.mpr ⟨lm0, e_nm⟩)⟩)⟩)⟩)⟩)⟩)⟩) ?_
              refine ew_goto (tgt := 6) dX7_isAt_80 (by decide) ?_
              exact ew_sub (List.forall_mem_cons.mpr ⟨lm0, (List.forall_mem_cons.mpr ⟨lm1, (List.forall_mem_cons.mpr ⟨lm2, (List.forall_mem_cons.mpr ⟨lm3, (List.forall_mem_cons.mpr ⟨lm4, (List.forall_mem_cons.mpr ⟨lm5, (List.forall_mem_cons.mpr ⟨lm6, e_nm⟩)⟩)⟩)⟩)⟩)⟩)⟩) H
      · replace H := H.2 c10
        refine ew_aload_n dX7_isAt_33 rfl lm0 ?_
        refine mw_gA dX7_isAt_34 (e_fl.a q1410) mf_4 rfl ?_
        refine ew_iload_n dX7_isAt_37 rfl lm3 ?_
        refine ew_iload dX7_isAt_38 lm6 ?_
        obtain ⟨v21, H⟩ := H
        refine ew_iadd dX7_isAt_40 v21 ?_
        obtain ⟨v22, H⟩ := H
        refine mw_iald dX7_isAt_41 rfl v22.1 v22.2 ?_
        refine ew_goto (tgt := 46) dX7_isAt_42 (by decide) ?_
        refine ew_icmp_ne (tgt := 74) dX7_isAt_46 (by decide) (fun c23 => ?_) (fun c23 => ?_)
        · replace H := H.2 c23
          refine ew_iconst dX7_isAt_74 (inI_of rfl) ?_
          refine ew_istore dX7_isAt_75 (by decide) (lv' := [(5, aI 0), (0, aR (some mT)), (1, aR (some (0, 1, x1))), (2, aI x2), (3, aI x3), (4, aI x4), (6, aI x6)]) rfl ?_
          refine ew_sub (List.forall_mem_cons.mpr ⟨lm1, (List.forall_mem_cons.mpr ⟨lm2, (List.forall_mem_cons.mpr ⟨lm3, (List.forall_mem_cons.mpr ⟨lm4, (List.forall_mem_cons.mpr ⟨lm5, (List.forall_mem_cons.mpr ⟨lm0, (List.forall_mem_cons.mpr ⟨lm6, e_nm⟩)⟩)⟩)⟩)⟩)⟩)⟩) ?_
          obtain ⟨v24, H⟩ := H
          refine ew_iinc dX7_isAt_77 lm6 (by decide) v24 (lv' := [(6, aI (x6 + 1)), (0, aR (some mT)), (1, aR (some (0, 1, x1))), (2, aI x2), (3, aI x3), (4, aI x4), (5, aI 0)]) rfl ?_
          refine ew_sub (List.forall_mem_cons.mpr ⟨lm1, (List.forall_mem_cons.mpr ⟨lm2, (List.forall_mem_cons.mpr ⟨lm3, (List.forall_mem_cons.mpr ⟨lm4, (List.forall_mem_cons.mpr ⟨lm5, (List.forall_mem_cons.mpr ⟨lm6, (List.forall_mem_cons.mpr ⟨lm0, e_nm⟩)⟩)⟩)⟩)⟩)⟩)⟩) ?_
          refine ew_goto (tgt := 6) dX7_isAt_80 (by decide) ?_
          exact ew_sub (List.forall_mem_cons.mpr ⟨lm0, (List.forall_mem_cons.mpr ⟨lm1, (List.forall_mem_cons.mpr ⟨lm2, (List.forall_mem_cons.mpr ⟨lm3, (List.forall_mem_cons.mpr ⟨lm4, (List.forall_mem_cons.mpr ⟨lm5, (List.forall_mem_cons.mpr ⟨lm6, e_nm⟩)⟩)⟩)⟩)⟩)⟩)⟩) H
        · replace H := H.1 c23
          refine ew_iload_n dX7_isAt_49 rfl lm3 ?_
          refine ew_iload dX7_isAt_50 lm6 ?_
          obtain ⟨v25, H⟩ := H
          refine ew_iadd dX7_isAt_52 v25 ?_
          refine ew_iload dX7_isAt_53 lm4 ?_
          refine ew_icmp_ge (tgt := 70) dX7_isAt_55 (by decide) (fun c26 => ?_) (fun c26 => ?_)
          · replace H := H.1 c26
            refine ew_iconst dX7_isAt_70 (inI_of rfl) ?_
            refine ew_goto (tgt := 75) dX7_isAt_71 (by decide) ?_
            refine ew_istore dX7_isAt_75 (by decide) (lv' := [(5, aI 1), (0, aR (some mT)), (1, aR (some (0, 1, x1))), (2, aI x2), (3, aI x3), (4, aI x4), (6, aI x6)]) rfl ?_
            refine ew_sub (List.forall_mem_cons.mpr ⟨lm1, (List.forall_mem_cons.mpr ⟨lm2, (List.forall_mem_cons.mpr ⟨lm3, (List.forall_mem_cons.mpr ⟨lm4, (List.forall_mem_cons.mpr ⟨lm5, (List.forall_mem_cons.mpr ⟨lm0, (List.forall_mem_cons.mpr ⟨lm6, e_nm⟩)⟩)⟩)⟩)⟩)⟩)⟩) ?_
            obtain ⟨v27, H⟩ := H
            refine ew_iinc dX7_isAt_77 lm6 (by decide) v27 (lv' := [(6, aI (x6 + 1)), (0, aR (some mT)), (1, aR (some (0, 1, x1))), (2, aI x2), (3, aI x3), (4, aI x4), (5, aI 1)]) rfl ?_
            refine ew_sub (List.forall_mem_cons.mpr ⟨lm1, (List.forall_mem_cons.mpr ⟨lm2, (List.forall_mem_cons.mpr ⟨lm3, (List.forall_mem_cons.mpr ⟨lm4, (List.forall_mem_cons.mpr ⟨lm5, (List.forall_mem_cons.mpr ⟨lm6, (List.forall_mem_cons.mpr ⟨lm0, e_nm⟩)⟩)⟩)⟩)⟩)⟩)⟩) ?_
            refine ew_goto (tgt := 6) dX7_isAt_80 (by decide) ?_
            exact ew_sub (List.forall_mem_cons.mpr ⟨lm0, (List.forall_mem_cons.mpr ⟨lm1, (List.forall_mem_cons.mpr ⟨lm2, (List.forall_mem_cons.mpr ⟨lm3, (List.forall_mem_cons.mpr ⟨lm4, (List.forall_mem_cons.mpr ⟨lm5, (List.forall_mem_cons.mpr ⟨lm6, e_nm⟩)⟩)⟩)⟩)⟩)⟩)⟩) H
          · replace H := H.2 c26
            refine ew_aload_n dX7_isAt_58 rfl lm0 ?_
            refine mw_gA dX7_isAt_59 (e_fl.a q1410) mf_4 rfl ?_
            refine ew_iload_n dX7_isAt_62 rfl lm3 ?_
            refine ew_iload dX7_isAt_63 lm6 ?_
            obtain ⟨v28, H⟩ := H
            refine ew_iadd dX7_isAt_65 v28 ?_
            obtain ⟨v29, H⟩ := H
            refine mw_iald dX7_isAt_66 rfl v29.1 v29.2 ?_
            refine ew_if_eq (tgt := 74) dX7_isAt_67 (by decide) (fun c30 => ?_) (fun c30 => ?_)
            · replace H := H.1 c30
              refine ew_iconst dX7_isAt_74 (inI_of rfl) ?_
              refine ew_istore dX7_isAt_75 (by decide) (lv' := [(5, aI 0), (0, aR (some mT)), (1, aR (some (0, 1, x1))), (2, aI x2), (3, aI x3), (4, aI x4), (6, aI x6)]) rfl ?_
              refine ew_sub (List.forall_mem_cons.mpr ⟨lm1, (List.forall_mem_cons.mpr ⟨lm2, (List.forall_mem_cons.mpr ⟨lm3, (List.forall_mem_cons.mpr ⟨lm4, (List.forall_mem_cons.mpr ⟨lm5, (List.forall_mem_cons.mpr ⟨lm0, (List.forall_mem_cons.mpr ⟨lm6, e_nm⟩)⟩)⟩)⟩)⟩)⟩)⟩) ?_
              obtain ⟨v31, H⟩ := H
              refine ew_iinc dX7_isAt_77 lm6 (by decide) v31 (lv' := [(6, aI (x6 + 1)), (0, aR (some mT)), (1, aR (some (0, 1, x1))), (2, aI x2), (3, aI x3), (4, aI x4), (5, aI 0)]) rfl ?_
              refine ew_sub (List.forall_mem_cons.mpr ⟨lm1, (List.forall_mem_cons.mpr ⟨lm2, (List.forall_mem_cons.mpr ⟨lm3, (List.forall_mem_cons.mpr ⟨lm4, (List.forall_mem_cons.mpr ⟨lm5, (List.forall_mem_cons.mpr ⟨lm6, (List.forall_mem_cons.mpr ⟨lm0, e_nm⟩)⟩)⟩)⟩)⟩)⟩)⟩) ?_
              refine ew_goto (tgt := 6) dX7_isAt_80 (by decide) ?_
              exact ew_sub (List.forall_mem_cons.mpr ⟨lm0, (List.forall_mem_cons.mpr ⟨lm1, (List.forall_mem_cons.mpr ⟨lm2, (List.forall_mem_cons.mpr ⟨lm3, (List.forall_mem_cons.mpr ⟨lm4, (List.forall_mem_cons.mpr ⟨lm5, (List.forall_mem_cons.mpr ⟨lm6, e_nm⟩)⟩)⟩)⟩)⟩)⟩)⟩) H
            · replace H := H.2 c30
              refine ew_iconst dX7_isAt_70 (inI_of rfl) ?_
              refine ew_goto (tgt := 75) dX7_isAt_71 (by decide) ?_
              refine ew_istore dX7_isAt_75 (by decide) (lv' := [(5, aI 1), (0, aR (some mT)), (1, aR (some (0, 1, x1))), (2, aI x2), (3, aI x3), (4, aI x4), (6, aI x6)]) rfl ?_
              refine ew_sub (List.forall_mem_cons.mpr ⟨lm1, (List.forall_mem_cons.mpr ⟨lm2, (List.forall_mem_cons.mpr ⟨lm3, (List.forall_mem_cons.mpr ⟨lm4, (List.forall_mem_cons.mpr ⟨lm5, (List.forall_mem_cons.mpr ⟨lm0, (List.forall_mem_cons.mpr ⟨lm6, e_nm⟩)⟩)⟩)⟩)⟩)⟩)⟩) ?_
              obtain ⟨v32, H⟩ := H
              refine ew_iinc dX7_isAt_77 lm6 (by decide) v32 (lv' := [(6, aI (x6 + 1)), (0, aR (some mT)), (1, aR (some (0, 1, x1))), (2, aI x2), (3, aI x3), (4, aI x4), (5, aI 1)]) rfl ?_
              refine ew_sub (List.forall_mem_cons.mpr ⟨lm1, (List.forall_mem_cons.mpr ⟨lm2, (List.forall_mem_cons.mpr ⟨lm3, (List.forall_mem_cons.mpr ⟨lm4, (List.forall_mem_cons.mpr ⟨lm5, (List.forall_mem_cons.mpr ⟨lm6, (List.forall_mem_cons.mpr ⟨lm0, e_nm⟩)⟩)⟩)⟩)⟩)⟩)⟩) ?_
              refine ew_goto (tgt := 6) dX7_isAt_80 (by decide) ?_
              exact ew_sub (List.forall_mem_cons.mpr ⟨lm0, (List.forall_mem_cons.mpr ⟨lm1, (List.forall_mem_cons.mpr ⟨lm2, (List.forall_mem_cons.mpr ⟨lm3, (List.forall_mem_cons.mpr ⟨lm4, (List.forall_mem_cons.mpr ⟨lm5, (List.forall_mem_cons.mpr ⟨lm6, e_nm⟩)⟩)⟩)⟩)⟩)⟩)⟩) H
set_option maxHeartbeats 4000000 in
theorem T_isAt_E (d : Nat) (g : AH) (K : Int → MS → Prop) (a : Nat) (b : Int) (c : Int) (e : Int) (s0 : MS) (H : B_isAt_E (W_isAt_6 d g K) K a b c e s0) : EW mm_isAt (d + 0) 0 0 (mQi g K) 0 [(0, aR (some mT)), (1, aR (some (0, 1, a))), (2, aI b), (3, aI c), (4, aI e)] [] (mh s0 g) := by
  refine ew_iconst dX7_isAt_0 (inI_of rfl) ?_
  refine ew_istore dX7_isAt_1 (by decide) (lv' := [(5, aI 1), (0, aR (some mT)), (1, aR (some (0, 1, a))), (2, aI b), (3, aI c), (4, aI e)]) rfl ?_
  refine ew_sub (List.forall_mem_cons.mpr ⟨lm1, (List.forall_mem_cons.mpr ⟨lm2, (List.forall_mem_cons.mpr ⟨lm3, (List.forall_mem_cons.mpr ⟨lm4, (List.forall_mem_cons.mpr ⟨lm5, (List.forall_mem_cons.mpr ⟨lm0, e_nm⟩)⟩)⟩)⟩)⟩)⟩) ?_
  refine ew_iconst dX7_isAt_3 (inI_of rfl) ?_
  refine ew_istore dX7_isAt_4 (by decide) (lv' := [(6, aI 0), (0, aR (some mT)), (1, aR (some (0, 1, a))), (2, aI b), (3, aI c), (4, aI e), (5, aI 1)]) rfl ?_
  refine ew_sub (List.forall_mem_cons.mpr ⟨lm1, (List.forall_mem_cons.mpr ⟨lm2, (List.forall_mem_cons.mpr ⟨lm3, (List.forall_mem_cons.mpr ⟨lm4, (List.forall_mem_cons.mpr ⟨lm5, (List.forall_mem_cons.mpr ⟨lm6, (List.forall_mem_cons.mpr ⟨lm0, e_nm⟩)⟩)⟩)⟩)⟩)⟩)⟩) ?_
  exact ew_sub (List.forall_mem_cons.mpr ⟨lm0, (List.forall_mem_cons.mpr ⟨lm1, (List.forall_mem_cons.mpr ⟨lm2, (List.forall_mem_cons.mpr ⟨lm3, (List.forall_mem_cons.mpr ⟨lm4, (List.forall_mem_cons.mpr ⟨lm5, (List.forall_mem_cons.mpr ⟨lm6, e_nm⟩)⟩)⟩)⟩)⟩)⟩)⟩) H
def C_isAt (a : Nat) (b : Int) (c : Int) (e : Int) (s0 : MS) (K : Int → MS → Prop) : Prop := ∀ (X6 : Nat → Int → Int → Int → Int → Int → MS → Prop), (∀ (x1 : Nat) (x2 : Int) (x3 : Int) (x4 : Int) (x5 : Int) (x6 : Int) (s0 : MS), B_isAt_6 X6 K x1 x2 x3 x4 x5 x6 s0 → X6 x1 x2 x3 x4 x5 x6 s0) → B_isAt_E X6 K a b c e s0
theorem S_isAt {d : Nat} {g : AH} {K : Int → MS → Prop} {a : Nat} {b : Int} {c : Int} {e : Int} {s0 : MS} (H : C_isAt a b c e s0 K) : Sp mm_isAt (d + 0) 0 0 [aR (some mT), aR (some (0, 1, a)), aI b, aI c, aI e] (mh s0 g) (mQi g K) :=
  ew_sp rfl (Nat.le_of_ble_eq_true rfl) (T_isAt_E d g K a b c e s0 (H _ (fun x1 x2 x3 x4 x5 x6 s0 H => T_isAt_6 d g K x1 x2 x3 x4 x5 x6 s0 H)))
abbrev mm_funHere : EM := (yX7_funHere, cX7_funHere, 2, some .int, [])
theorem me_funHere : e_mth mm_funHere 0 := ⟨rfl, q1639, q117, by decide +kernel, by decide⟩
def B_funHere_2 (X2 : Int → MS → Prop) (K : Int → MS → Prop) (x1 : Int) (s0 : MS) : Prop :=
  (((s0.1 20) ≤ x1 → K (-1) s0) ∧ (¬ (s0.1 20) ≤ x1 → ((inI (6 * x1)) ∧ (C_isAt 25 (6 * x1) (s0.1 14) (s0.1 15) s0 (fun r6 s3 => ((r6 = 0 → (inI (x1 + 1) ∧ X2 (x1 + 1) s3)) ∧ (¬ r6 = 0 → K x1 s3)))))))
def B_funHere_E (X2 : Int → MS → Prop) (K : Int → MS → Prop)  (s0 : MS) : Prop :=
  X2 0 s0
def W_funHere_2 (d : Nat) (g : AH) (K : Int → MS → Prop) (x1 : Int) (s0 : MS) : Prop := EW mm_funHere (d + 1) 0 0 (mQi g K) 2 [(0, aR (some mT)), (1, aI x1)] [] (mh s0 g)
set_option maxHeartbeats 4000000 in
theorem T_funHere_2 (d : Nat) (g : AH) (K : Int → MS → Prop) (x1 : Int) (s0 : MS) (H : B_funHere_2 (W_funHere_2 d g K) K x1 s0) : EW mm_funHere (d + 1) 0 0 (mQi g K) 2 [(0, aR (some mT)), (1, aI x1)] [] (mh s0 g) := by
  refine ew_iload_n dX7_funHere_2 rfl lm1 ?_
  refine ew_aload_n dX7_funHere_3 rfl lm0 ?_
  refine mw_gI dX7_funHere_4 (e_fl.a q1426) mf_20 rfl ?_
  refine ew_icmp_ge (tgt := 41) dX7_funHere_7 (by decide) (fun c1 => ?_) (fun c1 => ?_)
  · replace H := H.1 c1
    refine ew_iconst dX7_funHere_41 (inI_of rfl) ?_
    exact ew_ret (o := some (aI (-1))) rfl ⟨_, _, rfl, rfl, H⟩ ⟨dX7_funHere_42, .int, rfl, Or.inl rfl, rfl⟩
  · replace H := H.2 c1
    refine ew_aload_n dX7_funHere_10 rfl lm0 ?_
    refine ew_aload_n dX7_funHere_11 rfl lm0 ?_
    refine mw_gA dX7_funHere_12 (e_fl.a q1431) mf_25 rfl ?_
    refine ew_bipush dX7_funHere_15 (inI_of rfl) (by decide) ?_
    refine ew_iload_n dX7_funHere_17 rfl lm1 ?_
    obtain ⟨v2, H⟩ := H
    refine ew_imul dX7_funHere_18 v2 ?_
    refine ew_aload_n dX7_funHere_19 rfl lm0 ?_
    refine mw_gI dX7_funHere_20 (e_fl.a q1420) mf_14 rfl ?_
    refine ew_aload_n dX7_funHere_23 rfl lm0 ?_
    refine mw_gI dX7_funHere_24 (e_fl.a q1421) mf_15 rfl ?_
    refine ew_callV (d := d + 0) (as := [aR (some (0, 1, 25)), aI (6 * x1), aI (s0.1 14), aI (s0.1 15)]) rfl dX7_funHere_27 me_isAt rfl (ci := 1) rfl rfl (mh_o _ _) (Or.inl q1640) q1642 qs66 (Nat.le_of_ble_eq_true rfl) (Nat.le_refl 0) (Nat.le_refl 0) (S_isAt (d := d + 0) H) (fun o h' hq4 _ => ?_) (fun E i h' q _ => (mQi_no q).elim)
    obtain ⟨r6, s3, E5, rfl, H⟩ := hq4
    cases E5
    refine ew_if_eq (tgt := 35) dX7_funHere_30 (by decide) (fun c7 => ?_) (fun c7 => ?_)
    · replace H := H.1 c7
      obtain ⟨v8, H⟩ := H
      refine ew_iinc dX7_funHere_35 lm1 (by decide) v8 (lv' := [(1, aI (x1 + 1)), (0, aR (some mT))]) rfl ?_
      refine ew_sub (List.forall_mem_cons.mpr ⟨lm1, (List.forall_mem_cons.mpr ⟨lm0, e_nm⟩)⟩) ?_
      refine ew_goto (tgt := 2) dX7_funHere_38 (by decide) ?_
      exact ew_sub (List.forall_mem_cons.mpr ⟨lm0, (List.forall_mem_cons.mpr ⟨lm1, e_nm⟩)⟩) H
    · replace H := H.2 c7
      refine ew_iload_n dX7_funHere_33 rfl lm1 ?_
      exact ew_ret (o := some (aI x1)) rfl ⟨_, _, rfl, rfl, H⟩ ⟨dX7_funHere_34, .int, rfl, Or.inl rfl, rfl⟩
set_option maxHeartbeats 4000000 in
theorem T_funHere_E (d : Nat) (g : AH) (K : Int → MS → Prop)  (s0 : MS) (H : B_funHere_E (W_funHere_2 d g K) K  s0) : EW mm_funHere (d + 1) 0 0 (mQi g K) 0 [(0, aR (some mT))] [] (mh s0 g) := by
  refine ew_iconst dX7_funHere_0 (inI_of rfl) ?_
  refine ew_istore_n dX7_funHere_1 rfl (by decide) (lv' := [(1, aI 0), (0, aR (some mT))]) rfl ?_
  refine ew_sub (List.forall_mem_cons.mpr ⟨lm1, (List.forall_mem_cons.mpr ⟨lm0, e_nm⟩)⟩) ?_
  exact ew_sub (List.forall_mem_cons.mpr ⟨lm0, (List.forall_mem_cons.mpr ⟨lm1, e_nm⟩)⟩) H
def C_funHere  (s0 : MS) (K : Int → MS → Prop) : Prop := ∀ (X2 : Int → MS → Prop), (∀ (x1 : Int) (s0 : MS), B_funHere_2 X2 K x1 s0 → X2 x1 s0) → B_funHere_E X2 K  s0
theorem S_funHere {d : Nat} {g : AH} {K : Int → MS → Prop}  {s0 : MS} (H : C_funHere  s0 K) : Sp mm_funHere (d + 1) 0 0 [aR (some mT)] (mh s0 g) (mQi g K) :=
  ew_sp rfl (Nat.le_of_ble_eq_true rfl) (T_funHere_E d g K  s0 (H _ (fun x1 s0 H => T_funHere_2 d g K x1 s0 H)))
abbrev mm_termHere : EM := (yX7_termHere, cX7_termHere, 2, some .int, [])
theorem me_termHere : e_mth mm_termHere 0 := ⟨rfl, q1647, q117, by decide +kernel, by decide⟩
def B_termHere_2 (X2 : Int → MS → Prop) (K : Int → MS → Prop) (x1 : Int) (s0 : MS) : Prop :=
  (((s0.1 21) ≤ x1 → K (-1) s0) ∧ (¬ (s0.1 21) ≤ x1 → ((inI (24 + x1)) ∧ ((inI (6 * (24 + x1))) ∧ (C_isAt 12 (6 * (24 + x1)) (s0.1 14) (s0.1 15) s0 (fun r7 s4 => ((r7 = 0 → (inI (x1 + 1) ∧ X2 (x1 + 1) s4)) ∧ (¬ r7 = 0 → K x1 s4))))))))
def B_termHere_E (X2 : Int → MS → Prop) (K : Int → MS → Prop)  (s0 : MS) : Prop :=
  X2 0 s0
def W_termHere_2 (d : Nat) (g : AH) (K : Int → MS → Prop) (x1 : Int) (s0 : MS) : Prop := EW mm_termHere (d + 1) 0 0 (mQi g K) 2 [(0, aR (some mT)), (1, aI x1)] [] (mh s0 g)
set_option maxHeartbeats 4000000 in
theorem T_termHere_2 (d : Nat) (g : AH) (K : Int → MS → Prop) (x1 : Int) (s0 : MS) (H : B_termHere_2 (W_termHere_2 d g K) K x1 s0) : EW mm_termHere (d + 1) 0 0 (mQi g K) 2 [(0, aR (some mT)), (1, aI x1)] [] (mh s0 g) := by
  refine ew_iload_n dX7_termHere_2 rfl lm1 ?_
  refine ew_aload_n dX7_termHere_3 rfl lm0 ?_
  refine mw_gI dX7_termHere_4 (e_fl.a q1427) mf_21 rfl ?_
  refine ew_icmp_ge (tgt := 44) dX7_termHere_7 (by decide) (fun c1 => ?_) (fun c1 => ?_)
  · replace H := H.1 c1
    refine ew_iconst dX7_termHere_44 (inI_of rfl) ?_
    exact ew_ret (o := some (aI (-1))) rfl ⟨_, _, rfl, rfl, H⟩ ⟨dX7_termHere_45, .int, rfl, Or.inl rfl, rfl⟩
  · replace H := H.2 c1
    refine ew_aload_n dX7_termHere_10 rfl lm0 ?_
    refine ew_aload_n dX7_termHere_11 rfl lm0 ?_
    refine mw_gA dX7_termHere_12 (e_fl.a q1418) mf_12 rfl ?_
    refine ew_bipush dX7_termHere_15 (inI_of rfl) (by decide) ?_
    refine ew_bipush dX7_termHere_17 (inI_of rfl) (by decide) ?_
    refine ew_iload_n dX7_termHere_19 rfl lm1 ?_
    obtain ⟨v2, H⟩ := H
    refine ew_iadd dX7_termHere_20 v2 ?_
    obtain ⟨v3, H⟩ := H
    refine ew_imul dX7_termHere_21 v3 ?_
    refine ew_aload_n dX7_termHere_22 rfl lm0 ?_
    refine mw_gI dX7_termHere_23 (e_fl.a q1420) mf_14 rfl ?_
    refine ew_aload_n dX7_termHere_26 rfl lm0 ?_
    refine mw_gI dX7_termHere_27 (e_fl.a q1421) mf_15 rfl ?_
    refine ew_callV (d := d + 0) (as := [aR (some (0, 1, 12)), aI (6 * (24 + x1)), aI (s0.1 14), aI (s0.1 15)]) rfl dX7_termHere_30 me_isAt rfl (ci := 1) rfl rfl (mh_o _ _) (Or.inl q1640) q1642 qs66 (Nat.le_of_ble_eq_true rfl) (Nat.le_refl 0) (Nat.le_refl 0) (S_isAt (d := d + 0) H) (fun o h' hq5 _ => ?_) (fun E i h' q _ => (mQi_no q).elim)
    obtain ⟨r7, s4, E6, rfl, H⟩ := hq5
    cases E6
    refine ew_if_eq (tgt := 38) dX7_termHere_33 (by decide) (fun c8 => ?_) (fun c8 => ?_)
    · replace H := H.1 c8
      obtain ⟨v9, H⟩ := H
      refine ew_iinc dX7_termHere_38 lm1 (by decide) v9 (lv' := [(1, aI (x1 + 1)), (0, aR (some mT))]) rfl ?_
      refine ew_sub (List.forall_mem_cons.mpr ⟨lm1, (List.forall_mem_cons.mpr ⟨lm0, e_nm⟩)⟩) ?_
      refine ew_goto (tgt := 2) dX7_termHere_41 (by decide) ?_
      exact ew_sub (List.forall_mem_cons.mpr ⟨lm0, (List.forall_mem_cons.mpr ⟨lm1, e_nm⟩)⟩) H
    · replace H := H.2 c8
      refine ew_iload_n dX7_termHere_36 rfl lm1 ?_
      exact ew_ret (o := some (aI x1)) rfl ⟨_, _, rfl, rfl, H⟩ ⟨dX7_termHere_37, .int, rfl, Or.inl rfl, rfl⟩
set_option maxHeartbeats 4000000 in
theorem T_termHere_E (d : Nat) (g : AH) (K : Int → MS → Prop)  (s0 : MS) (H : B_termHere_E (W_termHere_2 d g K) K  s0) : EW mm_termHere (d + 1) 0 0 (mQi g K) 0 [(0, aR (some mT))] [] (mh s0 g) := by
  refine ew_iconst dX7_termHere_0 (inI_of rfl) ?_
  refine ew_istore_n dX7_termHere_1 rfl (by decide) (lv' := [(1, aI 0), (0, aR (some mT))]) rfl ?_
  refine ew_sub (List.forall_mem_cons.mpr ⟨lm1, (List.forall_mem_cons.mpr ⟨lm0, e_nm⟩)⟩) ?_
  exact ew_sub (List.forall_mem_cons.mpr ⟨lm0, (List.forall_mem_cons.mpr ⟨lm1, e_nm⟩)⟩) H
def C_termHere  (s0 : MS) (K : Int → MS → Prop) : Prop := ∀ (X2 : Int → MS → Prop), (∀ (x1 : Int) (s0 : MS), B_termHere_2 X2 K x1 s0 → X2 x1 s0) → B_termHere_E X2 K  s0
theorem S_termHere {d : Nat} {g : AH} {K : Int → MS → Prop}  {s0 : MS} (H : C_termHere  s0 K) : Sp mm_termHere (d + 1) 0 0 [aR (some mT)] (mh s0 g) (mQi g K) :=
  ew_sp rfl (Nat.le_of_ble_eq_true rfl) (T_termHere_E d g K  s0 (H _ (fun x1 s0 H => T_termHere_2 d g K x1 s0 H)))
