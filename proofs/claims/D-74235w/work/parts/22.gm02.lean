set_option maxRecDepth 100000
abbrev mm_keeps : EM := (yX7_keeps, cX7_keeps, 4, none, [])
theorem me_keeps : e_mth mm_keeps 2 := ⟨rfl, q1651, q117, by decide +kernel, by decide⟩
def B_keeps_2 (X2 : Nat → Int → Int → MS → Prop) (K : MS → Prop) (x1 : Nat) (x2 : Int) (x3 : Int) (s0 : MS) : Prop :=
  ((6 ≤ x3 → K s0) ∧ (¬ 6 ≤ x3 → ((inI (x2 + x3)) ∧ ((inI ((s0.1 14) + x3)) ∧ (((s0.1 15) ≤ ((s0.1 14) + x3) → ((mK x1 = 1 ∧ 0 ≤ (x2 + x3) ∧ (x2 + x3) < (mL x1 : Int)) ∧ ∀ s5 : MS, s5 = ma s0 x1 (x2 + x3) 0 → (inI (x3 + 1) ∧ X2 x1 x2 (x3 + 1) s5))) ∧ (¬ (s0.1 15) ≤ ((s0.1 14) + x3) → ((inI ((s0.1 14) + x3)) ∧ ((0 ≤ ((s0.1 14) + x3) ∧ ((s0.1 14) + x3) < 500) ∧ ((mK x1 = 1 ∧ 0 ≤ (x2 + x3) ∧ (x2 + x3) < (mL x1 : Int)) ∧ ∀ s11 : MS, s11 = ma s0 x1 (x2 + x3) (s0.2 4 ((s0.1 14) + x3)) → (inI (x3 + 1) ∧ X2 x1 x2 (x3 + 1) s11))))))))))
def B_keeps_E (X2 : Nat → Int → Int → MS → Prop) (K : MS → Prop) (a : Nat) (b : Int) (s0 : MS) : Prop :=
  X2 a b 0 s0
def W_keeps_2 (d : Nat) (g : AH) (K : MS → Prop) (x1 : Nat) (x2 : Int) (x3 : Int) (s0 : MS) : Prop := EW mm_keeps (d + 0) 0 0 (mQ g K) 2 [(0, aR (some mT)), (1, aR (some (0, 1, x1))), (2, aI x2), (3, aI x3)] [] (mh s0 g)
set_option maxHeartbeats 4000000 in
theorem T_keeps_2 (d : Nat) (g : AH) (K : MS → Prop) (x1 : Nat) (x2 : Int) (x3 : Int) (s0 : MS) (H : B_keeps_2 (W_keeps_2 d g K) K x1 x2 x3 s0) : EW mm_keeps (d + 0) 0 0 (mQ g K) 2 [(0, aR (some mT)), (1, aR (some (0, 1, x1))), (2, aI x2), (3, aI x3)] [] (mh s0 g) := by
  refine ew_iload_n dX7_keeps_2 rfl lm3 ?_
  refine ew_bipush dX7_keeps_3 (inI_of rfl) (by decide) ?_
  refine ew_icmp_ge (tgt := 47) dX7_keeps_5 (by decide) (fun c1 => ?_) (fun c1 => ?_)
  · replace H := H.1 c1
    exact ew_ret (o := none) rfl ⟨_, rfl, rfl, H⟩ ⟨rfl, dX7_keeps_47⟩
  · replace H := H.2 c1
    refine ew_aload_n dX7_keeps_8 rfl lm1 ?_
    refine ew_iload_n dX7_keeps_9 rfl lm2 ?_
    refine ew_iload_n dX7_keeps_10 rfl lm3 ?_
    obtain ⟨v2, H⟩ := H
    refine ew_iadd dX7_keeps_11 v2 ?_
    refine ew_aload_n dX7_keeps_12 rfl lm0 ?_
    refine mw_gI dX7_keeps_13 (e_fl.a q1420) mf_14 rfl ?_
    refine ew_iload_n dX7_keeps_16 rfl lm3 ?_
    obtain ⟨v3, H⟩ := H
    refine ew_iadd dX7_keeps_17 v3 ?_
    refine ew_aload_n dX7_keeps_18 rfl lm0 ?_
    refine mw_gI dX7_keeps_19 (e_fl.a q1421) mf_15 rfl ?_
    refine ew_icmp_ge (tgt := 39) dX7_keeps_22 (by decide) (fun c4 => ?_) (fun c4 => ?_)
    · replace H := H.1 c4
      refine ew_iconst dX7_keeps_39 (inI_of rfl) ?_
      obtain ⟨v7, H⟩ := H
      refine mw_iast dX7_keeps_40 v7.1 v7.2.1 v7.2.2 (fun s5 e6 => ?_)
      replace H := H s5 e6
      obtain ⟨v8, H⟩ := H
      refine ew_iinc dX7_keeps_41 lm3 (by decide) v8 (lv' := [(3, aI (x3 + 1)), (0, aR (some mT)), (1, aR (some (0, 1, x1))), (2, aI x2)]) rfl ?_
      refine ew_sub (List.forall_mem_cons.mpr ⟨lm1, (List.forall_mem_cons.mpr ⟨lm2, (List.forall_mem_cons.mpr ⟨lm3, (List.forall_mem_cons.mpr ⟨lm0, e_nm⟩)⟩)⟩)⟩) ?_
      refine ew_goto (tgt := 2) dX7_keeps_44 (by decide) ?_
      exact ew_sub (List.forall_mem_cons.mpr ⟨lm0, (List.forall_mem_cons.mpr ⟨lm1, (List.forall_mem_cons.mpr ⟨lm2, (List.forall_mem_cons.mpr ⟨lm3, e_nm⟩)⟩)⟩)⟩) H
    · replace H := H.2 c4
      refine ew_aload_n dX7_keeps_25 rfl lm0 ?_
      refine mw_gA dX7_keeps_26 (e_fl.a q1410) mf_4 rfl ?_
      refine ew_aload_n dX7_keeps_29 rfl lm0 ?_
      refine mw_gI dX7_keeps_30 (e_fl.a q1420) mf_14 rfl ?_
      refine ew_iload_n dX7_keeps_33 rfl lm3 ?_
      obtain ⟨v9, H⟩ := H
      refine ew_iadd dX7_keeps_34 v9 ?_
      obtain ⟨v10, H⟩ := H
      refine mw_iald dX7_keeps_35 rfl v10.1 v10.2 ?_
      refine ew_goto (tgt := 40) dX7_keeps_36 (by decide) ?_
      obtain ⟨v13, H⟩ := H
      refine mw_iast dX7_keeps_40 v13.1 v13.2.1 v13.2.2 (fun s11 e12 => ?_)
      replace H := H s11 e12
      obtain ⟨v14, H⟩ := H
      refine ew_iinc dX7_keeps_41 lm3 (by decide) v14 (lv' := [(3, aI (x3 + 1)), (0, aR (some mT)), (1, aR (some (0, 1, x1))), (2, aI x2)]) rfl ?_
      refine ew_sub (List.forall_mem_cons.mpr ⟨lm1, (List.forall_mem_cons.mpr ⟨lm2, (List.forall_mem_cons.mpr ⟨lm3, (List.forall_mem_cons.mpr ⟨lm0, e_nm⟩)⟩)⟩)⟩) ?_
      refine ew_goto (tgt := 2) dX7_keeps_44 (by decide) ?_
      exact ew_sub (List.forall_mem_cons.mpr ⟨lm0, (List.forall_mem_cons.mpr ⟨lm1, (List.forall_mem_cons.mpr ⟨lm2, (List.forall_mem_cons.mpr ⟨lm3, e_nm⟩)⟩)⟩)⟩) H
set_option maxHeartbeats 4000000 in
theorem T_keeps_E (d : Nat) (g : AH) (K : MS → Prop) (a : Nat) (b : Int) (s0 : MS) (H : B_keeps_E (W_keeps_2 d g K) K a b s0) : EW mm_keeps (d + 0) 0 0 (mQ g K) 0 [(0, aR (some mT)), (1, aR (some (0, 1, a))), (2, aI b)] [] (mh s0 g) := by
  refine ew_iconst dX7_keeps_0 (inI_of rfl) ?_
  refine ew_istore_n dX7_keeps_1 rfl (by decide) (lv' := [(3, aI 0), (0, aR (some mT)), (1, aR (some (0, 1, a))), (2, aI b)]) rfl ?_
  refine ew_sub (List.forall_mem_cons.mpr ⟨lm1, (List.forall_mem_cons.mpr ⟨lm2, (List.forall_mem_cons.mpr ⟨lm3, (List.forall_mem_cons.mpr ⟨lm0, e_nm⟩)⟩)⟩)⟩) ?_
  exact ew_sub (List.forall_mem_cons.mpr ⟨lm0, (List.forall_mem_cons.mpr ⟨lm1, (List.forall_mem_cons.mpr ⟨lm2, (List.forall_mem_cons.mpr ⟨lm3, e_nm⟩)⟩)⟩)⟩) H
def C_keeps (a : Nat) (b : Int) (s0 : MS) (K : MS → Prop) : Prop := ∀ (X2 : Nat → Int → Int → MS → Prop), (∀ (x1 : Nat) (x2 : Int) (x3 : Int) (s0 : MS), B_keeps_2 X2 K x1 x2 x3 s0 → X2 x1 x2 x3 s0) → B_keeps_E X2 K a b s0
theorem S_keeps {d : Nat} {g : AH} {K : MS → Prop} {a : Nat} {b : Int} {s0 : MS} (H : C_keeps a b s0 K) : Sp mm_keeps (d + 0) 0 0 [aR (some mT), aR (some (0, 1, a)), aI b] (mh s0 g) (mQ g K) :=
  ew_sp rfl (Nat.le_of_ble_eq_true rfl) (T_keeps_E d g K a b s0 (H _ (fun x1 x2 x3 s0 H => T_keeps_2 d g K x1 x2 x3 s0 H)))
abbrev mm_readFun : EM := (yX7_readFun, cX7_readFun, 1, some .boolean, [])
theorem me_readFun : e_mth mm_readFun 0 := ⟨rfl, q1624, q117, by decide +kernel, by decide⟩
def B_readFun_E  (K : Int → MS → Prop)  (s0 : MS) : Prop :=
  (((s0.1 20) = 8 → (C_errs 4 s0 (fun r67 s64 => ((r67 = 0 ∨ r67 = 1) ∧ K r67 s64)))) ∧ (¬ (s0.1 20) = 8 → (C_goesOn s0 (fun s2 => (C_isName s2 (fun r8 s5 => ((r8 = 0 → (C_errs 1 s5 (fun r62 s59 => ((r62 = 0 ∨ r62 = 1) ∧ K r62 s59)))) ∧ (¬ r8 = 0 → (C_funHere s5 (fun r13 s10 => ((r13 = (-1) → (C_termHere s10 (fun r23 s20 => ((r23 = (-1) → ((inI (6 * (s20.1 20))) ∧ (C_keeps 25 (6 * (s20.1 20)) s20 (fun s26 => (C_goesOn s26 (fun s29 => (((s29.1 16) = 3 → (((s29.1 17) ≤ 3 → ((inI (8 + (s29.1 20))) ∧ ((0 ≤ (8 + (s29.1 20)) ∧ (8 + (s29.1 20)) < 16) ∧ ∀ s35 : MS, s35 = ma s29 7 (8 + (s29.1 20)) (s29.1 17) → ((inI ((s35.1 20) + 1)) ∧ (∀ s39 : MS, s39 = ms s35 20 ((s35.1 20) + 1) → (C_goesOn s39 (fun s41 => K 1 s41))))))) ∧ (¬ (s29.1 17) ≤ 3 → (C_errs 2 s29 (fun r47 s44 => ((r47 = 0 ∨ r47 = 1) ∧ K r47 s44)))))) ∧ (¬ (s29.1 16) = 3 → (C_errs 1 s29 (fun r52 s49 => ((r52 = 0 ∨ r52 = 1) ∧ K r52 s49))))))))))) ∧ (¬ r23 = (-1) → (C_errs 3 s20 (fun r57 s54 => ((r57 = 0 ∨ r57 = 1) ∧ K r57 s54)))))))) ∧ (¬ r13 = (-1) → (C_errs 3 s10 (fun r18 s15 => ((r18 = 0 ∨ r18 = 1) ∧ K r18 s15)))))))))))))))
set_option maxHeartbeats 4000000 in
theorem T_readFun_E (d : Nat) (g : AH) (K : Int → MS → Prop)  (s0 : MS) (H : B_readFun_E  K  s0) : EW mm_readFun (d + 8) 0 0 (mQi g K) 0 [(0, aR (some mT))] [] (mh s0 g) := by
  refine ew_aload_n dX7_readFun_0 rfl lm0 ?_
  refine mw_gI dX7_readFun_1 (e_fl.a q1426) mf_20 rfl ?_
  refine ew_bipush dX7_readFun_4 (inI_of rfl) (by decide) ?_
  refine ew_icmp_ne (tgt := 15) dX7_readFun_6 (by decide) (fun c1 => ?_) (fun c1 => ?_)
  · replace H := H.2 c1
    refine ew_aload_n dX7_readFun_15 rfl lm0 ?_
    refine ew_callV (d := d + 7) (as := []) rfl dX7_readFun_16 me_goesOn rfl (ci := 1) rfl rfl (mh_o _ _) (Or.inl q1602) q1604 qs58 (Nat.le_of_ble_eq_true rfl) (Nat.le_refl 0) (Nat.le_refl 0) (S_goesOn (d := d + 6) H) (fun o h' hq3 _ => ?_) (fun E i h' q _ => (mQ_no q).elim)
    obtain ⟨s2, E4, rfl, H⟩ := hq3
    cases E4
    refine ew_aload_n dX7_readFun_19 rfl lm0 ?_
    refine ew_callV (d := d + 7) (as := []) rfl dX7_readFun_20 me_isName rfl (ci := 1) rfl rfl (mh_o _ _) (Or.inl q1629) q1631 qs64 (Nat.le_of_ble_eq_true rfl) (Nat.le_refl 0) (Nat.le_refl 0) (S_isName (d := d + 0) H) (fun o h' hq6 _ => ?_) (fun E i h' q _ => (mQi_no q).elim)
    obtain ⟨r8, s5, E7, rfl, H⟩ := hq6
    cases E7
    refine ew_if_ne (tgt := 32) dX7_readFun_23 (by decide) (fun c9 => ?_) (fun c9 => ?_)
    · replace H := H.2 c9
      refine ew_aload_n dX7_readFun_32 rfl lm0 ?_
      refine ew_callV (d := d + 7) (as := []) rfl dX7_readFun_33 me_funHere rfl (ci := 1) rfl rfl (mh_o _ _) (Or.inl q1636) q1638 qs65 (Nat.le_of_ble_eq_true rfl) (Nat.le_refl 0) (Nat.le_refl 0) (S_funHere (d := d + 6) H) (fun o h' hq11 _ => ?_) (fun E i h' q _ => (mQi_no q).elim)
      obtain ⟨r13, s10, E12, rfl, H⟩ := hq11
      cases E12
      refine ew_iconst dX7_readFun_36 (inI_of rfl) ?_
      refine ew_icmp_ne (tgt := 48) dX7_readFun_37 (by decide) (fun c14 => ?_) (fun c14 => ?_)
      · replace H := H.2 c14
        refine ew_aload_n dX7_readFun_48 rfl lm0 ?_
        refine ew_iconst dX7_readFun_49 (inI_of rfl) ?_
        refine ew_callV (d := d + 7) (as := [aI 3]) rfl dX7_readFun_50 me_errs rfl (ci := 1) rfl rfl (mh_o _ _) (Or.inl q1625) q1627 qs63 (Nat.le_of_ble_eq_true rfl) (Nat.le_refl 0) (Nat.le_refl 0) (S_errs (d := d + 7) H) (fun o h' hq16 _ => ?_) (fun E i h' q _ => (mQi_no q).elim)
        obtain ⟨r18, s15, E17, rfl, H⟩ := hq16
        cases E17
        obtain ⟨v19, H⟩ := H
        exact ew_ret (o := some (aI r18)) rfl ⟨_, _, rfl, rfl, H⟩ ⟨dX7_readFun_53, .boolean, rfl, Or.inr (Or.inl rfl), by rcases v19 with z | z <;> rw [z] <;> decide⟩
      · replace H := H.1 c14
        refine ew_aload_n dX7_readFun_40 rfl lm0 ?_
        refine ew_callV (d := d + 7) (as := []) rfl dX7_readFun_41 me_termHere rfl (ci := 1) rfl rfl (mh_o _ _) (Or.inl q1644) q1646 qs67 (Nat.le_of_ble_eq_true rfl) (Nat.le_refl 0) (Nat.le_refl 0) (S_termHere (d := d + 6) H) (fun o h' hq21 _ => ?_) (fun E i h' q _ => (mQi_no q).elim)
        obtain ⟨r23, s20, E22, rfl, H⟩ := hq21
        cases E22
        refine ew_iconst dX7_readFun_44 (inI_of rfl) ?_
        refine ew_icmp_eq (tgt := 54) dX7_readFun_45 (by decide) (fun c24 => ?_) (fun c24 => ?_)
        · replace H := H.1 c24
          refine ew_aload_n dX7_readFun_54 rfl lm0 ?_
          refine ew_aload_n dX7_readFun_55 rfl lm0 ?_
          refine mw_gA dX7_readFun_56 (e_fl.a q1431) mf_25 rfl ?_
          refine ew_bipush dX7_readFun_59 (inI_of rfl) (by decide) ?_
          refine ew_aload_n dX7_readFun_61 rfl lm0 ?_
          refine mw_gI dX7_readFun_62 (e_fl.a q1426) mf_20 rfl ?_
          obtain ⟨v25, H⟩ := H
          refine ew_imul dX7_readFun_65 v25 ?_
          refine ew_callV (d := d + 7) (as := [aR (some (0, 1, 25)), aI (6 * (s20.1 20))]) rfl dX7_readFun_66 me_keeps rfl (ci := 1) rfl rfl (mh_o _ _) (Or.inl q1648) q1650 qs68 (Nat.le_of_ble_eq_true rfl) (Nat.le_refl 0) (Nat.le_refl 0) (S_keeps (d := d + 7) H) (fun o h' hq27 _ => ?_) (fun E i h' q _ => (mQ_no q).elim)
          obtain ⟨s26, E28, rfl, H⟩ := hq27
          cases E28
          refine ew_aload_n dX7_readFun_69 rfl lm0 ?_
          refine ew_callV (d := d + 7) (as := []) rfl dX7_readFun_70 me_goesOn rfl (ci := 1) rfl rfl (mh_o _ _) (Or.inl q1602) q1604 qs58 (Nat.le_of_ble_eq_true rfl) (Nat.le_refl 0) (Nat.le_refl 0) (S_goesOn (d := d + 6) H) (fun o h' hq30 _ => ?_) (fun E i h' q _ => (mQ_no q).elim)
          obtain ⟨s29, E31, rfl, H⟩ := hq30
          cases E31
          refine ew_aload_n dX7_readFun_73 rfl lm0 ?_
          refine mw_gI dX7_readFun_74 (e_fl.a q1422) mf_16 rfl ?_
          refine ew_iconst dX7_readFun_77 (inI_of rfl) ?_
          refine ew_icmp_eq (tgt := 87) dX7_readFun_78 (by decide) (fun c32 => ?_) (fun c32 => ?_)
          · replace H := H.1 c32
            refine ew_aload_n dX7_readFun_87 rfl lm0 ?_
            refine mw_gI dX7_readFun_88 (e_fl.a q1423) mf_17 rfl ?_
            refine ew_iconst dX7_readFun_91 (inI_of rfl) ?_
            refine ew_icmp_le (tgt := 101) dX7_readFun_92 (by decide) (fun c33 => ?_) (fun c33 => ?_)
            · replace H := H.1 c33
              refine ew_aload_n dX7_readFun_101 rfl lm0 ?_
              refine mw_gA dX7_readFun_102 (e_fl.a q1413) mf_7 rfl ?_
              refine ew_bipush dX7_readFun_105 (inI_of rfl) (by decide) ?_
              refine ew_aload_n dX7_readFun_107 rfl lm0 ?_
              refine mw_gI dX7_readFun_108 (e_fl.a q1426) mf_20 rfl ?_
              obtain ⟨v34, H⟩ := H
              refine ew_iadd dX7_readFun_111 v34 ?_
              refine ew_aload_n dX7_readFun_112 rfl lm0 ?_
              refine mw_gI dX7_readFun_113 (e_fl.a q1423) mf_17 rfl ?_
              obtain ⟨v37, H⟩ := H
              refine mw_iast dX7_readFun_116 rfl v37.1 v37.2 (fun s35 e36 => ?_)
              replace H := H s35 e36
              refine ew_aload_n dX7_readFun_117 rfl lm0 ?_
              refine ew_dup dX7_readFun_118 rfl ?_
              refine mw_gI dX7_readFun_119 (e_fl.a q1426) mf_20 rfl ?_
              refine ew_iconst dX7_readFun_122 (inI_of rfl) ?_
              obtain ⟨v38, H⟩ := H
              refine ew_iadd dX7_readFun_123 v38 ?_
              refine mw_pI dX7_readFun_124 (e_fl.a q1426) mf_20 (Or.inl rfl) (ty := .int) (by decide +kernel) trivial (fun s39 e40 => ?_)
              replace H := H s39 e40
              refine ew_aload_n dX7_readFun_127 rfl lm0 ?_
              refine ew_callV (d := d + 7) (as := []) rfl dX7_readFun_128 me_goesOn rfl (ci := 1) rfl rfl (mh_o _ _) (Or.inl q1602) q1604 qs58 (Nat.le_of_ble_eq_true rfl) (Nat.le_refl 0) (Nat.le_refl 0) (S_goesOn (d := d + 6) H) (fun o h' hq42 _ => ?_) (fun E i h' q _ => (mQ_no q).elim)
              obtain ⟨s41, E43, rfl, H⟩ := hq42
              cases E43
              refine ew_iconst dX7_readFun_131 (inI_of rfl) ?_
              exact ew_ret (o := some (aI 1)) rfl ⟨_, _, rfl, rfl, H⟩ ⟨dX7_readFun_132, .boolean, rfl, Or.inr (Or.inl rfl), by decide⟩
            · replace H := H.2 c33
              refine ew_aload_n dX7_readFun_95 rfl lm0 ?_
              refine ew_iconst dX7_readFun_96 (inI_of rfl) ?_
              refine ew_callV (d := d + 7) (as := [aI 2]) rfl dX7_readFun_97 me_errs rfl (ci := 1) rfl rfl (mh_o _ _) (Or.inl q1625) q1627 qs63 (Nat.le_of_ble_eq_true rfl) (Nat.le_refl 0) (Nat.le_refl 0) (S_errs (d := d + 7) H) (fun o h' hq45 _ => ?_) (fun E i h' q _ => (mQi_no q).elim)
              obtain ⟨r47, s44, E46, rfl, H⟩ := hq45
              cases E46
              obtain ⟨v48, H⟩ := H
              exact ew_ret (o := some (aI r47)) rfl ⟨_, _, rfl, rfl, H⟩ ⟨dX7_readFun_100, .boolean, rfl, Or.inr (Or.inl rfl), by rcases v48 with z | z <;> rw [z] <;> decide⟩
          · replace H := H.2 c32
            refine ew_aload_n dX7_readFun_81 rfl lm0 ?_
            refine ew_iconst dX7_readFun_82 (inI_of rfl) ?_
            refine ew_callV (d := d + 7) (as := [aI 1]) rfl dX7_readFun_83 me_errs rfl (ci := 1) rfl rfl (mh_o _ _) (Or.inl q1625) q1627 qs63 (Nat.le_of_ble_eq_true rfl) (Nat.le_refl 0) (Nat.le_refl 0) (S_errs (d := d + 7) H) (fun o h' hq50 _ => ?_) (fun E i h' q _ => (mQi_no q).elim)
            obtain ⟨r52, s49, E51, rfl, H⟩ := hq50
            cases E51
            obtain ⟨v53, H⟩ := H
            exact ew_ret (o := some (aI r52)) rfl ⟨_, _, rfl, rfl, H⟩ ⟨dX7_readFun_86, .boolean, rfl, Or.inr (Or.inl rfl), by rcases v53 with z | z <;> rw [z] <;> decide⟩
        · replace H := H.2 c24
          refine ew_aload_n dX7_readFun_48 rfl lm0 ?_
          refine ew_iconst dX7_readFun_49 (inI_of rfl) ?_
          refine ew_callV (d := d + 7) (as := [aI 3]) rfl dX7_readFun_50 me_errs rfl (ci := 1) rfl rfl (mh_o _ _) (Or.inl q1625) q1627 qs63 (Nat.le_of_ble_eq_true rfl) (Nat.le_refl 0) (Nat.le_refl 0) (S_errs (d := d + 7) H) (fun o h' hq55 _ => ?_) (fun E i h' q _ => (mQi_no q).elim)
          obtain ⟨r57, s54, E56, rfl, H⟩ := hq55
          cases E56
          obtain ⟨v58, H⟩ := H
          exact ew_ret (o := some (aI r57)) rfl ⟨_, _, rfl, rfl, H⟩ ⟨dX7_readFun_53, .boolean, rfl, Or.inr (Or.inl rfl), by rcases v58 with z | z <;> rw [z] <;> decide⟩
    · replace H := H.1 c9
      refine ew_aload_n dX7_readFun_26 rfl lm0 ?_
      refine ew_iconst dX7_readFun_27 (inI_of rfl) ?_
      refine ew_callV (d := d + 7) (as := [aI 1]) rfl dX7_readFun_28 me_errs rfl (ci := 1) rfl rfl (mh_o _ _) (Or.inl q1625) q1627 qs63 (Nat.le_of_ble_eq_true rfl) (Nat.le_refl 0) (Nat.le_refl 0) (S_errs (d := d + 7) H) (fun o h' hq60 _ => ?_) (fun E i h' q _ => (mQi_no q).elim)
      obtain ⟨r62, s59, E61, rfl, H⟩ := hq60
      cases E61
      obtain ⟨v63, H⟩ := H
      exact ew_ret (o := some (aI r62)) rfl ⟨_, _, rfl, rfl, H⟩ ⟨dX7_readFun_31, .boolean, rfl, Or.inr (Or.inl rfl), by rcases v63 with z | z <;> rw [z] <;> decide⟩
  · replace H := H.1 c1
    refine ew_aload_n dX7_readFun_9 rfl lm0 ?_
    refine ew_iconst dX7_readFun_10 (inI_of rfl) ?_
    refine ew_callV (d := d + 7) (as := [aI 4]) rfl dX7_readFun_11 me_errs rfl (ci := 1) rfl rfl (mh_o _ _) (Or.inl q1625) q1627 qs63 (Nat.le_of_ble_eq_true rfl) (Nat.le_refl 0) (Nat.le_refl 0) (S_errs (d := d + 7) H) (fun o h' hq65 _ => ?_) (fun E i h' q _ => (mQi_no q).elim)
    obtain ⟨r67, s64, E66, rfl, H⟩ := hq65
    cases E66
    obtain ⟨v68, H⟩ := H
    exact ew_ret (o := some (aI r67)) rfl ⟨_, _, rfl, rfl, H⟩ ⟨dX7_readFun_14, .boolean, rfl, Or.inr (Or.inl rfl), by rcases v68 with z | z <;> rw [z] <;> decide⟩
def C_readFun  (s0 : MS) (K : Int → MS → Prop) : Prop := B_readFun_E  K  s0
theorem S_readFun {d : Nat} {g : AH} {K : Int → MS → Prop}  {s0 : MS} (H : C_readFun  s0 K) : Sp mm_readFun (d + 8) 0 0 [aR (some mT)] (mh s0 g) (mQi g K) :=
  ew_sp rfl (Nat.le_of_ble_eq_true rfl) (T_readFun_E d g K  s0 (H  ))
abbrev mm_readParts : EM := (yX7_readParts, cX7_readParts, 5, some .boolean, [])
theorem me_readParts : e_mth mm_readParts 2 := ⟨rfl, q1659, q117, by decide +kernel, by decide⟩
def B_readParts_59 (X59 : Int → Int → Int → MS → Prop) (K : Int → MS → Prop) (x1 : Int) (x2 : Int) (x3 : Int) (s0 : MS) : Prop :=
  ((x2 ≤ x3 → (C_goesOn s0 (fun s2 => K 1 s2))) ∧ (¬ x2 ≤ x3 → (C_goesOn s0 (fun s5 => (C_isName s5 (fun r11 s8 => ((r11 = 0 → (C_errs 1 s8 (fun r77 s74 => ((r77 = 0 ∨ r77 = 1) ∧ K r77 s74)))) ∧ (¬ r11 = 0 → ((inI (x1 + 1)) ∧ ((inI ((x1 + 1) + x3)) ∧ (C_termHere s8 (fun r18 s15 => ((0 ≤ ((x1 + 1) + x3) ∧ ((x1 + 1) + x3) < 384) ∧ ∀ s19 : MS, s19 = ma s15 11 ((x1 + 1) + x3) r18 → ((inI (x1 + 1)) ∧ ((inI ((x1 + 1) + x3)) ∧ ((0 ≤ ((x1 + 1) + x3) ∧ ((x1 + 1) + x3) < 384) ∧ (((s19.2 11 ((x1 + 1) + x3)) = (-1) → (C_errs 3 s19 (fun r72 s69 => ((r72 = 0 ∨ r72 = 1) ∧ K r72 s69)))) ∧ (¬ (s19.2 11 ((x1 + 1) + x3)) = (-1) → (C_goesOn s19 (fun s26 => ((inI (x2 - 1)) ∧ ((x3 = (x2 - 1) → (((s26.1 16) = 41 → (inI (x3 + 1) ∧ X59 x1 x2 (x3 + 1) s26)) ∧ (¬ (s26.1 16) = 41 → (((s26.1 16) = 44 → (C_errs 5 s26 (fun r56 s53 => ((r56 = 0 ∨ r56 = 1) ∧ K r56 s53)))) ∧ (¬ (s26.1 16) = 44 → (((s26.1 16) = 41 → (C_errs 5 s26 (fun r67 s64 => ((r67 = 0 ∨ r67 = 1) ∧ K r67 s64)))) ∧ (¬ (s26.1 16) = 41 → (C_errs 1 s26 (fun r62 s59 => ((r62 = 0 ∨ r62 = 1) ∧ K r62 s59)))))))))) ∧ (¬ x3 = (x2 - 1) → (((s26.1 16) = 44 → (inI (x3 + 1) ∧ X59 x1 x2 (x3 + 1) s26)) ∧ (¬ (s26.1 16) = 44 → (((s26.1 16) = 44 → (C_errs 5 s26 (fun r37 s34 => ((r37 = 0 ∨ r37 = 1) ∧ K r37 s34)))) ∧ (¬ (s26.1 16) = 44 → (((s26.1 16) = 41 → (C_errs 5 s26 (fun r48 s45 => ((r48 = 0 ∨ r48 = 1) ∧ K r48 s45)))) ∧ (¬ (s26.1 16) = 41 → (C_errs 1 s26 (fun r43 s40 => ((r43 = 0 ∨ r43 = 1) ∧ K r43 s40))))))))))))))))))))))))))))))))
def B_readParts_E (X59 : Int → Int → Int → MS → Prop) (K : Int → MS → Prop) (a : Int) (b : Int) (s0 : MS) : Prop :=
  (((s0.1 16) = 40 → ((b = 0 → (C_errs 5 s0 (fun r6 s3 => ((r6 = 0 ∨ r6 = 1) ∧ K r6 s3)))) ∧ (¬ b = 0 → X59 a b 0 s0))) ∧ (¬ (s0.1 16) = 40 → ((b = 0 → K 1 s0) ∧ (¬ b = 0 → (((s0.1 16) = 59 → (C_errs 5 s0 (fun r13 s10 => ((r13 = 0 → K 0 s10) ∧ (¬ r13 = 0 → K 1 s10))))) ∧ (¬ (s0.1 16) = 59 → (((s0.1 16) = 0 → (C_errs 5 s0 (fun r24 s21 => ((r24 = 0 → K 0 s21) ∧ (¬ r24 = 0 → K 1 s21))))) ∧ (¬ (s0.1 16) = 0 → (C_errs 1 s0 (fun r19 s16 => ((r19 = 0 → K 0 s16) ∧ (¬ r19 = 0 → K 1 s16))))))))))))
def W_readParts_59 (d : Nat) (g : AH) (K : Int → MS → Prop) (x1 : Int) (x2 : Int) (x3 : Int) (s0 : MS) : Prop := EW mm_readParts (d + 8) 0 0 (mQi g K) 59 [(0, aR (some mT)), (1, aI x1), (2, aI x2), (3, aI x3)] [] (mh s0 g)
set_option maxHeartbeats 4000000 in
theorem T_readParts_59 (d : Nat) (g : AH) (K : Int → MS → Prop) (x1 : Int) (x2 : Int) (x3 : Int) (s0 : MS) (H : B_readParts_59 (W_readParts_59 d g K) K x1 x2 x3 s0) : EW mm_readParts (d + 8) 0 0 (mQi g K) 59 [(0, aR (some mT)), (1, aI x1), (2, aI x2), (3, aI x3)] [] (mh s0 g) := by
  refine ew_iload_n dX7_readParts_59 rfl lm3 ?_
  refine ew_iload_n dX7_readParts_60 rfl lm2 ?_
  refine ew_icmp_ge (tgt := 178) dX7_readParts_61 (by decide) (fun c1 => ?_) (fun c1 => ?_)
  · replace H := H.1 c1
    refine ew_aload_n dX7_readParts_178 rfl lm0 ?_
    refine ew_callV (d := d + 7) (as := []) rfl dX7_readParts_179 me_goesOn rfl (ci := 1) rfl rfl (mh_o _ _) (Or.inl q1602) q1604 qs58 (Nat.le_of_ble_eq_true rfl) (Nat.le_refl 0) (Nat.le_refl 0) (S_goesOn (d := d + 6) H) (fun o h' hq3 _ => ?_) (fun E i h' q _ => (mQ_no q).elim)
    obtain ⟨s2, E4, rfl, H⟩ := hq3
    cases E4
    refine ew_iconst dX7_readParts_182 (inI_of rfl) ?_
    exact ew_ret (o := some (aI 1)) rfl ⟨_, _, rfl, rfl, H⟩ ⟨dX7_readParts_183, .boolean, rfl, Or.inr (Or.inl rfl), by decide⟩
  · replace H := H.2 c1
    refine ew_aload_n dX7_readParts_64 rfl lm0 ?_
    refine ew_callV (d := d + 7) (as := []) rfl dX7_readParts_65 me_goesOn rfl (ci := 1) rfl rfl (mh_o _ _) (Or.inl q1602) q1604 qs58 (Nat.le_of_ble_eq_true rfl) (Nat.le_refl 0) (Nat.le_refl 0) (S_goesOn (d := d + 6) H) (fun o h' hq6 _ => ?_) (fun E i h' q _ => (mQ_no q).elim)
    obtain ⟨s5, E7, rfl, H⟩ := hq6
    cases E7
    refine ew_aload_n dX7_readParts_68 rfl lm0 ?_
    refine ew_callV (d := d + 7) (as := []) rfl dX7_readParts_69 me_isName rfl (ci := 1) rfl rfl (mh_o _ _) (Or.inl q1629) q1631 qs64 (Nat.le_of_ble_eq_true rfl) (Nat.le_refl 0) (Nat.le_refl 0) (S_isName (d := d + 0) H) (fun o h' hq9 _ => ?_) (fun E i h' q _ => (mQi_no q).elim)
    obtain ⟨r11, s8, E10, rfl, H⟩ := hq9
    cases E10
    refine ew_if_ne (tgt := 81) dX7_readParts_72 (by decide) (fun c12 => ?_) (fun c12 => ?_)
    · replace H := H.2 c12
      refine ew_aload_n dX7_readParts_81 rfl lm0 ?_
      refine mw_gA dX7_readParts_82 (e_fl.a q1417) mf_11 rfl ?_
      refine ew_iload_n dX7_readParts_85 rfl lm1 ?_
      refine ew_iconst dX7_readParts_86 (inI_of rfl) ?_
      obtain ⟨v13, H⟩ := H
      refine ew_iadd dX7_readParts_87 v13 ?_
      refine ew_iload_n dX7_readParts_88 rfl lm3 ?_
      obtain ⟨v14, H⟩ := H
      refine ew_iadd dX7_readParts_89 v14 ?_
      refine ew_aload_n dX7_readParts_90 rfl lm0 ?_
      refine ew_callV (d := d + 7) (as := []) rfl dX7_readParts_91 me_termHere rfl (ci := 1) rfl rfl (mh_o _ _) (Or.inl q1644) q1646 qs67 (Nat.le_of_ble_eq_true rfl) (Nat.le_refl 0) (Nat.le_refl 0) (S_termHere (d := d + 6) H) (fun o h' hq16 _ => ?_) (fun E i h' q _ => (mQi_no q).elim)
      obtain ⟨r18, s15, E17, rfl, H⟩ := hq16
      cases E17
      obtain ⟨v21, H⟩ := H
      refine mw_iast dX7_readParts_94 rfl v21.1 v21.2 (fun s19 e20 => ?_)
      replace H := H s19 e20
      refine ew_aload_n dX7_readParts_95 rfl lm0 ?_
      refine mw_gA dX7_readParts_96 (e_fl.a q1417) mf_11 rfl ?_
      refine ew_iload_n dX7_readParts_99 rfl lm1 ?_
      refine ew_iconst dX7_readParts_100 (inI_of rfl) ?_
      obtain ⟨v22, H⟩ := H
      refine ew_iadd dX7_readParts_101 v22 ?_
      refine ew_iload_n dX7_readParts_102 rfl lm3 ?_
      obtain ⟨v23, H⟩ := H
      refine ew_iadd dX7_readParts_103 v23 ?_
      obtain ⟨v24, H⟩ := H
      refine mw_iald dX7_readParts_104 rfl v24.1 v24.2 ?_
      refine ew_iconst dX7_readParts_105 (inI_of rfl) ?_
      refine ew_icmp_ne (tgt := 115) dX7_readParts_106 (by decide) (fun c25 => ?_) (fun c25 => ?_)
      · replace H := H.2 c25
        refine ew_aload_n dX7_readParts_115 rfl lm0 ?_
        refine ew_callV (d := d + 7) (as := []) rfl dX7_readParts_116 me_goesOn rfl (ci := 1) rfl rfl (mh_o _ _) (Or.inl q1602) q1604 qs58 (Nat.le_of_ble_eq_true rfl) (Nat.le_refl 0) (Nat.le_refl 0) (S_goesOn (d := d + 6) H) (fun o h' hq27 _ => ?_) (fun E i h' q _ => (mQ_no q).elim)
        obtain ⟨s26, E28, rfl, H⟩ := hq27
        cases E28
        refine ew_iload_n dX7_readParts_119 rfl lm3 ?_
        refine ew_iload_n dX7_readParts_120 rfl lm2 ?_
        refine ew_iconst dX7_readParts_121 (inI_of rfl) ?_
        obtain ⟨v29, H⟩ := H
        refine ew_isub dX7_readParts_122 v29 ?_
        refine ew_icmp_ne (tgt := 131) dX7_readParts_123 (by decide) (fun c30 => ?_) (fun c30 => ?_)
        · replace H := H.2 c30
          refine ew_bipush dX7_readParts_131 (inI_of rfl) (by decide) ?_
          refine ew_istore dX7_readParts_133 (by decide) (lv' := [(4, aI 44), (0, aR (some mT)), (1, aI x1), (2, aI x2), (3, aI x3)]) rfl ?_
          refine ew_sub (List.forall_mem_cons.mpr ⟨lm1, (List.forall_mem_cons.mpr ⟨lm2, (List.forall_mem_cons.mpr ⟨lm3, (List.forall_mem_cons.mpr ⟨lm4, (List.forall_mem_cons.mpr ⟨lm0, e_nm⟩)⟩)⟩)⟩)⟩) ?_
          refine ew_aload_n dX7_readParts_135 rfl lm0 ?_
          refine mw_gI dX7_readParts_136 (e_fl.a q1422) mf_16 rfl ?_
          refine ew_iload dX7_readParts_139 lm4 ?_
          refine ew_icmp_eq (tgt := 172) dX7_readParts_141 (by decide) (fun c31 => ?_) (fun c31 => ?_)
          · replace H := H.1 c31
            obtain ⟨v32, H⟩ := H
            refine ew_iinc dX7_readParts_172 lm3 (by decide) v32 (lv' := [(3, aI (x3 + 1)), (0, aR (some mT)), (1, aI x1), (2, aI x2), (4, aI 44)]) rfl ?_
            refine ew_sub (List.forall_mem_cons.mpr ⟨lm1, (List.forall_mem_cons.mpr ⟨lm2, (List.forall_mem_cons.mpr ⟨lm3, (List.forall_mem_cons.mpr ⟨lm0, (List.forall_mem_cons.mpr ⟨lm4, e_nm⟩)⟩)⟩)⟩)⟩) ?_
            refine ew_goto (tgt := 59) dX7_readParts_175 (by decide) ?_
            exact ew_sub (List.forall_mem_cons.mpr ⟨lm0, (List.forall_mem_cons.mpr ⟨lm1, (List.forall_mem_cons.mpr ⟨lm2, (List.forall_mem_cons.mpr ⟨lm3, e_nm⟩)⟩)⟩)⟩) H
          · replace H := H.2 c31
            refine ew_aload_n dX7_readParts_144 rfl lm0 ?_
            refine ew_aload_n dX7_readParts_145 rfl lm0 ?_
            refine mw_gI dX7_readParts_146 (e_fl.a q1422) mf_16 rfl ?_
            refine ew_bipush dX7_readParts_149 (inI_of rfl) (by decide) ?_
            refine ew_icmp_eq (tgt := 163) dX7_readParts_151 (by decide) (fun c33 => ?_) (fun c33 => ?_)
            · replace H := H.1 c33
              refine ew_iconst dX7_readParts_163 (inI_of rfl) ?_
              refine ew_goto (tgt := 168) dX7_readParts_164 (by decide) ?_
              refine ew_callV (d := d + 7) (as := [aI 5]) rfl dX7_readParts_168 me_errs rfl (ci := 1) rfl rfl (mh_o _ _) (Or.inl q1625) q1627 qs63 (Nat.le_of_ble_eq_true rfl) (Nat.le_refl 0) (Nat.le_refl 0) (S_errs (d := d + 7) H) (fun o h' hq35 _ => ?_) (fun E i h' q _ => (mQi_no q).elim)
              obtain ⟨r37, s34, E36, rfl, H⟩ := hq35
              cases E36
              obtain ⟨v38, H⟩ := H
              exact ew_ret (o := some (aI r37)) rfl ⟨_, _, rfl, rfl, H⟩ ⟨dX7_readParts_171, .boolean, rfl, Or.inr (Or.inl rfl), by rcases v38 with z | z <;> rw [z] <;> decide⟩
            · replace H := H.2 c33
              refine ew_aload_n dX7_readParts_154 rfl lm0 ?_
              refine mw_gI dX7_readParts_155 (e_fl.a q1422) mf_16 rfl ?_
              refine ew_bipush dX7_readParts_158 (inI_of rfl) (by decide) ?_
              refine ew_icmp_ne (tgt := 167) dX7_readParts_160 (by decide) (fun c39 => ?_) (fun c39 => ?_)
              · replace H := H.2 c39
                refine ew_iconst dX7_readParts_167 (inI_of rfl) ?_
                refine ew_callV (d := d + 7) (as := [aI 1]) rfl dX7_readParts_168 me_errs rfl (ci := 1) rfl rfl (mh_o _ _) (Or.inl q1625) q1627 qs63 (Nat.le_of_ble_eq_true rfl) (Nat.le_refl 0) (Nat.le_refl 0) (S_errs (d := d + 7) H) (fun o h' hq41 _ => ?_) (fun E i h' q _ => (mQi_no q).elim)
                obtain ⟨r43, s40, E42, rfl, H⟩ := hq41
                cases E42
                obtain ⟨v44, H⟩ := H
                exact ew_ret (o := some (aI r43)) rfl ⟨_, _, rfl, rfl, H⟩ ⟨dX7_readParts_171, .boolean, rfl, Or.inr (Or.inl rfl), by rcases v44 with z | z <;> rw [z] <;> decide⟩
              · replace H := H.1 c39
                refine ew_iconst dX7_readParts_163 (inI_of rfl) ?_
                refine ew_goto (tgt := 168) dX7_readParts_164 (by decide) ?_
                refine ew_callV (d := d + 7) (as := [aI 5]) rfl dX7_readParts_168 me_errs rfl (ci := 1) rfl rfl (mh_o _ _) (Or.inl q1625) q1627 qs63 (Nat.le_of_ble_eq_true rfl) (Nat.le_refl 0) (Nat.le_refl 0) (S_errs (d := d + 7) H) (fun o h' hq46 _ => ?_) (fun E i h' q _ => (mQi_no q).elim)
                obtain ⟨r48, s45, E47, rfl, H⟩ := hq46
                cases E47
                obtain ⟨v49, H⟩ := H
                exact ew_ret (o := some (aI r48)) rfl ⟨_, _, rfl, rfl, H⟩ ⟨dX7_readParts_171, .boolean, rfl, Or.inr (Or.inl rfl), by rcases v49 with z | z <;> rw [z] <;> decide⟩
        · replace H := H.1 c30
          refine ew_bipush dX7_readParts_126 (inI_of rfl) (by decide) ?_
          refine ew_goto (tgt := 133) dX7_readParts_128 (by decide) ?_
          refine ew_istore dX7_readParts_133 (by decide) (lv' := [(4, aI 41), (0, aR (some mT)), (1, aI x1), (2, aI x2), (3, aI x3)]) rfl ?_
          refine ew_sub (List.forall_mem_cons.mpr ⟨lm1, (List.forall_mem_cons.mpr ⟨lm2, (List.forall_mem_cons.mpr ⟨lm3, (List.forall_mem_cons.mpr ⟨lm4, (List.forall_mem_cons.mpr ⟨lm0, e_nm⟩)⟩)⟩)⟩)⟩) ?_
          refine ew_aload_n dX7_readParts_135 rfl lm0 ?_
          refine mw_gI dX7_readParts_136 (e_fl.a q1422) mf_16 rfl ?_
          refine ew_iload dX7_readParts_139 lm4 ?_
          refine ew_icmp_eq (tgt := 172) dX7_readParts_141 (by decide) (fun c50 => ?_) (fun c50 => ?_)
          · replace H := H.1 c50
            obtain ⟨v51, H⟩ := H
            refine ew_iinc dX7_readParts_172 lm3 (by decide) v51 (lv' := [(3, aI (x3 + 1)), (0, aR (some mT)), (1, aI x1), (2, aI x2), (4, aI 41)]) rfl ?_
            refine ew_sub (List.forall_mem_cons.mpr ⟨lm1, (List.forall_mem_cons.mpr ⟨lm2, (List.forall_mem_cons.mpr ⟨lm3, (List.forall_mem_cons.mpr ⟨lm0, (List.forall_mem_cons.mpr ⟨lm4, e_nm⟩)⟩)⟩)⟩)⟩) ?_
            refine ew_goto (tgt := 59) dX7_readParts_175 (by decide) ?_
            exact ew_sub (List.forall_mem_cons.mpr ⟨lm0, (List.forall_mem_cons.mpr ⟨lm1, (List.forall_mem_cons.mpr ⟨lm2, (List.forall_mem_cons.mpr ⟨lm3, e_nm⟩)⟩)⟩)⟩) H
          · replace H := H.2 c50
            refine ew_aload_n dX7_readParts_144 rfl lm0 ?_
            refine ew_aload_n dX7_readParts_145 rfl lm0 ?_
            refine mw_gI dX7_readParts_146 (e_fl.a q1422) mf_16 rfl ?_
            refine ew_bipush dX7_readParts_149 (inI_of rfl) (by decide) ?_
            refine ew_icmp_eq (tgt := 163) dX7_readParts_151 (by decide) (fun c52 => ?_) (fun c52 => ?_)
            · replace H := H.1 c52
              refine ew_iconst dX7_readParts_163 (inI_of rfl) ?_
              refine ew_goto (tgt := 168) dX7_readParts_164 (by decide) ?_
              refine ew_callV (d := d + 7) (as := [aI 5]) rfl dX7_readParts_168 me_errs rfl (ci := 1) rfl rfl (mh_o _ _) (Or.inl q1625) q1627 qs63 (Nat.le_of_ble_eq_true rfl) (Nat.le_refl 0) (Nat.le_refl 0) (S_errs (d := d + 7) H) (fun o h' hq54 _ => ?_) (fun E i h' q _ => (mQi_no q).elim)
              obtain ⟨r56, s53, E55, rfl, H⟩ := hq54
              cases E55
              obtain ⟨v57, H⟩ := H
              exact ew_ret (o := some (aI r56)) rfl ⟨_, _, rfl, rfl, H⟩ ⟨dX7_readParts_171, .boolean, rfl, Or.inr (Or.inl rfl), by rcases v57 with z | z <;> rw [z] <;> decide⟩
            · replace H := H.2 c52
              refine ew_aload_n dX7_readParts_154 rfl lm0 ?_
              refine mw_gI dX7_readParts_155 (e_fl.a q1422) mf_16 rfl ?_
              refine ew_bipush dX7_readParts_158 (inI_of rfl) (by decide) ?_
              refine ew_icmp_ne (tgt := 167) dX7_readParts_160 (by decide) (fun c58 => ?_) (fun c58 => ?_)
              · replace H := H.2 c58
                refine ew_iconst dX7_readParts_167 (inI_of rfl) ?_
                refine ew_callV (d := d + 7) (as := [aI 1]) rfl dX7_readParts_168 me_errs rfl (ci := 1) rfl rfl (mh_o _ _) (Or.inl q1625) q1627 qs63 (Nat.le_of_ble_eq_true rfl) (Nat.le_refl 0) (Nat.le_refl 0) (S_errs (d := d + 7) H) (fun o h' hq60 _ => ?_) (fun E i h' q _ => (mQi_no q).elim)
                obtain ⟨r62, s59, E61, rfl, H⟩ := hq60
                cases E61
                obtain ⟨v63, H⟩ := H
                exact ew_ret (o := some (aI r62)) rfl ⟨_, _, rfl, rfl, H⟩ ⟨dX7_readParts_171, .boolean, rfl, Or.inr (Or.inl rfl), by rcases v63 with z | z <;> rw [z] <;> decide⟩
              · replace H := H.1 c58
                refine ew_iconst dX7_readParts_163 (inI_of rfl) ?_
                refine ew_goto (tgt := 168) dX7_readParts_164 (by decide) ?_
                refine ew_callV (d := d + 7) (as := [aI 5]) rfl dX7_readParts_168 me_errs rfl (ci := 1) rfl rfl (mh_o _ _) (Or.inl q1625) q1627 qs63 (Nat.le_of_ble_eq_true rfl) (Nat.le_refl 0) (Nat.le_refl 0) (S_errs (d := d + 7) H) (fun o h' hq65 _ => ?_) (fun E i h' q _ => (mQi_no q).elim)
                obtain ⟨r67, s64, E66, rfl, H⟩ := hq65
                cases E66
                obtain ⟨v68, H⟩ := H
                exact ew_ret (o := some (aI r67)) rfl ⟨_, _, rfl, rfl, H⟩ ⟨dX7_readParts_171, .boolean, rfl, Or.inr (Or.inl rfl), by rcases v68 with z | z <;> rw [z] <;> decide⟩
      · replace H := H.1 c25
        refine ew_aload_n dX7_readParts_109 rfl lm0 ?_
        refine ew_iconst dX7_readParts_110 (inI_of rfl) ?_
        refine ew_callV (d := d + 7) (as := [aI 3]) rfl dX7_readParts_111 me_errs rfl (ci := 1) rfl rfl (mh_o _ _) (Or.inl q1625) q1627 qs63 (Nat.le_of_ble_eq_true rfl) (Nat.le_refl 0) (Nat.le_refl 0) (S_errs (d := d + 7) H) (fun o h' hq70 _ => ?_) (fun E i h' q _ => (mQi_no q).elim)
        obtain ⟨r72, s69, E71, rfl, H⟩ := hq70
        cases E71
        obtain ⟨v73, H⟩ := H
        exact ew_ret (o := some (aI r72)) rfl ⟨_, _, rfl, rfl, H⟩ ⟨dX7_readParts_114, .boolean, rfl, Or.inr (Or.inl rfl), by rcases v73 with z | z <;> rw [z] <;> decide⟩
    · replace H := H.1 c12
      refine ew_aload_n dX7_readParts_75 rfl lm0 ?_
      refine ew_iconst dX7_readParts_76 (inI_of rfl) ?_
      refine ew_callV (d := d + 7) (as := [aI 1]) rfl dX7_readParts_77 me_errs rfl (ci := 1) rfl rfl (mh_o _ _) (Or.inl q1625) q1627 qs63 (Nat.le_of_ble_eq_true rfl) (Nat.le_refl 0) (Nat.le_refl 0) (S_errs (d := d + 7) H) (fun o h' hq75 _ => ?_) (fun E i h' q _ => (mQi_no q).elim)
      obtain ⟨r77, s74, E76, rfl, H⟩ := hq75
      cases E76
      obtain ⟨v78, H⟩ := H
      exact ew_ret (o := some (aI r77)) rfl ⟨_, _, rfl, rfl, H⟩ ⟨dX7_readParts_80, .boolean, rfl, Or.inr (Or.inl rfl), by rcases v78 with z | z <;> rw [z] <;> decide⟩
set_option maxHeartbeats 4000000 in
theorem T_readParts_E (d : Nat) (g : AH) (K : Int → MS → Prop) (a : Int) (b : Int) (s0 : MS) (H : B_readParts_E (W_readParts_59 d g K) K a b s0) : EW mm_readParts (d + 8) 0 0 (mQi g K) 0 [(0, aR (some mT)), (1, aI a), (2, aI b)] [] (mh s0 g) := by
  refine ew_aload_n dX7_readParts_0 rfl lm0 ?_
  refine mw_gI dX7_readParts_1 (e_fl.a q1422) mf_16 rfl ?_
  refine ew_bipush dX7_readParts_4 (inI_of rfl) (by decide) ?_
  refine ew_icmp_eq (tgt := 47) dX7_readParts_6 (by decide) (fun c1 => ?_) (fun c1 => ?_)
  · replace H := H.1 c1
    refine ew_iload_n dX7_readParts_47 rfl lm2 ?_
    refine ew_if_ne (tgt := 57) dX7_readParts_48 (by decide) (fun c2 => ?_) (fun c2 => ?_)
    · replace H := H.2 c2
      refine ew_iconst dX7_readParts_57 (inI_of rfl) ?_
      refine ew_istore_n dX7_readParts_58 rfl (by decide) (lv' := [(3, aI 0), (0, aR (some mT)), (1, aI a), (2, aI b)]) rfl ?_
      refine ew_sub (List.forall_mem_cons.mpr ⟨lm1, (List.forall_mem_cons.mpr ⟨lm2, (List.forall_mem_cons.mpr ⟨lm3, (List.forall_mem_cons.mpr ⟨lm0, e_nm⟩)⟩)⟩)⟩) ?_
      exact ew_sub (List.forall_mem_cons.mpr ⟨lm0, (List.forall_mem_cons.mpr ⟨lm1, (List.forall_mem_cons.mpr ⟨lm2, (List.forall_mem_cons.mpr ⟨lm3, e_nm⟩)⟩)⟩)⟩) H
    · replace H := H.1 c2
      refine ew_aload_n dX7_readParts_51 rfl lm0 ?_
      refine ew_iconst dX7_readParts_52 (inI_of rfl) ?_
      refine ew_callV (d := d + 7) (as := [aI 5]) rfl dX7_readParts_53 me_errs rfl (ci := 1) rfl rfl (mh_o _ _) (Or.inl q1625) q1627 qs63 (Nat.le_of_ble_eq_true rfl) (Nat.le_refl 0) (Nat.le_refl 0) (S_errs (d := d + 7) H) (fun o h' hq4 _ => ?_) (fun E i h' q _ => (mQi_no q).elim)
      obtain ⟨r6, s3, E5, rfl, H⟩ := hq4
      cases E5
      obtain ⟨v7, H⟩ := H
      exact ew_ret (o := some (aI r6)) rfl ⟨_, _, rfl, rfl, H⟩ ⟨dX7_readParts_56, .boolean, rfl, Or.inr (Or.inl rfl), by rcases v7 with z | z <;> rw [z] <;> decide⟩
  · replace H := H.2 c1
    refine ew_iload_n dX7_readParts_9 rfl lm2 ?_
    refine ew_if_eq (tgt := 41) dX7_readParts_10 (by decide) (fun c8 => ?_) (fun c8 => ?_)
    · replace H := H.1 c8
      refine ew_iconst dX7_readParts_41 (inI_of rfl) ?_
      refine ew_goto (tgt := 46) dX7_readParts_42 (by decide) ?_
      exact ew_ret (o := some (aI 1)) rfl ⟨_, _, rfl, rfl, H⟩ ⟨dX7_readParts_46, .boolean, rfl, Or.inr (Or.inl rfl), by decide⟩
    · replace H := H.2 c8
      refine ew_aload_n dX7_readParts_13 rfl lm0 ?_
      refine ew_aload_n dX7_readParts_14 rfl lm0 ?_
      refine mw_gI dX7_readParts_15 (e_fl.a q1422) mf_16 rfl ?_
      refine ew_bipush dX7_readParts_18 (inI_of rfl) (by decide) ?_
      refine ew_icmp_eq (tgt := 30) dX7_readParts_20 (by decide) (fun c9 => ?_) (fun c9 => ?_)
      · replace H := H.1 c9
        refine ew_iconst dX7_readParts_30 (inI_of rfl) ?_
        refine ew_goto (tgt := 35) dX7_readParts_31 (by decide) ?_
        refine ew_callV (d := d + 7) (as := [aI 5]) rfl dX7_readParts_35 me_errs rfl (ci := 1) rfl rfl (mh_o _ _) (Or.inl q1625) q1627 qs63 (Nat.le_of_ble_eq_true rfl) (Nat.le_refl 0) (Nat.le_refl 0) (S_errs (d := d + 7) H) (fun o h' hq11 _ => ?_) (fun E i h' q _ => (mQi_no q).elim)
        obtain ⟨r13, s10, E12, rfl, H⟩ := hq11
        cases E12
        refine ew_if_eq (tgt := 45) dX7_readParts_38 (by decide) (fun c14 => ?_) (fun c14 => ?_)
        · replace H := H.1 c14
          refine ew_iconst dX7_readParts_45 (inI_of rfl) ?_
          exact ew_ret (o := some (aI 0)) rfl ⟨_, _, rfl, rfl, H⟩ ⟨dX7_readParts_46, .boolean, rfl, Or.inr (Or.inl rfl), by decide⟩
        · replace H := H.2 c14
          refine ew_iconst dX7_readParts_41 (inI_of rfl) ?_
          refine ew_goto (tgt := 46) dX7_readParts_42 (by decide) ?_
          exact ew_ret (o := some (aI 1)) rfl ⟨_, _, rfl, rfl, H⟩ ⟨dX7_readParts_46, .boolean, rfl, Or.inr (Or.inl rfl), by decide⟩
      · replace H := H.2 c9
        refine ew_aload_n dX7_readParts_23 rfl lm0 ?_
        refine mw_gI dX7_readParts_24 (e_fl.a q1422) mf_16 rfl ?_
        refine ew_if_ne (tgt := 34) dX7_readParts_27 (by decide) (fun c15 => ?_) (fun c15 => ?_)
        · replace H := H.2 c15
          refine ew_iconst dX7_readParts_34 (inI_of rfl) ?_
          refine ew_callV (d := d + 7) (as := [aI 1]) rfl dX7_readParts_35 me_errs rfl (ci := 1) rfl rfl (mh_o _ _) (Or.inl q1625) q1627 qs63 (Nat.le_of_ble_eq_true rfl) (Nat.le_refl 0) (Nat.le_refl 0) (S_errs (d := d + 7) H) (fun o h' hq17 _ => ?_) (fun E i h' q _ => (mQi_no q).elim)
          obtain ⟨r19, s16, E18, rfl, H⟩ := hq17
          cases E18
          refine ew_if_eq (tgt := 45) dX7_readParts_38 (by decide) (fun c20 => ?_) (fun c20 => ?_)
          · replace H := H.1 c20
            refine ew_iconst dX7_readParts_45 (inI_of rfl) ?_
            exact ew_ret (o := some (aI 0)) rfl ⟨_, _, rfl, rfl, H⟩ ⟨dX7_readParts_46, .boolean, rfl, Or.inr (Or.inl rfl), by decide⟩
          · replace H := H.2 c20
            refine ew_iconst dX7_readParts_41 (inI_of rfl) ?_
            refine ew_goto (tgt := 46) dX7_readParts_42 (by decide) ?_
            exact ew_ret (o := some (aI 1)) rfl ⟨_, _, rfl, rfl, H⟩ ⟨dX7_readParts_46, .boolean, rfl, Or.inr (Or.inl rfl), by decide⟩
        · replace H := H.1 c15
          refine ew_iconst dX7_readParts_30 (inI_of rfl) ?_
          refine ew_goto (tgt := 35) dX7_readParts_31 (by decide) ?_
          refine ew_callV (d := d + 7) (as := [aI 5]) rfl dX7_readParts_35 me_errs rfl (ci := 1) rfl rfl (mh_o _ _) (Or.inl q1625) q1627 qs63 (Nat.le_of_ble_eq_true rfl) (Nat.le_refl 0) (Nat.le_refl 0) (S_errs (d := d + 7) H) (fun o h' hq22 _ => ?_) (fun E i h' q _ => (mQi_no q).elim)
          obtain ⟨r24, s21, E23, rfl, H⟩ := hq22
          cases E23
          refine ew_if_eq (tgt := 45) dX7_readParts_38 (by decide) (fun c25 => ?_) (fun c25 => ?_)
          · replace H := H.1 c25
            refine ew_iconst dX7_readParts_45 (inI_of rfl) ?_
            exact ew_ret (o := some (aI 0)) rfl ⟨_, _, rfl, rfl, H⟩ ⟨dX7_readParts_46, .boolean, rfl, Or.inr (Or.inl rfl), by decide⟩
          · replace H := H.2 c25
            refine ew_iconst dX7_readParts_41 (inI_of rfl) ?_
            refine ew_goto (tgt := 46) dX7_readParts_42 (by decide) ?_
            exact ew_ret (o := some (aI 1)) rfl ⟨_, _, rfl, rfl, H⟩ ⟨dX7_readParts_46, .boolean, rfl, Or.inr (Or.inl rfl), by decide⟩
def C_readParts (a : Int) (b : Int) (s0 : MS) (K : Int → MS → Prop) : Prop := ∀ (X59 : Int → Int → Int → MS → Prop), (∀ (x1 : Int) (x2 : Int) (x3 : Int) (s0 : MS), B_readParts_59 X59 K x1 x2 x3 s0 → X59 x1 x2 x3 s0) → B_readParts_E X59 K a b s0
theorem S_readParts {d : Nat} {g : AH} {K : Int → MS → Prop} {a : Int} {b : Int} {s0 : MS} (H : C_readParts a b s0 K) : Sp mm_readParts (d + 8) 0 0 [aR (some mT), aI a, aI b] (mh s0 g) (mQi g K) :=
  ew_sp rfl (Nat.le_of_ble_eq_true rfl) (T_readParts_E d g K a b s0 (H _ (fun x1 x2 x3 s0 H => T_readParts_59 d g K x1 x2 x3 s0 H)))
