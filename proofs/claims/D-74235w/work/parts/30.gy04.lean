/-! ReasonCloser: sheet 4, by program (gen/gxn.py) -/
set_option maxRecDepth 100000
abbrev mm_X1_join : EM := (yX1_join, cX1_join, 3, (Option.some .int), [])
theorem me_X1_join : e_mth mm_X1_join 2 := ⟨rfl, q1339, q108, by decide +kernel, by decide⟩
def B_X1_join_E (K : Int → XS → Prop) (a : Int) (b : Int) (kc ks : Nat) (s0 : XS) : Prop :=
  ((1 ≤ kc ∧ 2 ≤ ks) ∧ (C_X1_isTerm 2 (iup (iup (fun _ => 0) 0 a) 1 b) s0 (fun r2 => ((r2 = 0 → (C_X1_refused 1 s0 (fun r44 s45 => K r44 s45))) ∧ (¬ r2 = 0 → (C_X1_sames s0 (fun r7 => ((r7 = 12 → (C_X1_refused 3 s0 (fun r40 s41 => K r40 s41))) ∧ (¬ r7 = 12 → (C_X1_acts 0 s0 (fun s13 => ((s13.1.1 42 = s13.1.1 32 ∧ 1 ≤ (kc - 1) ∧ 2 ≤ (ks - 2)) ∧ ((s13.1.1 42 = s13.1.1 32) ∧ ((0 ≤ s13.1.1 32 ∧ s13.1.1 42 = s13.1.1 32 ∧ 0 ≤ s13.1.1 52 ∧ xok s13 2 ∧ 0 < xcap 2 (s13.1.1 52).toNat ∧ (-1000000 ≤ s13.1.1 72 ∧ s13.1.1 72 ≤ 1000000) ∧ 1 ≤ ((kc - 1) - 1) ∧ al_N (xcap 2 (s13.1.1 52).toNat) ≤ ((ks - 2) - 2)) ∧ ∀ s19 : XS, s19 = (yf2 s13.1 a b, s13.2) → (C_X1_sames s19 (fun r21 => ((inI (r21 - 1)) ∧ (∃ mc30c mc30s, mc30c ≤ (((kc - 1) - 1) - 1) ∧ mc30s ≤ (((ks - 2) - 2) - al_N (xcap 2 (s13.1.1 52).toNat)) ∧ C_X4_same_N mc30c mc30s a b (r21 - 1) s19 (fun s27 => (C_X3_groups_G 4 s27 (fun r32 => (C_X1_fine r32 s27 (fun r36 s37 => K r36 s37)))))))))))))))))))))))
set_option maxHeartbeats 4000000 in
theorem T_X1_join_E (d : Nat) (V : XV) (g : AH) (hg : xf 46 g) (hr : xfree V g) (K : Int → XS → Prop) (a : Int) (b : Int) (kc ks : Nat) (s0 : XS) (H : B_X1_join_E K a b kc ks s0) : EW mm_X1_join (d + 46) kc ks (tQi V g K) 0 [(0, aR (some xT)), (1, aI a), (2, aI b)] [] (xh V s0 g) := by
  refine ew_aload_n dX1_join_0 rfl lm0 ?_
  refine ew_iconst dX1_join_1 (inI_of rfl) ?_
  obtain ⟨v1, H⟩ := H
  refine ew_newIB (t := 0) (N := 2) (i := (1, 46, 0)) dX1_join_2 rfl (by decide) q302 rfl (by decide) ((xh_g (xC_1 rfl)).trans (hg _ rfl (Nat.le_refl _))) (by decide) v1.1 v1.2 ?_
  rw [xh_upg (xC_1 rfl)]
  refine ew_dup dX1_join_4 rfl ?_
  refine ew_iconst dX1_join_5 (inI_of rfl) ?_
  refine ew_iload_n dX1_join_6 rfl lm1 ?_
  refine ew_iast dX1_join_7 ((xh_g (xC_1 rfl)).trans (hup_self _ _ _)) (by decide) (by decide) ?_
  rw [xh_upg (xC_1 rfl), hup_hup]
  refine ew_dup dX1_join_8 rfl ?_
  refine ew_iconst dX1_join_9 (inI_of rfl) ?_
  refine ew_iload_n dX1_join_10 rfl lm2 ?_
  refine ew_iast dX1_join_11 ((xh_g (xC_1 rfl)).trans (hup_self _ _ _)) (by decide) (by decide) ?_
  rw [xh_upg (xC_1 rfl), hup_hup]
  refine ew_callV (d := d + 45) (as := [aR (some (1, 46, 0))]) rfl dX1_join_12 me_X1_isTerm rfl (ci := 0) rfl rfl xh_x (Or.inl q1081) q1083 qs29 (Nat.le_of_ble_eq_true rfl) (Nat.zero_le _) (Nat.zero_le _) (S_X1_isTerm (d := d + 43) ((xh_g (xC_1 rfl)).trans (hup_self _ _ _)) (by decide) H) (fun o h' hq4 _ => ?_) (fun E i h' q _ => (cQ_no q).elim)
  obtain ⟨r2, E5, rfl, H⟩ := hq4
  cases E5
  refine ew_if_ne (tgt := 24) dX1_join_15 (by decide) (fun c6 => ?_) (fun c6 => ?_)
  · replace H := H.2 c6
    refine ew_aload_n dX1_join_24 rfl lm0 ?_
    refine ew_callV (d := d + 45) (as := []) rfl dX1_join_25 me_X1_sames rfl (ci := 0) rfl rfl xh_x (Or.inl q1052) q1054 qs26 (Nat.le_of_ble_eq_true rfl) (Nat.zero_le _) (Nat.zero_le _) (S_X1_sames (d := d + 44) H) (fun o h' hq9 _ => ?_) (fun E i h' q _ => (cQ_no q).elim)
    obtain ⟨r7, E10, rfl, H⟩ := hq9
    cases E10
    refine ew_bipush dX1_join_28 (inI_of rfl) (by decide) ?_
    refine ew_icmp_ne (tgt := 39) dX1_join_30 (by decide) (fun c11 => ?_) (fun c11 => ?_)
    · replace H := H.2 c11
      refine ew_aload_n dX1_join_39 rfl lm0 ?_
      refine ew_iconst dX1_join_40 (inI_of rfl) ?_
      refine ew_callV (d := d + 45) (as := [aI 0]) rfl dX1_join_41 me_X1_acts rfl (ci := 0) rfl rfl xh_x (Or.inl q1340) q1342 qs52 (Nat.le_of_ble_eq_true rfl) (Nat.zero_le _) (Nat.zero_le _) (S_X1_acts (d := d + 44) H) (fun o h' hq14 _ => ?_) (fun E i h' q _ => (xQv_no q).elim)
      obtain ⟨s13, E15, rfl, H⟩ := hq14
      cases E15
      refine ew_aload_n dX1_join_44 rfl lm0 ?_
      refine xw_get (v := aR (some (bI V 1 0))) dX1_join_45 (e_fl.a q333) xf_5 rfl ?_
      refine xw_book dX1_join_48 (e_fl.c q194) bf_2 ?_
      obtain ⟨v16, H⟩ := H
      refine nf_new2 dX1_join_51 q1022 v16.1 (hr.hup rfl) v16.2.1 v16.2.2 ?_
      refine ew_dup dX1_join_54 rfl ?_
      refine ew_iload_n dX1_join_55 rfl lm1 ?_
      refine ew_iload_n dX1_join_56 rfl lm2 ?_
      obtain ⟨v17, H⟩ := H
      refine nf_init2 (d := d + 44) dX1_join_57 q1344 v17 (Nat.le_of_ble_eq_true rfl) ?_
      obtain ⟨v18, H⟩ := H
      refine nf_add2 (d := d + 39) dX1_join_60 q1346 v18.1 v18.2.1 v18.2.2.1 v18.2.2.2.1 v18.2.2.2.2.1 v18.2.2.2.2.2.1 (hr.hup rfl) (Nat.le_of_ble_eq_true rfl) v18.2.2.2.2.2.2.1 v18.2.2.2.2.2.2.2 (fun s19 e20 => ?_)
      replace H := H s19 e20
      refine ew_pop dX1_join_65 rfl ?_
      refine ew_aload_n dX1_join_66 rfl lm0 ?_
      refine xw_get (v := aR (some (sI V 4 99))) dX1_join_67 (e_fl.a q334) xf_6 rfl ?_
      refine ew_iload_n dX1_join_70 rfl lm1 ?_
      refine ew_iload_n dX1_join_71 rfl lm2 ?_
      refine ew_aload_n dX1_join_72 rfl lm0 ?_
      refine ew_callV (d := d + 45) (as := []) rfl dX1_join_73 me_X1_sames rfl (ci := 0) rfl rfl xh_x (Or.inl q1052) q1054 qs26 (Nat.le_of_ble_eq_true rfl) (Nat.zero_le _) (Nat.zero_le _) (S_X1_sames (d := d + 44) H) (fun o h' hq23 _ => ?_) (fun E i h' q _ => (cQ_no q).elim)
      obtain ⟨r21, E24, rfl, H⟩ := hq23
      cases E24
      refine ew_iconst dX1_join_76 (inI_of rfl) ?_
      obtain ⟨v25, H⟩ := H
      refine ew_isub dX1_join_77 v25 ?_
      obtain ⟨mc30c, mc30s, hm31c, hm31s, H⟩ := H
      refine ew_callY (x := ⟨"ReasonCloser$Reasons", "same", "(III)V"⟩) (d := d + 45) (as := [aI a, aI b, aI (r21 - 1)]) rfl dX1_join_78 me_X4_same rfl (by decide) rfl q1023 q1024 (ysel5_4 (P := fun c => Cond.selects c _ _ ∈ lw_all) q1026) q1027 (Or.inl q1025) (by decide) (Nat.le_of_ble_eq_true rfl) hm31c hm31s (S_X4_same_N (d := d + 0) (ht_of (hr.hup rfl)) H) (fun o h' hq28 _ => ?_) (fun E i h' q _ => (xQv_no q).elim)
      obtain ⟨s27, E29, rfl, H⟩ := hq28
      cases E29
      refine ew_aload_n dX1_join_81 rfl lm0 ?_
      refine ew_aload_n dX1_join_82 rfl lm0 ?_
      refine xw_get (v := aR (some (sI V 4 99))) dX1_join_83 (e_fl.a q334) xf_6 rfl ?_
      refine ew_callY (x := ⟨"ReasonCloser$Reasons", "groups", "()I"⟩) (d := d + 45) (as := []) rfl dX1_join_86 me_X3_groups rfl (by decide) rfl q1056 q1057 (ysel5_4 (P := fun c => Cond.selects c _ _ ∈ lw_all) q1059) q1060 (Or.inl q1058) (by decide) (Nat.le_of_ble_eq_true rfl) (Nat.zero_le _) (Nat.zero_le _) (S_X3_groups_G (d := d + 45) (by decide) H) (fun o h' hq34 _ => ?_) (fun E i h' q _ => (cQ_no q).elim)
      obtain ⟨r32, E35, rfl, H⟩ := hq34
      cases E35
      refine ew_callV (d := d + 45) (as := [aI r32]) rfl dX1_join_89 me_X1_fine rfl (ci := 0) rfl rfl xh_x (Or.inl q1032) q1034 qs24 (Nat.le_of_ble_eq_true rfl) (Nat.zero_le _) (Nat.zero_le _) (S_X1_fine (d := d + 45) H) (fun o h' hq38 _ => ?_) (fun E i h' q _ => (xQi_no q).elim)
      obtain ⟨r36, s37, E39, rfl, H⟩ := hq38
      cases E39
      exact ew_ret (o := some (aI r36)) rfl ⟨_, _, _, rfl, rfl, (eX.hup eX.rf rfl (hg _ rfl (Nat.le_refl _))), H⟩ ⟨dX1_join_92, .int, rfl, Or.inl rfl, rfl⟩
    · replace H := H.1 c11
      refine ew_aload_n dX1_join_33 rfl lm0 ?_
      refine ew_iconst dX1_join_34 (inI_of rfl) ?_
      refine ew_callV (d := d + 45) (as := [aI 3]) rfl dX1_join_35 me_X1_refused rfl (ci := 0) rfl rfl xh_x (Or.inl q406) q408 qs1 (Nat.le_of_ble_eq_true rfl) (Nat.zero_le _) (Nat.zero_le _) (S_X1_refused (d := d + 45) H) (fun o h' hq42 _ => ?_) (fun E i h' q _ => (xQi_no q).elim)
      obtain ⟨r40, s41, E43, rfl, H⟩ := hq42
      cases E43
      exact ew_ret (o := some (aI r40)) rfl ⟨_, _, _, rfl, rfl, (eX.hup eX.rf rfl (hg _ rfl (Nat.le_refl _))), H⟩ ⟨dX1_join_38, .int, rfl, Or.inl rfl, rfl⟩
  · replace H := H.1 c6
    refine ew_aload_n dX1_join_18 rfl lm0 ?_
    refine ew_iconst dX1_join_19 (inI_of rfl) ?_
    refine ew_callV (d := d + 45) (as := [aI 1]) rfl dX1_join_20 me_X1_refused rfl (ci := 0) rfl rfl xh_x (Or.inl q406) q408 qs1 (Nat.le_of_ble_eq_true rfl) (Nat.zero_le _) (Nat.zero_le _) (S_X1_refused (d := d + 45) H) (fun o h' hq46 _ => ?_) (fun E i h' q _ => (xQi_no q).elim)
    obtain ⟨r44, s45, E47, rfl, H⟩ := hq46
    cases E47
    exact ew_ret (o := some (aI r44)) rfl ⟨_, _, _, rfl, rfl, (eX.hup eX.rf rfl (hg _ rfl (Nat.le_refl _))), H⟩ ⟨dX1_join_23, .int, rfl, Or.inl rfl, rfl⟩
def C_X1_join (kc ks : Nat) (a : Int) (b : Int) (s0 : XS) (K : Int → XS → Prop) : Prop := B_X1_join_E K a b kc ks s0
theorem S_X1_join {d : Nat} {V : XV} {g : AH} {K : Int → XS → Prop} {a : Int} {b : Int} {kc ks : Nat} {s0 : XS} (hg : xf 46 g) (hr : xfree V g) (H : C_X1_join kc ks a b s0 K) : Sp mm_X1_join (d + 46) kc ks [aR (some xT), aI a, aI b] (xh V s0 g) (xQi V g K) :=
  Sp.forget hr tQi_x (ew_sp rfl (Nat.le_of_ble_eq_true rfl) (T_X1_join_E d V g hg hr K a b kc ks s0 (H )))
abbrev mm_X1_part : EM := (yX1_part, cX1_part, 3, (Option.some .int), [])
theorem me_X1_part : e_mth mm_X1_part 2 := ⟨rfl, q1350, q108, by decide +kernel, by decide⟩
def B_X1_part_E (K : Int → XS → Prop) (a : Int) (b : Int) (kc ks : Nat) (s0 : XS) : Prop :=
  ((1 ≤ kc ∧ 2 ≤ ks) ∧ (C_X1_isTerm 2 (iup (iup (fun _ => 0) 0 a) 1 b) s0 (fun r2 => ((r2 = 0 → (C_X1_refused 1 s0 (fun r34 s35 => K r34 s35))) ∧ (¬ r2 = 0 → (((s0.1.1 33) = 8 → (C_X1_refused 3 s0 (fun r30 s31 => K r30 s31))) ∧ (¬ (s0.1.1 33) = 8 → (C_X1_acts 1 s0 (fun s9 => ((s9.1.1 43 = s9.1.1 33 ∧ 1 ≤ (kc - 1) ∧ 2 ≤ (ks - 2)) ∧ ((s9.1.1 43 = s9.1.1 33) ∧ ((0 ≤ s9.1.1 33 ∧ s9.1.1 43 = s9.1.1 33 ∧ 0 ≤ s9.1.1 53 ∧ xok s9 3 ∧ 0 < xcap 3 (s9.1.1 53).toNat ∧ (-1000000 ≤ s9.1.1 73 ∧ s9.1.1 73 ≤ 1000000) ∧ 1 ≤ ((kc - 1) - 1) ∧ al_N (xcap 3 (s9.1.1 53).toNat) ≤ ((ks - 2) - 2)) ∧ ∀ s15 : XS, s15 = (yf3 s9.1 a b, s9.2) → (C_X3_areOne_G a b 4 s15 (fun r17 => ((r17 = 0 → (C_X1_fine 0 s15 (fun r22 s23 => K r22 s23))) ∧ (¬ r17 = 0 → (C_X1_fine 1 s15 (fun r26 s27 => K r26 s27))))))))))))))))))
set_option maxHeartbeats 4000000 in
theorem T_X1_part_E (d : Nat) (V : XV) (g : AH) (hg : xf 7 g) (hr : xfree V g) (K : Int → XS → Prop) (a : Int) (b : Int) (kc ks : Nat) (s0 : XS) (H : B_X1_part_E K a b kc ks s0) : EW mm_X1_part (d + 7) kc ks (tQi V g K) 0 [(0, aR (some xT)), (1, aI a), (2, aI b)] [] (xh V s0 g) := by
  refine ew_aload_n dX1_part_0 rfl lm0 ?_
  refine ew_iconst dX1_part_1 (inI_of rfl) ?_
  obtain ⟨v1, H⟩ := H
  refine ew_newIB (t := 0) (N := 2) (i := (1, 7, 0)) dX1_part_2 rfl (by decide) q302 rfl (by decide) ((xh_g (xC_1 rfl)).trans (hg _ rfl (Nat.le_refl _))) (by decide) v1.1 v1.2 ?_
  rw [xh_upg (xC_1 rfl)]
  refine ew_dup dX1_part_4 rfl ?_
  refine ew_iconst dX1_part_5 (inI_of rfl) ?_
  refine ew_iload_n dX1_part_6 rfl lm1 ?_
  refine ew_iast dX1_part_7 ((xh_g (xC_1 rfl)).trans (hup_self _ _ _)) (by decide) (by decide) ?_
  rw [xh_upg (xC_1 rfl), hup_hup]
  refine ew_dup dX1_part_8 rfl ?_
  refine ew_iconst dX1_part_9 (inI_of rfl) ?_
  refine ew_iload_n dX1_part_10 rfl lm2 ?_
  refine ew_iast dX1_part_11 ((xh_g (xC_1 rfl)).trans (hup_self _ _ _)) (by decide) (by decide) ?_
  rw [xh_upg (xC_1 rfl), hup_hup]
  refine ew_callV (d := d + 6) (as := [aR (some (1, 7, 0))]) rfl dX1_part_12 me_X1_isTerm rfl (ci := 0) rfl rfl xh_x (Or.inl q1081) q1083 qs29 (Nat.le_of_ble_eq_true rfl) (Nat.zero_le _) (Nat.zero_le _) (S_X1_isTerm (d := d + 4) ((xh_g (xC_1 rfl)).trans (hup_self _ _ _)) (by decide) H) (fun o h' hq4 _ => ?_) (fun E i h' q _ => (cQ_no q).elim)
  obtain ⟨r2, E5, rfl, H⟩ := hq4
  cases E5
  refine ew_if_ne (tgt := 24) dX1_part_15 (by decide) (fun c6 => ?_) (fun c6 => ?_)
  · replace H := H.2 c6
    refine ew_aload_n dX1_part_24 rfl lm0 ?_
    refine xw_get (v := aR (some (bI V 1 0))) dX1_part_25 (e_fl.a q333) xf_5 rfl ?_
    refine xw_book dX1_part_28 (e_fl.c q197) bf_3 ?_
    refine lw_size (d := d + 6) (j := 3) dX1_part_31 (by decide) q1030 (Nat.le_of_ble_eq_true rfl) ?_
    refine ew_bipush dX1_part_36 (inI_of rfl) (by decide) ?_
    refine ew_icmp_ne (tgt := 47) dX1_part_38 (by decide) (fun c7 => ?_) (fun c7 => ?_)
    · replace H := H.2 c7
      refine ew_aload_n dX1_part_47 rfl lm0 ?_
      refine ew_iconst dX1_part_48 (inI_of rfl) ?_
      refine ew_callV (d := d + 6) (as := [aI 1]) rfl dX1_part_49 me_X1_acts rfl (ci := 0) rfl rfl xh_x (Or.inl q1340) q1342 qs52 (Nat.le_of_ble_eq_true rfl) (Nat.zero_le _) (Nat.zero_le _) (S_X1_acts (d := d + 5) H) (fun o h' hq10 _ => ?_) (fun E i h' q _ => (xQv_no q).elim)
      obtain ⟨s9, E11, rfl, H⟩ := hq10
      cases E11
      refine ew_aload_n dX1_part_52 rfl lm0 ?_
      refine xw_get (v := aR (some (bI V 1 0))) dX1_part_53 (e_fl.a q333) xf_5 rfl ?_
      refine xw_book dX1_part_56 (e_fl.c q197) bf_3 ?_
      obtain ⟨v12, H⟩ := H
      refine nf_new3 dX1_part_59 q1022 v12.1 (hr.hup rfl) v12.2.1 v12.2.2 ?_
      refine ew_dup dX1_part_62 rfl ?_
      refine ew_iload_n dX1_part_63 rfl lm1 ?_
      refine ew_iload_n dX1_part_64 rfl lm2 ?_
      obtain ⟨v13, H⟩ := H
      refine nf_init3 (d := d + 5) dX1_part_65 q1344 v13 (Nat.le_of_ble_eq_true rfl) ?_
      obtain ⟨v14, H⟩ := H
      refine nf_add3 (d := d + 0) dX1_part_68 q1346 v14.1 v14.2.1 v14.2.2.1 v14.2.2.2.1 v14.2.2.2.2.1 v14.2.2.2.2.2.1 (hr.hup rfl) (Nat.le_of_ble_eq_true rfl) v14.2.2.2.2.2.2.1 v14.2.2.2.2.2.2.2 (fun s15 e16 => ?_)
      replace H := H s15 e16
      refine ew_pop dX1_part_73 rfl ?_
      refine ew_aload_n dX1_part_74 rfl lm0 ?_
      refine ew_aload_n dX1_part_75 rfl lm0 ?_
      refine xw_get (v := aR (some (sI V 4 99))) dX1_part_76 (e_fl.a q334) xf_6 rfl ?_
      refine ew_iload_n dX1_part_79 rfl lm1 ?_
      refine ew_iload_n dX1_part_80 rfl lm2 ?_
      refine ew_callY (x := ⟨"ReasonCloser$Reasons", "areOne", "(II)Z"⟩) (d := d + 6) (as := [aI a, aI b]) rfl dX1_part_81 me_X3_areOne rfl (by decide) rfl q1085 q1086 (ysel5_4 (P := fun c => Cond.selects c _ _ ∈ lw_all) q1087) q981 (Or.inl q978) (by decide) (Nat.le_of_ble_eq_true rfl) (Nat.zero_le _) (Nat.zero_le _) (S_X3_areOne_G (d := d + 6) (by decide) H) (fun o h' hq19 _ => ?_) (fun E i h' q _ => (cQ_no q).elim)
      obtain ⟨r17, E20, rfl, H⟩ := hq19
      cases E20
      refine ew_if_eq (tgt := 91) dX1_part_84 (by decide) (fun c21 => ?_) (fun c21 => ?_)
      · replace H := H.1 c21
        refine ew_iconst dX1_part_91 (inI_of rfl) ?_
        refine ew_callV (d := d + 6) (as := [aI 0]) rfl dX1_part_92 me_X1_fine rfl (ci := 0) rfl rfl xh_x (Or.inl q1032) q1034 qs24 (Nat.le_of_ble_eq_true rfl) (Nat.zero_le _) (Nat.zero_le _) (S_X1_fine (d := d + 6) H) (fun o h' hq24 _ => ?_) (fun E i h' q _ => (xQi_no q).elim)
        obtain ⟨r22, s23, E25, rfl, H⟩ := hq24
        cases E25
        exact ew_ret (o := some (aI r22)) rfl ⟨_, _, _, rfl, rfl, (eX.hup eX.rf rfl (hg _ rfl (Nat.le_refl _))), H⟩ ⟨dX1_part_95, .int, rfl, Or.inl rfl, rfl⟩
      · replace H := H.2 c21
        refine ew_iconst dX1_part_87 (inI_of rfl) ?_
        refine ew_goto (tgt := 92) dX1_part_88 (by decide) ?_
        refine ew_callV (d := d + 6) (as := [aI 1]) rfl dX1_part_92 me_X1_fine rfl (ci := 0) rfl rfl xh_x (Or.inl q1032) q1034 qs24 (Nat.le_of_ble_eq_true rfl) (Nat.zero_le _) (Nat.zero_le _) (S_X1_fine (d := d + 6) H) (fun o h' hq28 _ => ?_) (fun E i h' q _ => (xQi_no q).elim)
        obtain ⟨r26, s27, E29, rfl, H⟩ := hq28
        cases E29
        exact ew_ret (o := some (aI r26)) rfl ⟨_, _, _, rfl, rfl, (eX.hup eX.rf rfl (hg _ rfl (Nat.le_refl _))), H⟩ ⟨dX1_part_95, .int, rfl, Or.inl rfl, rfl⟩
    · replace H := H.1 c7
      refine ew_aload_n dX1_part_41 rfl lm0 ?_
      refine ew_iconst dX1_part_42 (inI_of rfl) ?_
      refine ew_callV (d := d + 6) (as := [aI 3]) rfl dX1_part_43 me_X1_refused rfl (ci := 0) rfl rfl xh_x (Or.inl q406) q408 qs1 (Nat.le_of_ble_eq_true rfl) (Nat.zero_le _) (Nat.zero_le _) (S_X1_refused (d := d + 6) H) (fun o h' hq32 _ => ?_) (fun E i h' q _ => (xQi_no q).elim)
      obtain ⟨r30, s31, E33, rfl, H⟩ := hq32
      cases E33
      exact ew_ret (o := some (aI r30)) rfl ⟨_, _, _, rfl, rfl, (eX.hup eX.rf rfl (hg _ rfl (Nat.le_refl _))), H⟩ ⟨dX1_part_46, .int, rfl, Or.inl rfl, rfl⟩
  · replace H := H.1 c6
    refine ew_aload_n dX1_part_18 rfl lm0 ?_
    refine ew_iconst dX1_part_19 (inI_of rfl) ?_
    refine ew_callV (d := d + 6) (as := [aI 1]) rfl dX1_part_20 me_X1_refused rfl (ci := 0) rfl rfl xh_x (Or.inl q406) q408 qs1 (Nat.le_of_ble_eq_true rfl) (Nat.zero_le _) (Nat.zero_le _) (S_X1_refused (d := d + 6) H) (fun o h' hq36 _ => ?_) (fun E i h' q _ => (xQi_no q).elim)
    obtain ⟨r34, s35, E37, rfl, H⟩ := hq36
    cases E37
    exact ew_ret (o := some (aI r34)) rfl ⟨_, _, _, rfl, rfl, (eX.hup eX.rf rfl (hg _ rfl (Nat.le_refl _))), H⟩ ⟨dX1_part_23, .int, rfl, Or.inl rfl, rfl⟩
def C_X1_part (kc ks : Nat) (a : Int) (b : Int) (s0 : XS) (K : Int → XS → Prop) : Prop := B_X1_part_E K a b kc ks s0
theorem S_X1_part {d : Nat} {V : XV} {g : AH} {K : Int → XS → Prop} {a : Int} {b : Int} {kc ks : Nat} {s0 : XS} (hg : xf 7 g) (hr : xfree V g) (H : C_X1_part kc ks a b s0 K) : Sp mm_X1_part (d + 7) kc ks [aR (some xT), aI a, aI b] (xh V s0 g) (xQi V g K) :=
  Sp.forget hr tQi_x (ew_sp rfl (Nat.le_of_ble_eq_true rfl) (T_X1_part_E d V g hg hr K a b kc ks s0 (H )))
abbrev mm_X2_function : EM := (yX2_function, cX2_function, 4, (Option.some .int), [])
theorem me_X2_function : e_mth mm_X2_function 1 := ⟨rfl, q684, q109, by decide +kernel, by decide⟩
def B_X2_function_2 (X2 : Int → Int → Prop) (K : Int → Prop) (x1 : Int) (x3 : Int) (s0 : XS) : Prop :=
  (((s0.1.1 30) ≤ x3 → K (-1)) ∧ (¬ (s0.1.1 30) ≤ x3 → (((0 ≤ x3 ∧ x3 < s0.1.1 30) ∧ xok s0 0) ∧ ((0 ≤ x3 ∧ x3 < s0.1.1 40) ∧ ((0 ≤ x3 ∧ x3 < s0.1.1 40) ∧ (((s0.1.2 30 x3) = x1 → K x3) ∧ (¬ (s0.1.2 30 x3) = x1 → (inI (x3 + 1) ∧ X2 x1 (x3 + 1)))))))))
def B_X2_function_E (X2 : Int → Int → Prop) (K : Int → Prop) (a : Int) (s0 : XS) : Prop :=
  X2 a 0
def W_X2_function_2 (d : Nat) (V : XV) (g : AH) (s0 : XS) (K : Int → Prop) (x1 : Int) (x3 : Int) : Prop := EW mm_X2_function (d + 3) 0 0 (cQ (xh V s0 g) K) 2 [(0, aR (some (bI V 1 0))), (1, aL x1), (3, aI x3)] [] (xh V s0 g)
set_option maxHeartbeats 4000000 in
theorem T_X2_function_2 (d : Nat) (V : XV) (g : AH) (K : Int → Prop) (x1 : Int) (x3 : Int) (s0 : XS) (H : B_X2_function_2 (W_X2_function_2 d V g s0 K) K x1 x3 s0) : EW mm_X2_function (d + 3) 0 0 (cQ (xh V s0 g) K) 2 [(0, aR (some (bI V 1 0))), (1, aL x1), (3, aI x3)] [] (xh V s0 g) := by
  refine ew_iload_n dX2_function_2 rfl lm2 ?_
  refine ew_aload_n dX2_function_3 rfl lm0 ?_
  refine xw_book dX2_function_4 (e_fl.a q187) bf_0 ?_
  refine lw_size (d := d + 2) (j := 0) dX2_function_7 (by decide) q686 (Nat.le_of_ble_eq_true rfl) ?_
  refine ew_icmp_ge (tgt := 44) dX2_function_12 (by decide) (fun c1 => ?_) (fun c1 => ?_)
  · replace H := H.1 c1
    refine ew_iconst dX2_function_44 (inI_of rfl) ?_
    exact ew_ret (o := some (aI (-1))) rfl ⟨_, rfl, rfl, H⟩ ⟨dX2_function_45, .int, rfl, Or.inl rfl, rfl⟩
  · replace H := H.2 c1
    refine ew_aload_n dX2_function_15 rfl lm0 ?_
    refine xw_book dX2_function_16 (e_fl.a q187) bf_0 ?_
    refine ew_iload_n dX2_function_19 rfl lm2 ?_
    obtain ⟨v2, H⟩ := H
    refine lw_g0 (d := d + 0) dX2_function_20 q688 (Nat.le_of_ble_eq_true rfl) v2.1 v2.2 ?_
    obtain ⟨v3, H⟩ := H
    refine cf_cast (f := x3) dX2_function_25 q704 v3 ?_
    obtain ⟨v4, H⟩ := H
    refine gf_0 (f := x3) dX2_function_28 (e_fl.c q717) ff_0 v4 ?_
    refine ew_lload_n dX2_function_31 rfl lm1 ?_
    refine ew_lcmp dX2_function_32 ?_
    refine ew_if_ne (tgt := 38) dX2_function_33 (by decide) (fun c5 => ?_) (fun c5 => ?_)
    · replace H := H.2 (fun z => c5 (jl_eq.mpr z))
      obtain ⟨v6, H⟩ := H
      refine ew_iinc dX2_function_38 lm2 (by decide) v6 (lv' := [(3, aI (x3 + 1)), (0, aR (some (bI V 1 0))), (1, aL x1)]) rfl ?_
      refine ew_sub (List.forall_mem_cons.mpr ⟨lm1, (List.forall_mem_cons.mpr ⟨lm2, (List.forall_mem_cons.mpr ⟨lm0, e_nm⟩)⟩)⟩) ?_
      refine ew_goto (tgt := 2) dX2_function_41 (by decide) ?_
      exact ew_room (Nat.le_refl _) (Nat.zero_le _) (Nat.zero_le _) (ew_sub (List.forall_mem_cons.mpr ⟨lm0, (List.forall_mem_cons.mpr ⟨lm1, (List.forall_mem_cons.mpr ⟨lm2, e_nm⟩)⟩)⟩) H)
    · replace H := H.1 (jl_eq.mp c5)
      refine ew_iload_n dX2_function_36 rfl lm2 ?_
      exact ew_ret (o := some (aI x3)) rfl ⟨_, rfl, rfl, H⟩ ⟨dX2_function_37, .int, rfl, Or.inl rfl, rfl⟩
set_option maxHeartbeats 4000000 in
theorem T_X2_function_E (d : Nat) (V : XV) (g : AH) (K : Int → Prop) (a : Int) (s0 : XS) (H : B_X2_function_E (W_X2_function_2 d V g s0 K) K a s0) : EW mm_X2_function (d + 3) 0 0 (cQ (xh V s0 g) K) 0 [(0, aR (some (bI V 1 0))), (1, aL a)] [] (xh V s0 g) := by
  refine ew_iconst dX2_function_0 (inI_of rfl) ?_
  refine ew_istore_n dX2_function_1 rfl (by decide) (lv' := [(3, aI 0), (0, aR (some (bI V 1 0))), (1, aL a)]) rfl ?_
  refine ew_sub (List.forall_mem_cons.mpr ⟨lm1, (List.forall_mem_cons.mpr ⟨lm2, (List.forall_mem_cons.mpr ⟨lm0, e_nm⟩)⟩)⟩) ?_
  exact ew_room (Nat.le_refl _) (Nat.zero_le _) (Nat.zero_le _) (ew_sub (List.forall_mem_cons.mpr ⟨lm0, (List.forall_mem_cons.mpr ⟨lm1, (List.forall_mem_cons.mpr ⟨lm2, e_nm⟩)⟩)⟩) H)
def C_X2_function (a : Int) (s0 : XS) (K : Int → Prop) : Prop := ∀ (X2 : Int → Int → Prop), (∀ (x1 : Int) (x3 : Int), B_X2_function_2 X2 K x1 x3 s0 → X2 x1 x3) → B_X2_function_E X2 K a s0
theorem S_X2_function {d : Nat} {V : XV} {g : AH} {K : Int → Prop} {a : Int} {s0 : XS} (H : C_X2_function a s0 K) : Sp mm_X2_function (d + 3) 0 0 [aR (some (bI V 1 0)), aL a] (xh V s0 g) (cQ (xh V s0 g) K) :=
  ew_sp rfl (Nat.le_of_ble_eq_true rfl) (T_X2_function_E d V g K a s0 (H _ (fun x1 x3 H => T_X2_function_2 d V g K x1 x3 s0 H)))
abbrev mm_X2_term : EM := (yX2_term, cX2_term, 4, (Option.some .int), [])
theorem me_X2_term : e_mth mm_X2_term 1 := ⟨rfl, q708, q109, by decide +kernel, by decide⟩
def B_X2_term_2 (X2 : Int → Int → Prop) (K : Int → Prop) (x1 : Int) (x3 : Int) (s0 : XS) : Prop :=
  (((s0.1.1 31) ≤ x3 → K (-1)) ∧ (¬ (s0.1.1 31) ≤ x3 → (((0 ≤ x3 ∧ x3 < s0.1.1 31) ∧ xok s0 1) ∧ ((0 ≤ x3 ∧ x3 < s0.1.1 41) ∧ ((0 ≤ x3 ∧ x3 < s0.1.1 41) ∧ (((s0.1.2 32 x3) = x1 → K x3) ∧ (¬ (s0.1.2 32 x3) = x1 → (inI (x3 + 1) ∧ X2 x1 (x3 + 1)))))))))
def B_X2_term_E (X2 : Int → Int → Prop) (K : Int → Prop) (a : Int) (s0 : XS) : Prop :=
  X2 a 0
def W_X2_term_2 (d : Nat) (V : XV) (g : AH) (s0 : XS) (K : Int → Prop) (x1 : Int) (x3 : Int) : Prop := EW mm_X2_term (d + 3) 0 0 (cQ (xh V s0 g) K) 2 [(0, aR (some (bI V 1 0))), (1, aL x1), (3, aI x3)] [] (xh V s0 g)
set_option maxHeartbeats 4000000 in
theorem T_X2_term_2 (d : Nat) (V : XV) (g : AH) (K : Int → Prop) (x1 : Int) (x3 : Int) (s0 : XS) (H : B_X2_term_2 (W_X2_term_2 d V g s0 K) K x1 x3 s0) : EW mm_X2_term (d + 3) 0 0 (cQ (xh V s0 g) K) 2 [(0, aR (some (bI V 1 0))), (1, aL x1), (3, aI x3)] [] (xh V s0 g) := by
  refine ew_iload_n dX2_term_2 rfl lm2 ?_
  refine ew_aload_n dX2_term_3 rfl lm0 ?_
  refine xw_book dX2_term_4 (e_fl.a q190) bf_1 ?_
  refine lw_size (d := d + 2) (j := 1) dX2_term_7 (by decide) q686 (Nat.le_of_ble_eq_true rfl) ?_
  refine ew_icmp_ge (tgt := 44) dX2_term_12 (by decide) (fun c1 => ?_) (fun c1 => ?_)
  · replace H := H.1 c1
    refine ew_iconst dX2_term_44 (inI_of rfl) ?_
    exact ew_ret (o := some (aI (-1))) rfl ⟨_, rfl, rfl, H⟩ ⟨dX2_term_45, .int, rfl, Or.inl rfl, rfl⟩
  · replace H := H.2 c1
    refine ew_aload_n dX2_term_15 rfl lm0 ?_
    refine xw_book dX2_term_16 (e_fl.a q190) bf_1 ?_
    refine ew_iload_n dX2_term_19 rfl lm2 ?_
    obtain ⟨v2, H⟩ := H
    refine lw_g1 (d := d + 0) dX2_term_20 q688 (Nat.le_of_ble_eq_true rfl) v2.1 v2.2 ?_
    obtain ⟨v3, H⟩ := H
    refine cm_cast (f := x3) dX2_term_25 q709 v3 ?_
    obtain ⟨v4, H⟩ := H
    refine gm_0 (f := x3) dX2_term_28 (e_fl.c q819) tf2_0 v4 ?_
    refine ew_lload_n dX2_term_31 rfl lm1 ?_
    refine ew_lcmp dX2_term_32 ?_
    refine ew_if_ne (tgt := 38) dX2_term_33 (by decide) (fun c5 => ?_) (fun c5 => ?_)
    · replace H := H.2 (fun z => c5 (jl_eq.mpr z))
      obtain ⟨v6, H⟩ := H
      refine ew_iinc dX2_term_38 lm2 (by decide) v6 (lv' := [(3, aI (x3 + 1)), (0, aR (some (bI V 1 0))), (1, aL x1)]) rfl ?_
      refine ew_sub (List.forall_mem_cons.mpr ⟨lm1, (List.forall_mem_cons.mpr ⟨lm2, (List.forall_mem_cons.mpr ⟨lm0, e_nm⟩)⟩)⟩) ?_
      refine ew_goto (tgt := 2) dX2_term_41 (by decide) ?_
      exact ew_room (Nat.le_refl _) (Nat.zero_le _) (Nat.zero_le _) (ew_sub (List.forall_mem_cons.mpr ⟨lm0, (List.forall_mem_cons.mpr ⟨lm1, (List.forall_mem_cons.mpr ⟨lm2, e_nm⟩)⟩)⟩) H)
    · replace H := H.1 (jl_eq.mp c5)
      refine ew_iload_n dX2_term_36 rfl lm2 ?_
      exact ew_ret (o := some (aI x3)) rfl ⟨_, rfl, rfl, H⟩ ⟨dX2_term_37, .int, rfl, Or.inl rfl, rfl⟩
set_option maxHeartbeats 4000000 in
theorem T_X2_term_E (d : Nat) (V : XV) (g : AH) (K : Int → Prop) (a : Int) (s0 : XS) (H : B_X2_term_E (W_X2_term_2 d V g s0 K) K a s0) : EW mm_X2_term (d + 3) 0 0 (cQ (xh V s0 g) K) 0 [(0, aR (some (bI V 1 0))), (1, aL a)] [] (xh V s0 g) := by
  refine ew_iconst dX2_term_0 (inI_of rfl) ?_
  refine ew_istore_n dX2_term_1 rfl (by decide) (lv' := [(3, aI 0), (0, aR (some (bI V 1 0))), (1, aL a)]) rfl ?_
  refine ew_sub (List.forall_mem_cons.mpr ⟨lm1, (List.forall_mem_cons.mpr ⟨lm2, (List.forall_mem_cons.mpr ⟨lm0, e_nm⟩)⟩)⟩) ?_
  exact ew_room (Nat.le_refl _) (Nat.zero_le _) (Nat.zero_le _) (ew_sub (List.forall_mem_cons.mpr ⟨lm0, (List.forall_mem_cons.mpr ⟨lm1, (List.forall_mem_cons.mpr ⟨lm2, e_nm⟩)⟩)⟩) H)
def C_X2_term (a : Int) (s0 : XS) (K : Int → Prop) : Prop := ∀ (X2 : Int → Int → Prop), (∀ (x1 : Int) (x3 : Int), B_X2_term_2 X2 K x1 x3 s0 → X2 x1 x3) → B_X2_term_E X2 K a s0
theorem S_X2_term {d : Nat} {V : XV} {g : AH} {K : Int → Prop} {a : Int} {s0 : XS} (H : C_X2_term a s0 K) : Sp mm_X2_term (d + 3) 0 0 [aR (some (bI V 1 0)), aL a] (xh V s0 g) (cQ (xh V s0 g) K) :=
  ew_sp rfl (Nat.le_of_ble_eq_true rfl) (T_X2_term_E d V g K a s0 (H _ (fun x1 x3 H => T_X2_term_2 d V g K x1 x3 s0 H)))
