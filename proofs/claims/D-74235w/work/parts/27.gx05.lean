/-! ReasonCloser: methods as predicates, by program (gen/gxx.py) -/
set_option maxRecDepth 100000
abbrev mm_X1_sameOf : EM := (yX1_sameOf, cX1_sameOf, 4, (Option.some .int), [])
theorem me_X1_sameOf : e_mth mm_X1_sameOf 2 := ⟨rfl, q1108, q108, by decide +kernel, by decide⟩
def B_X1_sameOf_E (K : Int → XS → Prop) (a : Int) (b : Int) (s0 : XS) : Prop :=
  (C_X1_sames s0 (fun r1 => ((inI (r1 - 1)) ∧ (C_X1_isIn a 0 (r1 - 1) (fun r6 => ((r6 = 0 → (C_X1_refused 1 s0 (fun r52 s53 => K r52 s53))) ∧ (¬ r6 = 0 → (((0 ≤ a ∧ a < s0.1.1 32) ∧ xok s0 2) ∧ ((0 ≤ a ∧ a < s0.1.1 42) ∧ ((b = 0 → ((0 ≤ a ∧ a < s0.1.1 42) ∧ (C_X1_fine (s0.1.2 40 a) s0 (fun r14 s15 => K r14 s15)))) ∧ (¬ b = 0 → ((b = 1 → ((0 ≤ a ∧ a < s0.1.1 42) ∧ (C_X1_fine (s0.1.2 41 a) s0 (fun r20 s21 => K r20 s21)))) ∧ (¬ b = 1 → ((b = 2 → (C_X1_every s0 (fun r25 => (C_X1_by (jand r25 (jxor (jshl 1 a) (-1))) s0 (fun s30 => ((0 ≤ a ∧ a < s30.1.1 42) ∧ ((0 ≤ a ∧ a < s30.1.1 42) ∧ (C_X3_areOne_G (s30.1.2 40 a) (s30.1.2 41 a) 3 s30 (fun r35 => ((r35 = 0 → (C_X1_fine 0 s30 (fun r40 s41 => K r40 s41))) ∧ (¬ r35 = 0 → (C_X1_fine 1 s30 (fun r44 s45 => K r44 s45))))))))))))) ∧ (¬ b = 2 → (C_X1_refused 1 s0 (fun r48 s49 => K r48 s49)))))))))))))))))
set_option maxHeartbeats 4000000 in
theorem T_X1_sameOf_E (d : Nat) (V : XV) (g : AH) (K : Int → XS → Prop) (a : Int) (b : Int) (s0 : XS) (H : B_X1_sameOf_E K a b s0) : EW mm_X1_sameOf (d + 8) 0 0 (xQi V g K) 0 [(0, aR (some xT)), (1, aI a), (2, aI b)] [] (xh V s0 g) := by
  refine ew_iload_n dX1_sameOf_0 rfl lm1 ?_
  refine ew_iconst dX1_sameOf_1 (inI_of rfl) ?_
  refine ew_aload_n dX1_sameOf_2 rfl lm0 ?_
  refine ew_callV (d := d + 7) (as := []) rfl dX1_sameOf_3 me_X1_sames rfl (ci := 0) rfl rfl xh_x (Or.inl q1052) q1054 qs26 (Nat.le_of_ble_eq_true rfl) (Nat.zero_le _) (Nat.zero_le _) (S_X1_sames (d := d + 6) H) (fun o h' hq3 _ => ?_) (fun E i h' q _ => (cQ_no q).elim)
  obtain ⟨r1, E4, rfl, H⟩ := hq3
  cases E4
  refine ew_iconst dX1_sameOf_6 (inI_of rfl) ?_
  obtain ⟨v5, H⟩ := H
  refine ew_isub dX1_sameOf_7 v5 ?_
  refine ew_callS (d := d + 7) (as := [aI a, aI 0, aI (r1 - 1)]) rfl dX1_sameOf_8 me_X1_isIn rfl (Or.inl q403) q404 (Nat.le_of_ble_eq_true rfl) (Nat.zero_le _) (Nat.zero_le _) (S_X1_isIn (d := d + 7) H) (fun o h' hq7 _ => ?_) (fun E i h' q _ => (cQ_no q).elim)
  obtain ⟨r6, E8, rfl, H⟩ := hq7
  cases E8
  refine ew_if_ne (tgt := 20) dX1_sameOf_11 (by decide) (fun c9 => ?_) (fun c9 => ?_)
  · replace H := H.2 c9
    refine ew_aload_n dX1_sameOf_20 rfl lm0 ?_
    refine xw_get (v := aR (some (bI V 1 0))) dX1_sameOf_21 (e_fl.a q333) xf_5 rfl ?_
    refine xw_book dX1_sameOf_24 (e_fl.c q194) bf_2 ?_
    refine ew_iload_n dX1_sameOf_27 rfl lm1 ?_
    obtain ⟨v10, H⟩ := H
    refine lw_g2 (d := d + 5) dX1_sameOf_28 q1021 (Nat.le_of_ble_eq_true rfl) v10.1 v10.2 ?_
    obtain ⟨v11, H⟩ := H
    refine cs_cast (f := a) dX1_sameOf_33 q1022 v11 ?_
    refine ew_astore_n dX1_sameOf_36 rfl (by decide) (lv' := [(3, aR (some (bI V 12 (a).toNat))), (0, aR (some xT)), (1, aI a), (2, aI b)]) rfl ?_
    refine ew_sub (List.forall_mem_cons.mpr ⟨lm1, (List.forall_mem_cons.mpr ⟨lm2, (List.forall_mem_cons.mpr ⟨lm3, (List.forall_mem_cons.mpr ⟨lm0, e_nm⟩)⟩)⟩)⟩) ?_
    refine ew_iload_n dX1_sameOf_37 rfl lm2 ?_
    by_cases c12 : b = 0
    · replace H := H.1 c12
      refine ew_tableK (tgt := 64) dX1_sameOf_38 c12 rfl rfl (by decide) ?_
      refine ew_aload_n dX1_sameOf_64 rfl lm0 ?_
      refine ew_aload_n dX1_sameOf_65 rfl lm3 ?_
      obtain ⟨v13, H⟩ := H
      refine gs_0 (f := a) dX1_sameOf_66 (e_fl.c q865) sf_0 v13 ?_
      refine ew_callV (d := d + 7) (as := [aI (s0.1.2 40 a)]) rfl dX1_sameOf_69 me_X1_fine rfl (ci := 0) rfl rfl xh_x (Or.inl q1032) q1034 qs24 (Nat.le_of_ble_eq_true rfl) (Nat.zero_le _) (Nat.zero_le _) (S_X1_fine (d := d + 7) H) (fun o h' hq16 _ => ?_) (fun E i h' q _ => (xQi_no q).elim)
      obtain ⟨r14, s15, E17, rfl, H⟩ := hq16
      cases E17
      exact ew_ret (o := some (aI r14)) rfl ⟨_, _, rfl, rfl, H⟩ ⟨dX1_sameOf_72, .int, rfl, Or.inl rfl, rfl⟩
    replace H := H.2 c12
    by_cases c18 : b = 1
    · replace H := H.1 c18
      refine ew_tableK (tgt := 73) dX1_sameOf_38 c18 rfl rfl (by decide) ?_
      refine ew_aload_n dX1_sameOf_73 rfl lm0 ?_
      refine ew_aload_n dX1_sameOf_74 rfl lm3 ?_
      obtain ⟨v19, H⟩ := H
      refine gs_1 (f := a) dX1_sameOf_75 (e_fl.c q867) sf_1 v19 ?_
      refine ew_callV (d := d + 7) (as := [aI (s0.1.2 41 a)]) rfl dX1_sameOf_78 me_X1_fine rfl (ci := 0) rfl rfl xh_x (Or.inl q1032) q1034 qs24 (Nat.le_of_ble_eq_true rfl) (Nat.zero_le _) (Nat.zero_le _) (S_X1_fine (d := d + 7) H) (fun o h' hq22 _ => ?_) (fun E i h' q _ => (xQi_no q).elim)
      obtain ⟨r20, s21, E23, rfl, H⟩ := hq22
      cases E23
      exact ew_ret (o := some (aI r20)) rfl ⟨_, _, rfl, rfl, H⟩ ⟨dX1_sameOf_81, .int, rfl, Or.inl rfl, rfl⟩
    replace H := H.2 c18
    by_cases c24 : b = 2
    · replace H := H.1 c24
      refine ew_tableK (tgt := 82) dX1_sameOf_38 c24 rfl rfl (by decide) ?_
      refine ew_aload_n dX1_sameOf_82 rfl lm0 ?_
      refine ew_aload_n dX1_sameOf_83 rfl lm0 ?_
      refine ew_aload_n dX1_sameOf_84 rfl lm0 ?_
      refine ew_callV (d := d + 7) (as := []) rfl dX1_sameOf_85 me_X1_every rfl (ci := 0) rfl rfl xh_x (Or.inl q1109) q1111 qs33 (Nat.le_of_ble_eq_true rfl) (Nat.zero_le _) (Nat.zero_le _) (S_X1_every (d := d + 5) H) (fun o h' hq27 _ => ?_) (fun E i h' q _ => (cQ_no q).elim)
      obtain ⟨r25, E28, rfl, H⟩ := hq27
      cases E28
      refine ew_iconst dX1_sameOf_88 (inI_of rfl) ?_
      refine ew_iload_n dX1_sameOf_89 rfl lm1 ?_
      refine ew_ishl dX1_sameOf_90 ?_
      refine ew_iconst dX1_sameOf_91 (inI_of rfl) ?_
      refine ew_ixor dX1_sameOf_92 ?_
      refine ew_iand dX1_sameOf_93 ?_
      refine ew_callV (d := d + 7) (as := [aI (jand r25 (jxor (jshl 1 a) (-1)))]) rfl dX1_sameOf_94 me_X1_by rfl (ci := 0) rfl rfl xh_x (Or.inl q1113) q1115 qs34 (Nat.le_of_ble_eq_true rfl) (Nat.zero_le _) (Nat.zero_le _) (S_X1_by (d := d + 0) H) (fun o h' hq31 _ => ?_) (fun E i h' q _ => (xQp_no q).elim)
      obtain ⟨s30, E32, rfl, H⟩ := hq31
      cases E32
      refine ew_aload_n dX1_sameOf_97 rfl lm3 ?_
      obtain ⟨v33, H⟩ := H
      refine gs_0 (f := a) dX1_sameOf_98 (e_fl.c q865) sf_0 v33 ?_
      refine ew_aload_n dX1_sameOf_101 rfl lm3 ?_
      obtain ⟨v34, H⟩ := H
      refine gs_1 (f := a) dX1_sameOf_102 (e_fl.c q867) sf_1 v34 ?_
      refine ew_callY (x := ⟨"ReasonCloser$Closed", "areOne", "(II)Z"⟩) (d := d + 7) (as := [aI (s30.1.2 40 a), aI (s30.1.2 41 a)]) rfl dX1_sameOf_105 me_X3_areOne rfl (by decide) rfl q1128 q977 (ysel4_3 (P := fun c => Cond.selects c _ _ ∈ lw_all) q979) q981 (Or.inl q978) (by decide) (Nat.le_of_ble_eq_true rfl) (Nat.zero_le _) (Nat.zero_le _) (S_X3_areOne_G (d := d + 7) (by decide) H) (fun o h' hq37 _ => ?_) (fun E i h' q _ => (cQ_no q).elim)
      obtain ⟨r35, E38, rfl, H⟩ := hq37
      cases E38
      refine ew_if_eq (tgt := 115) dX1_sameOf_108 (by decide) (fun c39 => ?_) (fun c39 => ?_)
      · replace H := H.1 c39
        refine ew_iconst dX1_sameOf_115 (inI_of rfl) ?_
        refine ew_callV (d := d + 7) (as := [aI 0]) rfl dX1_sameOf_116 me_X1_fine rfl (ci := 0) rfl rfl xh_x (Or.inl q1032) q1034 qs24 (Nat.le_of_ble_eq_true rfl) (Nat.zero_le _) (Nat.zero_le _) (S_X1_fine (d := d + 7) H) (fun o h' hq42 _ => ?_) (fun E i h' q _ => (xQi_no q).elim)
        obtain ⟨r40, s41, E43, rfl, H⟩ := hq42
        cases E43
        exact ew_ret (o := some (aI r40)) rfl ⟨_, _, rfl, rfl, H⟩ ⟨dX1_sameOf_119, .int, rfl, Or.inl rfl, rfl⟩
      · replace H := H.2 c39
        refine ew_iconst dX1_sameOf_111 (inI_of rfl) ?_
        refine ew_goto (tgt := 116) dX1_sameOf_112 (by decide) ?_
        refine ew_callV (d := d + 7) (as := [aI 1]) rfl dX1_sameOf_116 me_X1_fine rfl (ci := 0) rfl rfl xh_x (Or.inl q1032) q1034 qs24 (Nat.le_of_ble_eq_true rfl) (Nat.zero_le _) (Nat.zero_le _) (S_X1_fine (d := d + 7) H) (fun o h' hq46 _ => ?_) (fun E i h' q _ => (xQi_no q).elim)
        obtain ⟨r44, s45, E47, rfl, H⟩ := hq46
        cases E47
        exact ew_ret (o := some (aI r44)) rfl ⟨_, _, rfl, rfl, H⟩ ⟨dX1_sameOf_119, .int, rfl, Or.inl rfl, rfl⟩
    replace H := H.2 c24
    refine ew_tableOut (tgt := 120) dX1_sameOf_38 (by clear H; omega) (by decide) ?_
    refine ew_aload_n dX1_sameOf_120 rfl lm0 ?_
    refine ew_iconst dX1_sameOf_121 (inI_of rfl) ?_
    refine ew_callV (d := d + 7) (as := [aI 1]) rfl dX1_sameOf_122 me_X1_refused rfl (ci := 0) rfl rfl xh_x (Or.inl q406) q408 qs1 (Nat.le_of_ble_eq_true rfl) (Nat.zero_le _) (Nat.zero_le _) (S_X1_refused (d := d + 7) H) (fun o h' hq50 _ => ?_) (fun E i h' q _ => (xQi_no q).elim)
    obtain ⟨r48, s49, E51, rfl, H⟩ := hq50
    cases E51
    exact ew_ret (o := some (aI r48)) rfl ⟨_, _, rfl, rfl, H⟩ ⟨dX1_sameOf_125, .int, rfl, Or.inl rfl, rfl⟩
  · replace H := H.1 c9
    refine ew_aload_n dX1_sameOf_14 rfl lm0 ?_
    refine ew_iconst dX1_sameOf_15 (inI_of rfl) ?_
    refine ew_callV (d := d + 7) (as := [aI 1]) rfl dX1_sameOf_16 me_X1_refused rfl (ci := 0) rfl rfl xh_x (Or.inl q406) q408 qs1 (Nat.le_of_ble_eq_true rfl) (Nat.zero_le _) (Nat.zero_le _) (S_X1_refused (d := d + 7) H) (fun o h' hq54 _ => ?_) (fun E i h' q _ => (xQi_no q).elim)
    obtain ⟨r52, s53, E55, rfl, H⟩ := hq54
    cases E55
    exact ew_ret (o := some (aI r52)) rfl ⟨_, _, rfl, rfl, H⟩ ⟨dX1_sameOf_19, .int, rfl, Or.inl rfl, rfl⟩
def C_X1_sameOf (a : Int) (b : Int) (s0 : XS) (K : Int → XS → Prop) : Prop := B_X1_sameOf_E K a b s0
theorem S_X1_sameOf {d : Nat} {V : XV} {g : AH} {K : Int → XS → Prop} {a : Int} {b : Int} {s0 : XS} (H : C_X1_sameOf a b s0 K) : Sp mm_X1_sameOf (d + 8) 0 0 [aR (some xT), aI a, aI b] (xh V s0 g) (xQi V g K) :=
  ew_sp rfl (Nat.le_of_ble_eq_true rfl) (T_X1_sameOf_E d V g K a b s0 (H ))
abbrev mm_X1_diffOf : EM := (yX1_diffOf, cX1_diffOf, 4, (Option.some .int), [])
theorem me_X1_diffOf : e_mth mm_X1_diffOf 2 := ⟨rfl, q1132, q108, by decide +kernel, by decide⟩
def B_X1_diffOf_E (K : Int → XS → Prop) (a : Int) (b : Int) (s0 : XS) : Prop :=
  ((inI ((s0.1.1 33) - 1)) ∧ (C_X1_isIn a 0 ((s0.1.1 33) - 1) (fun r2 => ((r2 = 0 → (C_X1_refused 1 s0 (fun r40 s41 => K r40 s41))) ∧ (¬ r2 = 0 → (((0 ≤ a ∧ a < s0.1.1 33) ∧ xok s0 3) ∧ ((0 ≤ a ∧ a < s0.1.1 43) ∧ ((b = 0 → ((0 ≤ a ∧ a < s0.1.1 43) ∧ (C_X1_fine (s0.1.2 42 a) s0 (fun r10 s11 => K r10 s11)))) ∧ (¬ b = 0 → ((b = 1 → ((0 ≤ a ∧ a < s0.1.1 43) ∧ (C_X1_fine (s0.1.2 43 a) s0 (fun r16 s17 => K r16 s17)))) ∧ (¬ b = 1 → ((b = 2 → ((0 ≤ a ∧ a < s0.1.1 43) ∧ ((0 ≤ a ∧ a < s0.1.1 43) ∧ (C_X3_areOne_G (s0.1.2 42 a) (s0.1.2 43 a) 4 s0 (fun r23 => ((r23 = 0 → (C_X1_fine 0 s0 (fun r28 s29 => K r28 s29))) ∧ (¬ r23 = 0 → (C_X1_fine 1 s0 (fun r32 s33 => K r32 s33))))))))) ∧ (¬ b = 2 → (C_X1_refused 1 s0 (fun r36 s37 => K r36 s37)))))))))))))))
set_option maxHeartbeats 4000000 in
theorem T_X1_diffOf_E (d : Nat) (V : XV) (g : AH) (K : Int → XS → Prop) (a : Int) (b : Int) (s0 : XS) (H : B_X1_diffOf_E K a b s0) : EW mm_X1_diffOf (d + 3) 0 0 (xQi V g K) 0 [(0, aR (some xT)), (1, aI a), (2, aI b)] [] (xh V s0 g) := by
  refine ew_iload_n dX1_diffOf_0 rfl lm1 ?_
  refine ew_iconst dX1_diffOf_1 (inI_of rfl) ?_
  refine ew_aload_n dX1_diffOf_2 rfl lm0 ?_
  refine xw_get (v := aR (some (bI V 1 0))) dX1_diffOf_3 (e_fl.a q333) xf_5 rfl ?_
  refine xw_book dX1_diffOf_6 (e_fl.c q197) bf_3 ?_
  refine lw_size (d := d + 2) (j := 3) dX1_diffOf_9 (by decide) q1030 (Nat.le_of_ble_eq_true rfl) ?_
  refine ew_iconst dX1_diffOf_14 (inI_of rfl) ?_
  obtain ⟨v1, H⟩ := H
  refine ew_isub dX1_diffOf_15 v1 ?_
  refine ew_callS (d := d + 2) (as := [aI a, aI 0, aI ((s0.1.1 33) - 1)]) rfl dX1_diffOf_16 me_X1_isIn rfl (Or.inl q403) q404 (Nat.le_of_ble_eq_true rfl) (Nat.zero_le _) (Nat.zero_le _) (S_X1_isIn (d := d + 2) H) (fun o h' hq3 _ => ?_) (fun E i h' q _ => (cQ_no q).elim)
  obtain ⟨r2, E4, rfl, H⟩ := hq3
  cases E4
  refine ew_if_ne (tgt := 28) dX1_diffOf_19 (by decide) (fun c5 => ?_) (fun c5 => ?_)
  · replace H := H.2 c5
    refine ew_aload_n dX1_diffOf_28 rfl lm0 ?_
    refine xw_get (v := aR (some (bI V 1 0))) dX1_diffOf_29 (e_fl.a q333) xf_5 rfl ?_
    refine xw_book dX1_diffOf_32 (e_fl.c q197) bf_3 ?_
    refine ew_iload_n dX1_diffOf_35 rfl lm1 ?_
    obtain ⟨v6, H⟩ := H
    refine lw_g3 (d := d + 0) dX1_diffOf_36 q1021 (Nat.le_of_ble_eq_true rfl) v6.1 v6.2 ?_
    obtain ⟨v7, H⟩ := H
    refine cd_cast (f := a) dX1_diffOf_41 q1022 v7 ?_
    refine ew_astore_n dX1_diffOf_44 rfl (by decide) (lv' := [(3, aR (some (bI V 13 (a).toNat))), (0, aR (some xT)), (1, aI a), (2, aI b)]) rfl ?_
    refine ew_sub (List.forall_mem_cons.mpr ⟨lm1, (List.forall_mem_cons.mpr ⟨lm2, (List.forall_mem_cons.mpr ⟨lm3, (List.forall_mem_cons.mpr ⟨lm0, e_nm⟩)⟩)⟩)⟩) ?_
    refine ew_iload_n dX1_diffOf_45 rfl lm2 ?_
    by_cases c8 : b = 0
    · replace H := H.1 c8
      refine ew_tableK (tgt := 72) dX1_diffOf_46 c8 rfl rfl (by decide) ?_
      refine ew_aload_n dX1_diffOf_72 rfl lm0 ?_
      refine ew_aload_n dX1_diffOf_73 rfl lm3 ?_
      obtain ⟨v9, H⟩ := H
      refine gd_0 (f := a) dX1_diffOf_74 (e_fl.c q865) sf_0 v9 ?_
      refine ew_callV (d := d + 2) (as := [aI (s0.1.2 42 a)]) rfl dX1_diffOf_77 me_X1_fine rfl (ci := 0) rfl rfl xh_x (Or.inl q1032) q1034 qs24 (Nat.le_of_ble_eq_true rfl) (Nat.zero_le _) (Nat.zero_le _) (S_X1_fine (d := d + 2) H) (fun o h' hq12 _ => ?_) (fun E i h' q _ => (xQi_no q).elim)
      obtain ⟨r10, s11, E13, rfl, H⟩ := hq12
      cases E13
      exact ew_ret (o := some (aI r10)) rfl ⟨_, _, rfl, rfl, H⟩ ⟨dX1_diffOf_80, .int, rfl, Or.inl rfl, rfl⟩
    replace H := H.2 c8
    by_cases c14 : b = 1
    · replace H := H.1 c14
      refine ew_tableK (tgt := 81) dX1_diffOf_46 c14 rfl rfl (by decide) ?_
      refine ew_aload_n dX1_diffOf_81 rfl lm0 ?_
      refine ew_aload_n dX1_diffOf_82 rfl lm3 ?_
      obtain ⟨v15, H⟩ := H
      refine gd_1 (f := a) dX1_diffOf_83 (e_fl.c q867) sf_1 v15 ?_
      refine ew_callV (d := d + 2) (as := [aI (s0.1.2 43 a)]) rfl dX1_diffOf_86 me_X1_fine rfl (ci := 0) rfl rfl xh_x (Or.inl q1032) q1034 qs24 (Nat.le_of_ble_eq_true rfl) (Nat.zero_le _) (Nat.zero_le _) (S_X1_fine (d := d + 2) H) (fun o h' hq18 _ => ?_) (fun E i h' q _ => (xQi_no q).elim)
      obtain ⟨r16, s17, E19, rfl, H⟩ := hq18
      cases E19
      exact ew_ret (o := some (aI r16)) rfl ⟨_, _, rfl, rfl, H⟩ ⟨dX1_diffOf_89, .int, rfl, Or.inl rfl, rfl⟩
    replace H := H.2 c14
    by_cases c20 : b = 2
    · replace H := H.1 c20
      refine ew_tableK (tgt := 90) dX1_diffOf_46 c20 rfl rfl (by decide) ?_
      refine ew_aload_n dX1_diffOf_90 rfl lm0 ?_
      refine ew_aload_n dX1_diffOf_91 rfl lm0 ?_
      refine xw_get (v := aR (some (sI V 4 99))) dX1_diffOf_92 (e_fl.a q334) xf_6 rfl ?_
      refine ew_aload_n dX1_diffOf_95 rfl lm3 ?_
      obtain ⟨v21, H⟩ := H
      refine gd_0 (f := a) dX1_diffOf_96 (e_fl.c q865) sf_0 v21 ?_
      refine ew_aload_n dX1_diffOf_99 rfl lm3 ?_
      obtain ⟨v22, H⟩ := H
      refine gd_1 (f := a) dX1_diffOf_100 (e_fl.c q867) sf_1 v22 ?_
      refine ew_callY (x := ⟨"ReasonCloser$Reasons", "areOne", "(II)Z"⟩) (d := d + 2) (as := [aI (s0.1.2 42 a), aI (s0.1.2 43 a)]) rfl dX1_diffOf_103 me_X3_areOne rfl (by decide) rfl q1085 q1086 (ysel5_4 (P := fun c => Cond.selects c _ _ ∈ lw_all) q1087) q981 (Or.inl q978) (by decide) (Nat.le_of_ble_eq_true rfl) (Nat.zero_le _) (Nat.zero_le _) (S_X3_areOne_G (d := d + 2) (by decide) H) (fun o h' hq25 _ => ?_) (fun E i h' q _ => (cQ_no q).elim)
      obtain ⟨r23, E26, rfl, H⟩ := hq25
      cases E26
      refine ew_if_eq (tgt := 113) dX1_diffOf_106 (by decide) (fun c27 => ?_) (fun c27 => ?_)
      · replace H := H.1 c27
        refine ew_iconst dX1_diffOf_113 (inI_of rfl) ?_
        refine ew_callV (d := d + 2) (as := [aI 0]) rfl dX1_diffOf_114 me_X1_fine rfl (ci := 0) rfl rfl xh_x (Or.inl q1032) q1034 qs24 (Nat.le_of_ble_eq_true rfl) (Nat.zero_le _) (Nat.zero_le _) (S_X1_fine (d := d + 2) H) (fun o h' hq30 _ => ?_) (fun E i h' q _ => (xQi_no q).elim)
        obtain ⟨r28, s29, E31, rfl, H⟩ := hq30
        cases E31
        exact ew_ret (o := some (aI r28)) rfl ⟨_, _, rfl, rfl, H⟩ ⟨dX1_diffOf_117, .int, rfl, Or.inl rfl, rfl⟩
      · replace H := H.2 c27
        refine ew_iconst dX1_diffOf_109 (inI_of rfl) ?_
        refine ew_goto (tgt := 114) dX1_diffOf_110 (by decide) ?_
        refine ew_callV (d := d + 2) (as := [aI 1]) rfl dX1_diffOf_114 me_X1_fine rfl (ci := 0) rfl rfl xh_x (Or.inl q1032) q1034 qs24 (Nat.le_of_ble_eq_true rfl) (Nat.zero_le _) (Nat.zero_le _) (S_X1_fine (d := d + 2) H) (fun o h' hq34 _ => ?_) (fun E i h' q _ => (xQi_no q).elim)
        obtain ⟨r32, s33, E35, rfl, H⟩ := hq34
        cases E35
        exact ew_ret (o := some (aI r32)) rfl ⟨_, _, rfl, rfl, H⟩ ⟨dX1_diffOf_117, .int, rfl, Or.inl rfl, rfl⟩
    replace H := H.2 c20
    refine ew_tableOut (tgt := 118) dX1_diffOf_46 (by clear H; omega) (by decide) ?_
    refine ew_aload_n dX1_diffOf_118 rfl lm0 ?_
    refine ew_iconst dX1_diffOf_119 (inI_of rfl) ?_
    refine ew_callV (d := d + 2) (as := [aI 1]) rfl dX1_diffOf_120 me_X1_refused rfl (ci := 0) rfl rfl xh_x (Or.inl q406) q408 qs1 (Nat.le_of_ble_eq_true rfl) (Nat.zero_le _) (Nat.zero_le _) (S_X1_refused (d := d + 2) H) (fun o h' hq38 _ => ?_) (fun E i h' q _ => (xQi_no q).elim)
    obtain ⟨r36, s37, E39, rfl, H⟩ := hq38
    cases E39
    exact ew_ret (o := some (aI r36)) rfl ⟨_, _, rfl, rfl, H⟩ ⟨dX1_diffOf_123, .int, rfl, Or.inl rfl, rfl⟩
  · replace H := H.1 c5
    refine ew_aload_n dX1_diffOf_22 rfl lm0 ?_
    refine ew_iconst dX1_diffOf_23 (inI_of rfl) ?_
    refine ew_callV (d := d + 2) (as := [aI 1]) rfl dX1_diffOf_24 me_X1_refused rfl (ci := 0) rfl rfl xh_x (Or.inl q406) q408 qs1 (Nat.le_of_ble_eq_true rfl) (Nat.zero_le _) (Nat.zero_le _) (S_X1_refused (d := d + 2) H) (fun o h' hq42 _ => ?_) (fun E i h' q _ => (xQi_no q).elim)
    obtain ⟨r40, s41, E43, rfl, H⟩ := hq42
    cases E43
    exact ew_ret (o := some (aI r40)) rfl ⟨_, _, rfl, rfl, H⟩ ⟨dX1_diffOf_27, .int, rfl, Or.inl rfl, rfl⟩
def C_X1_diffOf (a : Int) (b : Int) (s0 : XS) (K : Int → XS → Prop) : Prop := B_X1_diffOf_E K a b s0
theorem S_X1_diffOf {d : Nat} {V : XV} {g : AH} {K : Int → XS → Prop} {a : Int} {b : Int} {s0 : XS} (H : C_X1_diffOf a b s0 K) : Sp mm_X1_diffOf (d + 3) 0 0 [aR (some xT), aI a, aI b] (xh V s0 g) (xQi V g K) :=
  ew_sp rfl (Nat.le_of_ble_eq_true rfl) (T_X1_diffOf_E d V g K a b s0 (H ))
abbrev mm_X1_joinOf : EM := (yX1_joinOf, cX1_joinOf, 3, (Option.some .int), [])
theorem me_X1_joinOf : e_mth mm_X1_joinOf 2 := ⟨rfl, q1136, q108, by decide +kernel, by decide⟩
def B_X1_joinOf_E (K : Int → XS → Prop) (a : Int) (b : Int) (s0 : XS) : Prop :=
  ((inI (((s0.2 4).1 10) - 1)) ∧ (C_X1_isIn a 0 (((s0.2 4).1 10) - 1) (fun r2 => ((r2 = 0 → (C_X1_refused 1 s0 (fun r28 s29 => K r28 s29))) ∧ (¬ r2 = 0 → ((b = 0 → ((0 ≤ a ∧ a < 24) ∧ (C_X1_fine ((s0.2 4).2 7 a) s0 (fun r8 s9 => K r8 s9)))) ∧ (¬ b = 0 → ((b = 1 → ((0 ≤ a ∧ a < 24) ∧ (C_X1_fine ((s0.2 4).2 8 a) s0 (fun r14 s15 => K r14 s15)))) ∧ (¬ b = 1 → ((b = 2 → ((0 ≤ a ∧ a < 24) ∧ (C_X1_fine ((s0.2 4).2 9 a) s0 (fun r20 s21 => K r20 s21)))) ∧ (¬ b = 2 → (C_X1_refused 1 s0 (fun r24 s25 => K r24 s25)))))))))))))
set_option maxHeartbeats 4000000 in
theorem T_X1_joinOf_E (d : Nat) (V : XV) (g : AH) (K : Int → XS → Prop) (a : Int) (b : Int) (s0 : XS) (H : B_X1_joinOf_E K a b s0) : EW mm_X1_joinOf (d + 1) 0 0 (xQi V g K) 0 [(0, aR (some xT)), (1, aI a), (2, aI b)] [] (xh V s0 g) := by
  refine ew_iload_n dX1_joinOf_0 rfl lm1 ?_
  refine ew_iconst dX1_joinOf_1 (inI_of rfl) ?_
  refine ew_aload_n dX1_joinOf_2 rfl lm0 ?_
  refine xw_get (v := aR (some (sI V 4 99))) dX1_joinOf_3 (e_fl.a q334) xf_6 rfl ?_
  refine yw_get (cs := [5]) (v := aI ((s0.2 4).1 10)) dX1_joinOf_6 (by decide) (e_fl.b q251 q252) yf_10 (by decide) rfl ?_
  refine ew_iconst dX1_joinOf_9 (inI_of rfl) ?_
  obtain ⟨v1, H⟩ := H
  refine ew_isub dX1_joinOf_10 v1 ?_
  refine ew_callS (d := d + 0) (as := [aI a, aI 0, aI (((s0.2 4).1 10) - 1)]) rfl dX1_joinOf_11 me_X1_isIn rfl (Or.inl q403) q404 (Nat.le_of_ble_eq_true rfl) (Nat.zero_le _) (Nat.zero_le _) (S_X1_isIn (d := d + 0) H) (fun o h' hq3 _ => ?_) (fun E i h' q _ => (cQ_no q).elim)
  obtain ⟨r2, E4, rfl, H⟩ := hq3
  cases E4
  refine ew_if_ne (tgt := 23) dX1_joinOf_14 (by decide) (fun c5 => ?_) (fun c5 => ?_)
  · replace H := H.2 c5
    refine ew_iload_n dX1_joinOf_23 rfl lm2 ?_
    by_cases c6 : b = 0
    · replace H := H.1 c6
      refine ew_tableK (tgt := 52) dX1_joinOf_24 c6 rfl rfl (by decide) ?_
      refine ew_aload_n dX1_joinOf_52 rfl lm0 ?_
      refine ew_aload_n dX1_joinOf_53 rfl lm0 ?_
      refine xw_get (v := aR (some (sI V 4 99))) dX1_joinOf_54 (e_fl.a q334) xf_6 rfl ?_
      refine yw_get (cs := [5]) (v := aR (some (sI V 4 7))) dX1_joinOf_57 (by decide) (e_fl.b q241 q240) yf_7 (by decide) rfl ?_
      refine ew_iload_n dX1_joinOf_60 rfl lm1 ?_
      obtain ⟨v7, H⟩ := H
      refine yw_iald dX1_joinOf_61 (by decide) rfl v7.1 v7.2 ?_
      refine ew_callV (d := d + 0) (as := [aI ((s0.2 4).2 7 a)]) rfl dX1_joinOf_62 me_X1_fine rfl (ci := 0) rfl rfl xh_x (Or.inl q1032) q1034 qs24 (Nat.le_of_ble_eq_true rfl) (Nat.zero_le _) (Nat.zero_le _) (S_X1_fine (d := d + 0) H) (fun o h' hq10 _ => ?_) (fun E i h' q _ => (xQi_no q).elim)
      obtain ⟨r8, s9, E11, rfl, H⟩ := hq10
      cases E11
      exact ew_ret (o := some (aI r8)) rfl ⟨_, _, rfl, rfl, H⟩ ⟨dX1_joinOf_65, .int, rfl, Or.inl rfl, rfl⟩
    replace H := H.2 c6
    by_cases c12 : b = 1
    · replace H := H.1 c12
      refine ew_tableK (tgt := 66) dX1_joinOf_24 c12 rfl rfl (by decide) ?_
      refine ew_aload_n dX1_joinOf_66 rfl lm0 ?_
      refine ew_aload_n dX1_joinOf_67 rfl lm0 ?_
      refine xw_get (v := aR (some (sI V 4 99))) dX1_joinOf_68 (e_fl.a q334) xf_6 rfl ?_
      refine yw_get (cs := [5]) (v := aR (some (sI V 4 8))) dX1_joinOf_71 (by decide) (e_fl.b q245 q244) yf_8 (by decide) rfl ?_
      refine ew_iload_n dX1_joinOf_74 rfl lm1 ?_
      obtain ⟨v13, H⟩ := H
      refine yw_iald dX1_joinOf_75 (by decide) rfl v13.1 v13.2 ?_
      refine ew_callV (d := d + 0) (as := [aI ((s0.2 4).2 8 a)]) rfl dX1_joinOf_76 me_X1_fine rfl (ci := 0) rfl rfl xh_x (Or.inl q1032) q1034 qs24 (Nat.le_of_ble_eq_true rfl) (Nat.zero_le _) (Nat.zero_le _) (S_X1_fine (d := d + 0) H) (fun o h' hq16 _ => ?_) (fun E i h' q _ => (xQi_no q).elim)
      obtain ⟨r14, s15, E17, rfl, H⟩ := hq16
      cases E17
      exact ew_ret (o := some (aI r14)) rfl ⟨_, _, rfl, rfl, H⟩ ⟨dX1_joinOf_79, .int, rfl, Or.inl rfl, rfl⟩
    replace H := H.2 c12
    by_cases c18 : b = 2
    · replace H := H.1 c18
      refine ew_tableK (tgt := 80) dX1_joinOf_24 c18 rfl rfl (by decide) ?_
      refine ew_aload_n dX1_joinOf_80 rfl lm0 ?_
      refine ew_aload_n dX1_joinOf_81 rfl lm0 ?_
      refine xw_get (v := aR (some (sI V 4 99))) dX1_joinOf_82 (e_fl.a q334) xf_6 rfl ?_
      refine yw_get (cs := [5]) (v := aR (some (sI V 4 9))) dX1_joinOf_85 (by decide) (e_fl.b q249 q248) yf_9 (by decide) rfl ?_
      refine ew_iload_n dX1_joinOf_88 rfl lm1 ?_
      obtain ⟨v19, H⟩ := H
      refine yw_iald dX1_joinOf_89 (by decide) rfl v19.1 v19.2 ?_
      refine ew_callV (d := d + 0) (as := [aI ((s0.2 4).2 9 a)]) rfl dX1_joinOf_90 me_X1_fine rfl (ci := 0) rfl rfl xh_x (Or.inl q1032) q1034 qs24 (Nat.le_of_ble_eq_true rfl) (Nat.zero_le _) (Nat.zero_le _) (S_X1_fine (d := d + 0) H) (fun o h' hq22 _ => ?_) (fun E i h' q _ => (xQi_no q).elim)
      obtain ⟨r20, s21, E23, rfl, H⟩ := hq22
      cases E23
      exact ew_ret (o := some (aI r20)) rfl ⟨_, _, rfl, rfl, H⟩ ⟨dX1_joinOf_93, .int, rfl, Or.inl rfl, rfl⟩
    replace H := H.2 c18
    refine ew_tableOut (tgt := 94) dX1_joinOf_24 (by clear H; omega) (by decide) ?_
    refine ew_aload_n dX1_joinOf_94 rfl lm0 ?_
    refine ew_iconst dX1_joinOf_95 (inI_of rfl) ?_
    refine ew_callV (d := d + 0) (as := [aI 1]) rfl dX1_joinOf_96 me_X1_refused rfl (ci := 0) rfl rfl xh_x (Or.inl q406) q408 qs1 (Nat.le_of_ble_eq_true rfl) (Nat.zero_le _) (Nat.zero_le _) (S_X1_refused (d := d + 0) H) (fun o h' hq26 _ => ?_) (fun E i h' q _ => (xQi_no q).elim)
    obtain ⟨r24, s25, E27, rfl, H⟩ := hq26
    cases E27
    exact ew_ret (o := some (aI r24)) rfl ⟨_, _, rfl, rfl, H⟩ ⟨dX1_joinOf_99, .int, rfl, Or.inl rfl, rfl⟩
  · replace H := H.1 c5
    refine ew_aload_n dX1_joinOf_17 rfl lm0 ?_
    refine ew_iconst dX1_joinOf_18 (inI_of rfl) ?_
    refine ew_callV (d := d + 0) (as := [aI 1]) rfl dX1_joinOf_19 me_X1_refused rfl (ci := 0) rfl rfl xh_x (Or.inl q406) q408 qs1 (Nat.le_of_ble_eq_true rfl) (Nat.zero_le _) (Nat.zero_le _) (S_X1_refused (d := d + 0) H) (fun o h' hq30 _ => ?_) (fun E i h' q _ => (xQi_no q).elim)
    obtain ⟨r28, s29, E31, rfl, H⟩ := hq30
    cases E31
    exact ew_ret (o := some (aI r28)) rfl ⟨_, _, rfl, rfl, H⟩ ⟨dX1_joinOf_22, .int, rfl, Or.inl rfl, rfl⟩
def C_X1_joinOf (a : Int) (b : Int) (s0 : XS) (K : Int → XS → Prop) : Prop := B_X1_joinOf_E K a b s0
theorem S_X1_joinOf {d : Nat} {V : XV} {g : AH} {K : Int → XS → Prop} {a : Int} {b : Int} {s0 : XS} (H : C_X1_joinOf a b s0 K) : Sp mm_X1_joinOf (d + 1) 0 0 [aR (some xT), aI a, aI b] (xh V s0 g) (xQi V g K) :=
  ew_sp rfl (Nat.le_of_ble_eq_true rfl) (T_X1_joinOf_E d V g K a b s0 (H ))
abbrev mm_X1_height : EM := (yX1_height, cX1_height, 4, (Option.some .int), [])
theorem me_X1_height : e_mth mm_X1_height 1 := ⟨rfl, q1140, q108, by decide +kernel, by decide⟩
def B_X1_height_24 (X24 : Int → Int → XS → Prop) (K : Int → XS → Prop) (x2 : Int) (x3 : Int) (s0 : XS) : Prop :=
  ((0 ≤ x3 ∧ x3 < 24) ∧ ((((s0.2 4).2 5 x3) = (-1) → (C_X1_fine x2 s0 (fun r3 s4 => K r3 s4))) ∧ (¬ ((s0.2 4).2 5 x3) = (-1) → (inI (x2 + 1) ∧ ((0 ≤ x3 ∧ x3 < 24) ∧ X24 (x2 + 1) ((s0.2 4).2 5 x3) s0)))))
def B_X1_height_E (X24 : Int → Int → XS → Prop) (K : Int → XS → Prop) (a : Int) (s0 : XS) : Prop :=
  (C_X1_isTerm 1 (iup (fun _ => 0) 0 a) s0 (fun r1 => ((r1 = 0 → (C_X1_refused 1 s0 (fun r6 s7 => K r6 s7))) ∧ (¬ r1 = 0 → X24 0 a s0))))
def W_X1_height_24 (d : Nat) (V : XV) (g : AH) (K : Int → XS → Prop) (x2 : Int) (x3 : Int) (s0 : XS) : Prop := ∀ g1, eX g g1 → EW mm_X1_height (d + 3) 0 0 (tQi V g K) 24 [(0, aR (some xT)), (2, aI x2), (3, aI x3)] [] (xh V s0 g1)
set_option maxHeartbeats 4000000 in
theorem T_X1_height_24 (d : Nat) (V : XV) (g : AH) (hg : xf 3 g) (hr : xfree V g) (K : Int → XS → Prop) (x2 : Int) (x3 : Int) (s0 : XS) (g1 : AH) (hx : eX g g1) (H : B_X1_height_24 (W_X1_height_24 d V g K) K x2 x3 s0) : EW mm_X1_height (d + 3) 0 0 (tQi V g K) 24 [(0, aR (some xT)), (2, aI x2), (3, aI x3)] [] (xh V s0 g1) := by
  refine ew_aload_n dX1_height_24 rfl lm0 ?_
  refine xw_get (v := aR (some (sI V 4 99))) dX1_height_25 (e_fl.a q334) xf_6 rfl ?_
  refine yw_get (cs := [5]) (v := aR (some (sI V 4 5))) dX1_height_28 (by decide) (e_fl.b q234 q233) yf_5 (by decide) rfl ?_
  refine ew_iload_n dX1_height_31 rfl lm2 ?_
  obtain ⟨v1, H⟩ := H
  refine yw_iald dX1_height_32 (by decide) rfl v1.1 v1.2 ?_
  refine ew_iconst dX1_height_33 (inI_of rfl) ?_
  refine ew_icmp_eq (tgt := 53) dX1_height_34 (by decide) (fun c2 => ?_) (fun c2 => ?_)
  · replace H := H.1 c2
    refine ew_aload_n dX1_height_53 rfl lm0 ?_
    refine ew_iload_n dX1_height_54 rfl lm1 ?_
    refine ew_callV (d := d + 2) (as := [aI x2]) rfl dX1_height_55 me_X1_fine rfl (ci := 0) rfl rfl xh_x (Or.inl q1032) q1034 qs24 (Nat.le_of_ble_eq_true rfl) (Nat.zero_le _) (Nat.zero_le _) (S_X1_fine (d := d + 2) H) (fun o h' hq5 _ => ?_) (fun E i h' q _ => (xQi_no q).elim)
    obtain ⟨r3, s4, E6, rfl, H⟩ := hq5
    cases E6
    exact ew_ret (o := some (aI r3)) rfl ⟨_, _, _, rfl, rfl, hx, H⟩ ⟨dX1_height_58, .int, rfl, Or.inl rfl, rfl⟩
  · replace H := H.2 c2
    obtain ⟨v7, H⟩ := H
    refine ew_iinc dX1_height_37 lm1 (by decide) v7 (lv' := [(2, aI (x2 + 1)), (0, aR (some xT)), (3, aI x3)]) rfl ?_
    refine ew_sub (List.forall_mem_cons.mpr ⟨lm1, (List.forall_mem_cons.mpr ⟨lm0, (List.forall_mem_cons.mpr ⟨lm2, e_nm⟩)⟩)⟩) ?_
    refine ew_aload_n dX1_height_40 rfl lm0 ?_
    refine xw_get (v := aR (some (sI V 4 99))) dX1_height_41 (e_fl.a q334) xf_6 rfl ?_
    refine yw_get (cs := [5]) (v := aR (some (sI V 4 5))) dX1_height_44 (by decide) (e_fl.b q234 q233) yf_5 (by decide) rfl ?_
    refine ew_iload_n dX1_height_47 rfl lm2 ?_
    obtain ⟨v8, H⟩ := H
    refine yw_iald dX1_height_48 (by decide) rfl v8.1 v8.2 ?_
    refine ew_istore_n dX1_height_49 rfl (by decide) (lv' := [(3, aI ((s0.2 4).2 5 x3)), (0, aR (some xT)), (2, aI (x2 + 1))]) rfl ?_
    refine ew_sub (List.forall_mem_cons.mpr ⟨lm1, (List.forall_mem_cons.mpr ⟨lm2, (List.forall_mem_cons.mpr ⟨lm0, e_nm⟩)⟩)⟩) ?_
    refine ew_goto (tgt := 24) dX1_height_50 (by decide) ?_
    exact ew_room (Nat.le_refl _) (Nat.zero_le _) (Nat.zero_le _) (ew_sub (List.forall_mem_cons.mpr ⟨lm0, (List.forall_mem_cons.mpr ⟨lm1, (List.forall_mem_cons.mpr ⟨lm2, e_nm⟩)⟩)⟩) (H _ hx))
set_option maxHeartbeats 4000000 in
theorem T_X1_height_E (d : Nat) (V : XV) (g : AH) (hg : xf 3 g) (hr : xfree V g) (K : Int → XS → Prop) (a : Int) (s0 : XS) (H : B_X1_height_E (W_X1_height_24 d V g K) K a s0) : EW mm_X1_height (d + 3) 1 1 (tQi V g K) 0 [(0, aR (some xT)), (1, aI a)] [] (xh V s0 g) := by
  refine ew_aload_n dX1_height_0 rfl lm0 ?_
  refine ew_iconst dX1_height_1 (inI_of rfl) ?_
  refine ew_newIB (t := 0) (N := 1) (i := (1, 3, 0)) dX1_height_2 rfl (by decide) q302 rfl (by decide) ((xh_g (xC_1 rfl)).trans (hg _ rfl (Nat.le_refl _))) (by decide) (Nat.le_of_ble_eq_true rfl) (Nat.le_of_ble_eq_true rfl) ?_
  rw [xh_upg (xC_1 rfl)]
  refine ew_dup dX1_height_4 rfl ?_
  refine ew_iconst dX1_height_5 (inI_of rfl) ?_
  refine ew_iload_n dX1_height_6 rfl lm1 ?_
  refine ew_iast dX1_height_7 ((xh_g (xC_1 rfl)).trans (hup_self _ _ _)) (by decide) (by decide) ?_
  rw [xh_upg (xC_1 rfl), hup_hup]
  refine ew_callV (d := d + 2) (as := [aR (some (1, 3, 0))]) rfl dX1_height_8 me_X1_isTerm rfl (ci := 0) rfl rfl xh_x (Or.inl q1081) q1083 qs29 (Nat.le_of_ble_eq_true rfl) (Nat.zero_le _) (Nat.zero_le _) (S_X1_isTerm (d := d + 0) ((xh_g (xC_1 rfl)).trans (hup_self _ _ _)) (by decide) H) (fun o h' hq3 _ => ?_) (fun E i h' q _ => (cQ_no q).elim)
  obtain ⟨r1, E4, rfl, H⟩ := hq3
  cases E4
  refine ew_if_ne (tgt := 20) dX1_height_11 (by decide) (fun c5 => ?_) (fun c5 => ?_)
  · replace H := H.2 c5
    refine ew_iconst dX1_height_20 (inI_of rfl) ?_
    refine ew_istore_n dX1_height_21 rfl (by decide) (lv' := [(2, aI 0), (0, aR (some xT)), (1, aI a)]) rfl ?_
    refine ew_sub (List.forall_mem_cons.mpr ⟨lm1, (List.forall_mem_cons.mpr ⟨lm2, (List.forall_mem_cons.mpr ⟨lm0, e_nm⟩)⟩)⟩) ?_
    refine ew_iload_n dX1_height_22 rfl lm1 ?_
    refine ew_istore_n dX1_height_23 rfl (by decide) (lv' := [(3, aI a), (0, aR (some xT)), (1, aI a), (2, aI 0)]) rfl ?_
    refine ew_sub (List.forall_mem_cons.mpr ⟨lm1, (List.forall_mem_cons.mpr ⟨lm2, (List.forall_mem_cons.mpr ⟨lm3, (List.forall_mem_cons.mpr ⟨lm0, e_nm⟩)⟩)⟩)⟩) ?_
    exact ew_room (Nat.le_refl _) (Nat.zero_le _) (Nat.zero_le _) (ew_sub (List.forall_mem_cons.mpr ⟨lm0, (List.forall_mem_cons.mpr ⟨lm2, (List.forall_mem_cons.mpr ⟨lm3, e_nm⟩)⟩)⟩) (H _ (eX.hup eX.rf rfl (hg _ rfl (Nat.le_refl _)))))
  · replace H := H.1 c5
    refine ew_aload_n dX1_height_14 rfl lm0 ?_
    refine ew_iconst dX1_height_15 (inI_of rfl) ?_
    refine ew_callV (d := d + 2) (as := [aI 1]) rfl dX1_height_16 me_X1_refused rfl (ci := 0) rfl rfl xh_x (Or.inl q406) q408 qs1 (Nat.le_of_ble_eq_true rfl) (Nat.zero_le _) (Nat.zero_le _) (S_X1_refused (d := d + 2) H) (fun o h' hq8 _ => ?_) (fun E i h' q _ => (xQi_no q).elim)
    obtain ⟨r6, s7, E9, rfl, H⟩ := hq8
    cases E9
    exact ew_ret (o := some (aI r6)) rfl ⟨_, _, _, rfl, rfl, (eX.hup eX.rf rfl (hg _ rfl (Nat.le_refl _))), H⟩ ⟨dX1_height_19, .int, rfl, Or.inl rfl, rfl⟩
def C_X1_height (a : Int) (s0 : XS) (K : Int → XS → Prop) : Prop := ∀ (X24 : Int → Int → XS → Prop), (∀ (x2 : Int) (x3 : Int) (s0 : XS), B_X1_height_24 X24 K x2 x3 s0 → X24 x2 x3 s0) → B_X1_height_E X24 K a s0
theorem S_X1_height {d : Nat} {V : XV} {g : AH} {K : Int → XS → Prop} {a : Int} {s0 : XS} (hg : xf 3 g) (hr : xfree V g) (H : C_X1_height a s0 K) : Sp mm_X1_height (d + 3) 1 1 [aR (some xT), aI a] (xh V s0 g) (xQi V g K) :=
  Sp.forget hr tQi_x (ew_sp rfl (Nat.le_of_ble_eq_true rfl) (T_X1_height_E d V g hg hr K a s0 (H _ (fun x2 x3 s0 H g1 hx => T_X1_height_24 d V g hg hr K x2 x3 s0 g1 hx H))))
