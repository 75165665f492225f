/-! ReasonCloser: methods as predicates, by program (gen/gxx.py) -/
set_option maxRecDepth 100000
abbrev mm_X1_about : EM := (yX1_about, cX1_about, 2, (Option.some .int), [])
theorem me_X1_about : e_mth mm_X1_about 1 := ⟨rfl, q1047, q108, by decide +kernel, by decide⟩
def B_X1_about_E (K : Int → XS → Prop) (a : Int) (s0 : XS) : Prop :=
  ((a = 0 → (C_X1_fine (s0.1.1 30) s0 (fun r2 s3 => K r2 s3))) ∧ (¬ a = 0 → ((a = 1 → (C_X1_terms s0 (fun r7 => (C_X1_fine r7 s0 (fun r11 s12 => K r11 s12))))) ∧ (¬ a = 1 → ((a = 2 → (C_X1_sames s0 (fun r16 => (C_X1_fine r16 s0 (fun r20 s21 => K r20 s21))))) ∧ (¬ a = 2 → ((a = 3 → (C_X1_fine (s0.1.1 33) s0 (fun r25 s26 => K r25 s26))) ∧ (¬ a = 3 → ((a = 4 → (C_X3_groups_G 4 s0 (fun r30 => (C_X1_fine r30 s0 (fun r34 s35 => K r34 s35))))) ∧ (¬ a = 4 → ((a = 5 → (C_X1_fine (s0.1.1 12) s0 (fun r39 s40 => K r39 s40))) ∧ (¬ a = 5 → ((a = 6 → (C_X1_fine ((s0.2 4).1 10) s0 (fun r44 s45 => K r44 s45))) ∧ (¬ a = 6 → ((a = 7 → (C_X1_clash 4 s0 (fun r49 => (C_X1_fine r49 s0 (fun r53 s54 => K r53 s54))))) ∧ (¬ a = 7 → (C_X1_refused 1 s0 (fun r57 s58 => K r57 s58))))))))))))))))))
set_option maxHeartbeats 4000000 in
theorem T_X1_about_E (d : Nat) (V : XV) (g : AH) (K : Int → XS → Prop) (a : Int) (s0 : XS) (H : B_X1_about_E K a s0) : EW mm_X1_about (d + 4) 0 0 (xQi V g K) 0 [(0, aR (some xT)), (1, aI a)] [] (xh V s0 g) := by
  refine ew_iload_n dX1_about_0 rfl lm1 ?_
  by_cases c1 : a = 0
  · replace H := H.1 c1
    refine ew_tableK (tgt := 48) dX1_about_1 c1 rfl rfl (by decide) ?_
    refine ew_aload_n dX1_about_48 rfl lm0 ?_
    refine ew_aload_n dX1_about_49 rfl lm0 ?_
    refine xw_get (v := aR (some (bI V 1 0))) dX1_about_50 (e_fl.a q333) xf_5 rfl ?_
    refine xw_book dX1_about_53 (e_fl.c q188) bf_0 ?_
    refine lw_size (d := d + 3) (j := 0) dX1_about_56 (by decide) q1030 (Nat.le_of_ble_eq_true rfl) ?_
    refine ew_callV (d := d + 3) (as := [aI (s0.1.1 30)]) rfl dX1_about_61 me_X1_fine rfl (ci := 0) rfl rfl xh_x (Or.inl q1032) q1034 qs24 (Nat.le_of_ble_eq_true rfl) (Nat.zero_le _) (Nat.zero_le _) (S_X1_fine (d := d + 3) H) (fun o h' hq4 _ => ?_) (fun E i h' q _ => (xQi_no q).elim)
    obtain ⟨r2, s3, E5, rfl, H⟩ := hq4
    cases E5
    exact ew_ret (o := some (aI r2)) rfl ⟨_, _, rfl, rfl, H⟩ ⟨dX1_about_64, .int, rfl, Or.inl rfl, rfl⟩
  replace H := H.2 c1
  by_cases c6 : a = 1
  · replace H := H.1 c6
    refine ew_tableK (tgt := 65) dX1_about_1 c6 rfl rfl (by decide) ?_
    refine ew_aload_n dX1_about_65 rfl lm0 ?_
    refine ew_aload_n dX1_about_66 rfl lm0 ?_
    refine ew_callV (d := d + 3) (as := []) rfl dX1_about_67 me_X1_terms rfl (ci := 0) rfl rfl xh_x (Or.inl q1048) q1050 qs25 (Nat.le_of_ble_eq_true rfl) (Nat.zero_le _) (Nat.zero_le _) (S_X1_terms (d := d + 2) H) (fun o h' hq9 _ => ?_) (fun E i h' q _ => (cQ_no q).elim)
    obtain ⟨r7, E10, rfl, H⟩ := hq9
    cases E10
    refine ew_callV (d := d + 3) (as := [aI r7]) rfl dX1_about_70 me_X1_fine rfl (ci := 0) rfl rfl xh_x (Or.inl q1032) q1034 qs24 (Nat.le_of_ble_eq_true rfl) (Nat.zero_le _) (Nat.zero_le _) (S_X1_fine (d := d + 3) H) (fun o h' hq13 _ => ?_) (fun E i h' q _ => (xQi_no q).elim)
    obtain ⟨r11, s12, E14, rfl, H⟩ := hq13
    cases E14
    exact ew_ret (o := some (aI r11)) rfl ⟨_, _, rfl, rfl, H⟩ ⟨dX1_about_73, .int, rfl, Or.inl rfl, rfl⟩
  replace H := H.2 c6
  by_cases c15 : a = 2
  · replace H := H.1 c15
    refine ew_tableK (tgt := 74) dX1_about_1 c15 rfl rfl (by decide) ?_
    refine ew_aload_n dX1_about_74 rfl lm0 ?_
    refine ew_aload_n dX1_about_75 rfl lm0 ?_
    refine ew_callV (d := d + 3) (as := []) rfl dX1_about_76 me_X1_sames rfl (ci := 0) rfl rfl xh_x (Or.inl q1052) q1054 qs26 (Nat.le_of_ble_eq_true rfl) (Nat.zero_le _) (Nat.zero_le _) (S_X1_sames (d := d + 2) H) (fun o h' hq18 _ => ?_) (fun E i h' q _ => (cQ_no q).elim)
    obtain ⟨r16, E19, rfl, H⟩ := hq18
    cases E19
    refine ew_callV (d := d + 3) (as := [aI r16]) rfl dX1_about_79 me_X1_fine rfl (ci := 0) rfl rfl xh_x (Or.inl q1032) q1034 qs24 (Nat.le_of_ble_eq_true rfl) (Nat.zero_le _) (Nat.zero_le _) (S_X1_fine (d := d + 3) H) (fun o h' hq22 _ => ?_) (fun E i h' q _ => (xQi_no q).elim)
    obtain ⟨r20, s21, E23, rfl, H⟩ := hq22
    cases E23
    exact ew_ret (o := some (aI r20)) rfl ⟨_, _, rfl, rfl, H⟩ ⟨dX1_about_82, .int, rfl, Or.inl rfl, rfl⟩
  replace H := H.2 c15
  by_cases c24 : a = 3
  · replace H := H.1 c24
    refine ew_tableK (tgt := 83) dX1_about_1 c24 rfl rfl (by decide) ?_
    refine ew_aload_n dX1_about_83 rfl lm0 ?_
    refine ew_aload_n dX1_about_84 rfl lm0 ?_
    refine xw_get (v := aR (some (bI V 1 0))) dX1_about_85 (e_fl.a q333) xf_5 rfl ?_
    refine xw_book dX1_about_88 (e_fl.c q197) bf_3 ?_
    refine lw_size (d := d + 3) (j := 3) dX1_about_91 (by decide) q1030 (Nat.le_of_ble_eq_true rfl) ?_
    refine ew_callV (d := d + 3) (as := [aI (s0.1.1 33)]) rfl dX1_about_96 me_X1_fine rfl (ci := 0) rfl rfl xh_x (Or.inl q1032) q1034 qs24 (Nat.le_of_ble_eq_true rfl) (Nat.zero_le _) (Nat.zero_le _) (S_X1_fine (d := d + 3) H) (fun o h' hq27 _ => ?_) (fun E i h' q _ => (xQi_no q).elim)
    obtain ⟨r25, s26, E28, rfl, H⟩ := hq27
    cases E28
    exact ew_ret (o := some (aI r25)) rfl ⟨_, _, rfl, rfl, H⟩ ⟨dX1_about_99, .int, rfl, Or.inl rfl, rfl⟩
  replace H := H.2 c24
  by_cases c29 : a = 4
  · replace H := H.1 c29
    refine ew_tableK (tgt := 100) dX1_about_1 c29 rfl rfl (by decide) ?_
    refine ew_aload_n dX1_about_100 rfl lm0 ?_
    refine ew_aload_n dX1_about_101 rfl lm0 ?_
    refine xw_get (v := aR (some (sI V 4 99))) dX1_about_102 (e_fl.a q334) xf_6 rfl ?_
    refine ew_callY (x := ⟨"ReasonCloser$Reasons", "groups", "()I"⟩) (d := d + 3) (as := []) rfl dX1_about_105 me_X3_groups rfl (by decide) rfl q1056 q1057 (ysel5_4 (P := fun c => Cond.selects c _ _ ∈ lw_all) q1059) q1060 (Or.inl q1058) (by decide) (Nat.le_of_ble_eq_true rfl) (Nat.zero_le _) (Nat.zero_le _) (S_X3_groups_G (d := d + 3) (by decide) H) (fun o h' hq32 _ => ?_) (fun E i h' q _ => (cQ_no q).elim)
    obtain ⟨r30, E33, rfl, H⟩ := hq32
    cases E33
    refine ew_callV (d := d + 3) (as := [aI r30]) rfl dX1_about_108 me_X1_fine rfl (ci := 0) rfl rfl xh_x (Or.inl q1032) q1034 qs24 (Nat.le_of_ble_eq_true rfl) (Nat.zero_le _) (Nat.zero_le _) (S_X1_fine (d := d + 3) H) (fun o h' hq36 _ => ?_) (fun E i h' q _ => (xQi_no q).elim)
    obtain ⟨r34, s35, E37, rfl, H⟩ := hq36
    cases E37
    exact ew_ret (o := some (aI r34)) rfl ⟨_, _, rfl, rfl, H⟩ ⟨dX1_about_111, .int, rfl, Or.inl rfl, rfl⟩
  replace H := H.2 c29
  by_cases c38 : a = 5
  · replace H := H.1 c38
    refine ew_tableK (tgt := 112) dX1_about_1 c38 rfl rfl (by decide) ?_
    refine ew_aload_n dX1_about_112 rfl lm0 ?_
    refine ew_aload_n dX1_about_113 rfl lm0 ?_
    refine xw_get (v := aI (s0.1.1 12)) dX1_about_114 (e_fl.a q340) xf_12 rfl ?_
    refine ew_callV (d := d + 3) (as := [aI (s0.1.1 12)]) rfl dX1_about_117 me_X1_fine rfl (ci := 0) rfl rfl xh_x (Or.inl q1032) q1034 qs24 (Nat.le_of_ble_eq_true rfl) (Nat.zero_le _) (Nat.zero_le _) (S_X1_fine (d := d + 3) H) (fun o h' hq41 _ => ?_) (fun E i h' q _ => (xQi_no q).elim)
    obtain ⟨r39, s40, E42, rfl, H⟩ := hq41
    cases E42
    exact ew_ret (o := some (aI r39)) rfl ⟨_, _, rfl, rfl, H⟩ ⟨dX1_about_120, .int, rfl, Or.inl rfl, rfl⟩
  replace H := H.2 c38
  by_cases c43 : a = 6
  · replace H := H.1 c43
    refine ew_tableK (tgt := 121) dX1_about_1 c43 rfl rfl (by decide) ?_
    refine ew_aload_n dX1_about_121 rfl lm0 ?_
    refine ew_aload_n dX1_about_122 rfl lm0 ?_
    refine xw_get (v := aR (some (sI V 4 99))) dX1_about_123 (e_fl.a q334) xf_6 rfl ?_
    refine yw_get (cs := [5]) (v := aI ((s0.2 4).1 10)) dX1_about_126 (by decide) (e_fl.b q251 q252) yf_10 (by decide) rfl ?_
    refine ew_callV (d := d + 3) (as := [aI ((s0.2 4).1 10)]) rfl dX1_about_129 me_X1_fine rfl (ci := 0) rfl rfl xh_x (Or.inl q1032) q1034 qs24 (Nat.le_of_ble_eq_true rfl) (Nat.zero_le _) (Nat.zero_le _) (S_X1_fine (d := d + 3) H) (fun o h' hq46 _ => ?_) (fun E i h' q _ => (xQi_no q).elim)
    obtain ⟨r44, s45, E47, rfl, H⟩ := hq46
    cases E47
    exact ew_ret (o := some (aI r44)) rfl ⟨_, _, rfl, rfl, H⟩ ⟨dX1_about_132, .int, rfl, Or.inl rfl, rfl⟩
  replace H := H.2 c43
  by_cases c48 : a = 7
  · replace H := H.1 c48
    refine ew_tableK (tgt := 133) dX1_about_1 c48 rfl rfl (by decide) ?_
    refine ew_aload_n dX1_about_133 rfl lm0 ?_
    refine ew_aload_n dX1_about_134 rfl lm0 ?_
    refine ew_aload_n dX1_about_135 rfl lm0 ?_
    refine xw_get (v := aR (some (sI V 4 99))) dX1_about_136 (e_fl.a q334) xf_6 rfl ?_
    refine ew_callV (d := d + 3) (as := [aR (some (sI V 4 99))]) rfl dX1_about_139 me_X1_clash rfl (ci := 0) rfl rfl xh_x (Or.inl q1062) q1064 qs27 (Nat.le_of_ble_eq_true rfl) (Nat.zero_le _) (Nat.zero_le _) (S_X1_clash (d := d + 0) (by decide) H) (fun o h' hq51 _ => ?_) (fun E i h' q _ => (cQ_no q).elim)
    obtain ⟨r49, E52, rfl, H⟩ := hq51
    cases E52
    refine ew_callV (d := d + 3) (as := [aI r49]) rfl dX1_about_142 me_X1_fine rfl (ci := 0) rfl rfl xh_x (Or.inl q1032) q1034 qs24 (Nat.le_of_ble_eq_true rfl) (Nat.zero_le _) (Nat.zero_le _) (S_X1_fine (d := d + 3) H) (fun o h' hq55 _ => ?_) (fun E i h' q _ => (xQi_no q).elim)
    obtain ⟨r53, s54, E56, rfl, H⟩ := hq55
    cases E56
    exact ew_ret (o := some (aI r53)) rfl ⟨_, _, rfl, rfl, H⟩ ⟨dX1_about_145, .int, rfl, Or.inl rfl, rfl⟩
  replace H := H.2 c48
  refine ew_tableOut (tgt := 146) dX1_about_1 (by clear H; omega) (by decide) ?_
  refine ew_aload_n dX1_about_146 rfl lm0 ?_
  refine ew_iconst dX1_about_147 (inI_of rfl) ?_
  refine ew_callV (d := d + 3) (as := [aI 1]) rfl dX1_about_148 me_X1_refused rfl (ci := 0) rfl rfl xh_x (Or.inl q406) q408 qs1 (Nat.le_of_ble_eq_true rfl) (Nat.zero_le _) (Nat.zero_le _) (S_X1_refused (d := d + 3) H) (fun o h' hq59 _ => ?_) (fun E i h' q _ => (xQi_no q).elim)
  obtain ⟨r57, s58, E60, rfl, H⟩ := hq59
  cases E60
  exact ew_ret (o := some (aI r57)) rfl ⟨_, _, rfl, rfl, H⟩ ⟨dX1_about_151, .int, rfl, Or.inl rfl, rfl⟩
def C_X1_about (a : Int) (s0 : XS) (K : Int → XS → Prop) : Prop := B_X1_about_E K a s0
theorem S_X1_about {d : Nat} {V : XV} {g : AH} {K : Int → XS → Prop} {a : Int} {s0 : XS} (H : C_X1_about a s0 K) : Sp mm_X1_about (d + 4) 0 0 [aR (some xT), aI a] (xh V s0 g) (xQi V g K) :=
  ew_sp rfl (Nat.le_of_ble_eq_true rfl) (T_X1_about_E d V g K a s0 (H ))
abbrev mm_X1_isIn_2 : EM := (yX1_isIn_2, cX1_isIn_2, 4, (Option.some .boolean), [])
theorem me_X1_isIn_2 : e_mth mm_X1_isIn_2 2 := ⟨rfl, q1076, q108, by decide +kernel, by decide⟩
def B_X1_isIn_2_2 (X2 : Int → Int → Int → Prop) (K : Int → Prop) (x1 : Int) (x2 : Int) (x3 : Int) (s0 : XS) : Prop :=
  (C_X1_terms s0 (fun r1 => ((r1 ≤ x3 → K 0) ∧ (¬ r1 ≤ x3 → ((0 ≤ x3 ∧ x3 < 24) ∧ ((((s0.2 4).2 0 x3) = x1 → (((0 ≤ x3 ∧ x3 < s0.1.1 31) ∧ xok s0 1) ∧ ((0 ≤ x3 ∧ x3 < s0.1.1 41) ∧ ((0 ≤ x3 ∧ x3 < s0.1.1 41) ∧ (((s0.1.2 33 x3) = x2 → K 1) ∧ (¬ (s0.1.2 33 x3) = x2 → (inI (x3 + 1) ∧ X2 x1 x2 (x3 + 1)))))))) ∧ (¬ ((s0.2 4).2 0 x3) = x1 → (inI (x3 + 1) ∧ X2 x1 x2 (x3 + 1)))))))))
def B_X1_isIn_2_E (X2 : Int → Int → Int → Prop) (K : Int → Prop) (a : Int) (b : Int) (s0 : XS) : Prop :=
  X2 a b 0
def W_X1_isIn_2_2 (d : Nat) (V : XV) (g : AH) (s0 : XS) (K : Int → Prop) (x1 : Int) (x2 : Int) (x3 : Int) : Prop := EW mm_X1_isIn_2 (d + 3) 0 0 (cQ (xh V s0 g) K) 2 [(0, aR (some xT)), (1, aI x1), (2, aI x2), (3, aI x3)] [] (xh V s0 g)
set_option maxHeartbeats 4000000 in
theorem T_X1_isIn_2_2 (d : Nat) (V : XV) (g : AH) (K : Int → Prop) (x1 : Int) (x2 : Int) (x3 : Int) (s0 : XS) (H : B_X1_isIn_2_2 (W_X1_isIn_2_2 d V g s0 K) K x1 x2 x3 s0) : EW mm_X1_isIn_2 (d + 3) 0 0 (cQ (xh V s0 g) K) 2 [(0, aR (some xT)), (1, aI x1), (2, aI x2), (3, aI x3)] [] (xh V s0 g) := by
  refine ew_iload_n dX1_isIn_2_2 rfl lm3 ?_
  refine ew_aload_n dX1_isIn_2_3 rfl lm0 ?_
  refine ew_callV (d := d + 2) (as := []) rfl dX1_isIn_2_4 me_X1_terms rfl (ci := 0) rfl rfl xh_x (Or.inl q1048) q1050 qs25 (Nat.le_of_ble_eq_true rfl) (Nat.zero_le _) (Nat.zero_le _) (S_X1_terms (d := d + 1) H) (fun o h' hq3 _ => ?_) (fun E i h' q _ => (cQ_no q).elim)
  obtain ⟨r1, E4, rfl, H⟩ := hq3
  cases E4
  refine ew_icmp_ge (tgt := 54) dX1_isIn_2_7 (by decide) (fun c5 => ?_) (fun c5 => ?_)
  · replace H := H.1 c5
    refine ew_iconst dX1_isIn_2_54 (inI_of rfl) ?_
    exact ew_ret (o := some (aI 0)) rfl ⟨_, rfl, rfl, H⟩ ⟨dX1_isIn_2_55, .boolean, rfl, Or.inr (Or.inl rfl), by decide⟩
  · replace H := H.2 c5
    refine ew_aload_n dX1_isIn_2_10 rfl lm0 ?_
    refine xw_get (v := aR (some (sI V 4 99))) dX1_isIn_2_11 (e_fl.a q334) xf_6 rfl ?_
    refine yw_get (cs := [3, 4, 5]) (v := aR (some (sI V 4 0))) dX1_isIn_2_14 (by decide) (e_fl.b q261 q262) yf_0 (by decide) rfl ?_
    refine ew_iload_n dX1_isIn_2_17 rfl lm3 ?_
    obtain ⟨v6, H⟩ := H
    refine yw_iald dX1_isIn_2_18 (by decide) rfl v6.1 v6.2 ?_
    refine ew_iload_n dX1_isIn_2_19 rfl lm1 ?_
    refine ew_icmp_ne (tgt := 48) dX1_isIn_2_20 (by decide) (fun c7 => ?_) (fun c7 => ?_)
    · replace H := H.2 c7
      obtain ⟨v8, H⟩ := H
      refine ew_iinc dX1_isIn_2_48 lm3 (by decide) v8 (lv' := [(3, aI (x3 + 1)), (0, aR (some xT)), (1, aI x1), (2, aI x2)]) rfl ?_
      refine ew_sub (List.forall_mem_cons.mpr ⟨lm1, (List.forall_mem_cons.mpr ⟨lm2, (List.forall_mem_cons.mpr ⟨lm3, (List.forall_mem_cons.mpr ⟨lm0, e_nm⟩)⟩)⟩)⟩) ?_
      refine ew_goto (tgt := 2) dX1_isIn_2_51 (by decide) ?_
      exact ew_room (Nat.le_refl _) (Nat.zero_le _) (Nat.zero_le _) (ew_sub (List.forall_mem_cons.mpr ⟨lm0, (List.forall_mem_cons.mpr ⟨lm1, (List.forall_mem_cons.mpr ⟨lm2, (List.forall_mem_cons.mpr ⟨lm3, e_nm⟩)⟩)⟩)⟩) H)
    · replace H := H.1 c7
      refine ew_aload_n dX1_isIn_2_23 rfl lm0 ?_
      refine xw_get (v := aR (some (bI V 1 0))) dX1_isIn_2_24 (e_fl.a q333) xf_5 rfl ?_
      refine xw_book dX1_isIn_2_27 (e_fl.c q191) bf_1 ?_
      refine ew_iload_n dX1_isIn_2_30 rfl lm3 ?_
      obtain ⟨v9, H⟩ := H
      refine lw_g1 (d := d + 0) dX1_isIn_2_31 q1021 (Nat.le_of_ble_eq_true rfl) v9.1 v9.2 ?_
      obtain ⟨v10, H⟩ := H
      refine cm_cast (f := x3) dX1_isIn_2_36 q1072 v10 ?_
      obtain ⟨v11, H⟩ := H
      refine gm_2 (f := x3) dX1_isIn_2_39 (e_fl.c q823) tf2_2 v11 ?_
      refine ew_iload_n dX1_isIn_2_42 rfl lm2 ?_
      refine ew_icmp_ne (tgt := 48) dX1_isIn_2_43 (by decide) (fun c12 => ?_) (fun c12 => ?_)
      · replace H := H.2 c12
        obtain ⟨v13, H⟩ := H
        refine ew_iinc dX1_isIn_2_48 lm3 (by decide) v13 (lv' := [(3, aI (x3 + 1)), (0, aR (some xT)), (1, aI x1), (2, aI x2)]) rfl ?_
        refine ew_sub (List.forall_mem_cons.mpr ⟨lm1, (List.forall_mem_cons.mpr ⟨lm2, (List.forall_mem_cons.mpr ⟨lm3, (List.forall_mem_cons.mpr ⟨lm0, e_nm⟩)⟩)⟩)⟩) ?_
        refine ew_goto (tgt := 2) dX1_isIn_2_51 (by decide) ?_
        exact ew_room (Nat.le_refl _) (Nat.zero_le _) (Nat.zero_le _) (ew_sub (List.forall_mem_cons.mpr ⟨lm0, (List.forall_mem_cons.mpr ⟨lm1, (List.forall_mem_cons.mpr ⟨lm2, (List.forall_mem_cons.mpr ⟨lm3, e_nm⟩)⟩)⟩)⟩) H)
      · replace H := H.1 c12
        refine ew_iconst dX1_isIn_2_46 (inI_of rfl) ?_
        exact ew_ret (o := some (aI 1)) rfl ⟨_, rfl, rfl, H⟩ ⟨dX1_isIn_2_47, .boolean, rfl, Or.inr (Or.inl rfl), by decide⟩
set_option maxHeartbeats 4000000 in
theorem T_X1_isIn_2_E (d : Nat) (V : XV) (g : AH) (K : Int → Prop) (a : Int) (b : Int) (s0 : XS) (H : B_X1_isIn_2_E (W_X1_isIn_2_2 d V g s0 K) K a b s0) : EW mm_X1_isIn_2 (d + 3) 0 0 (cQ (xh V s0 g) K) 0 [(0, aR (some xT)), (1, aI a), (2, aI b)] [] (xh V s0 g) := by
  refine ew_iconst dX1_isIn_2_0 (inI_of rfl) ?_
  refine ew_istore_n dX1_isIn_2_1 rfl (by decide) (lv' := [(3, aI 0), (0, aR (some xT)), (1, aI a), (2, aI b)]) rfl ?_
  refine ew_sub (List.forall_mem_cons.mpr ⟨lm1, (List.forall_mem_cons.mpr ⟨lm2, (List.forall_mem_cons.mpr ⟨lm3, (List.forall_mem_cons.mpr ⟨lm0, e_nm⟩)⟩)⟩)⟩) ?_
  exact ew_room (Nat.le_refl _) (Nat.zero_le _) (Nat.zero_le _) (ew_sub (List.forall_mem_cons.mpr ⟨lm0, (List.forall_mem_cons.mpr ⟨lm1, (List.forall_mem_cons.mpr ⟨lm2, (List.forall_mem_cons.mpr ⟨lm3, e_nm⟩)⟩)⟩)⟩) H)
def C_X1_isIn_2 (a : Int) (b : Int) (s0 : XS) (K : Int → Prop) : Prop := ∀ (X2 : Int → Int → Int → Prop), (∀ (x1 : Int) (x2 : Int) (x3 : Int), B_X1_isIn_2_2 X2 K x1 x2 x3 s0 → X2 x1 x2 x3) → B_X1_isIn_2_E X2 K a b s0
theorem S_X1_isIn_2 {d : Nat} {V : XV} {g : AH} {K : Int → Prop} {a : Int} {b : Int} {s0 : XS} (H : C_X1_isIn_2 a b s0 K) : Sp mm_X1_isIn_2 (d + 3) 0 0 [aR (some xT), aI a, aI b] (xh V s0 g) (cQ (xh V s0 g) K) :=
  ew_sp rfl (Nat.le_of_ble_eq_true rfl) (T_X1_isIn_2_E d V g K a b s0 (H _ (fun x1 x2 x3 H => T_X1_isIn_2_2 d V g K x1 x2 x3 s0 H)))
abbrev mm_X1_depth : EM := (yX1_depth, cX1_depth, 7, (Option.some .int), [])
theorem me_X1_depth : e_mth mm_X1_depth 1 := ⟨rfl, q1099, q108, by decide +kernel, by decide⟩
def B_X1_depth_29 (X29 : Int → Int → Int → Int → Prop) (K : Int → Prop) (x2 : Int) (x3 : Int) (x4 : Int) (x5 : Int) (s0 : XS) : Prop :=
  ((x4 ≤ x5 → K x2) ∧ (¬ x4 ≤ x5 → (((0 ≤ x3 ∧ x3 < s0.1.1 41) ∧ 0 ≤ x5 ∧ x5 < s0.1.2 34 x3) ∧ ((0 ≤ (s0.1.2 (100 + (x3).toNat) x5) ∧ (s0.1.2 (100 + (x3).toNat) x5) < 24) ∧ ((inI (1 + (s0.1.2 13 (s0.1.2 (100 + (x3).toNat) x5)))) ∧ (inI (x5 + 1) ∧ X29 (jmax x2 (1 + (s0.1.2 13 (s0.1.2 (100 + (x3).toNat) x5)))) x3 x4 (x5 + 1)))))))
def B_X1_depth_E (X29 : Int → Int → Int → Int → Prop) (K : Int → Prop) (a : Int) (s0 : XS) : Prop :=
  (((0 ≤ a ∧ a < s0.1.1 31) ∧ xok s0 1) ∧ ((0 ≤ a ∧ a < s0.1.1 41) ∧ ((0 ≤ a ∧ a < s0.1.1 41) ∧ (((0 ≤ a ∧ a < s0.1.1 41) ∧ 0 ≤ s0.1.2 34 a ∧ s0.1.2 34 a < 2147483648) ∧ X29 0 a (s0.1.2 34 a) 0))))
def W_X1_depth_29 (d : Nat) (V : XV) (g : AH) (s0 : XS) (K : Int → Prop) (x2 : Int) (x3 : Int) (x4 : Int) (x5 : Int) : Prop := EW mm_X1_depth (d + 3) 0 0 (cQ (xh V s0 g) K) 29 [(0, aR (some xT)), (2, aI x2), (3, aR (some (bI V 14 (x3).toNat))), (4, aI x4), (5, aI x5)] [] (xh V s0 g)
set_option maxHeartbeats 4000000 in
theorem T_X1_depth_29 (d : Nat) (V : XV) (g : AH) (K : Int → Prop) (x2 : Int) (x3 : Int) (x4 : Int) (x5 : Int) (s0 : XS) (H : B_X1_depth_29 (W_X1_depth_29 d V g s0 K) K x2 x3 x4 x5 s0) : EW mm_X1_depth (d + 3) 0 0 (cQ (xh V s0 g) K) 29 [(0, aR (some xT)), (2, aI x2), (3, aR (some (bI V 14 (x3).toNat))), (4, aI x4), (5, aI x5)] [] (xh V s0 g) := by
  refine ew_iload dX1_depth_29 lm4 ?_
  refine ew_iload dX1_depth_31 lm3 ?_
  refine ew_icmp_ge (tgt := 62) dX1_depth_33 (by decide) (fun c1 => ?_) (fun c1 => ?_)
  · replace H := H.1 c1
    refine ew_iload_n dX1_depth_62 rfl lm1 ?_
    exact ew_ret (o := some (aI x2)) rfl ⟨_, rfl, rfl, H⟩ ⟨dX1_depth_63, .int, rfl, Or.inl rfl, rfl⟩
  · replace H := H.2 c1
    refine ew_aload_n dX1_depth_36 rfl lm2 ?_
    refine ew_iload dX1_depth_37 lm4 ?_
    obtain ⟨v2, H⟩ := H
    refine pw_iald (f := x3) dX1_depth_39 v2.1 v2.2 ?_
    refine ew_istore dX1_depth_40 (by decide) (lv' := [(6, aI (s0.1.2 (100 + (x3).toNat) x5)), (0, aR (some xT)), (2, aI x2), (3, aR (some (bI V 14 (x3).toNat))), (4, aI x4), (5, aI x5)]) rfl ?_
    refine ew_sub (List.forall_mem_cons.mpr ⟨lm1, (List.forall_mem_cons.mpr ⟨lm2, (List.forall_mem_cons.mpr ⟨lm3, (List.forall_mem_cons.mpr ⟨lm4, (List.forall_mem_cons.mpr ⟨lm5, (List.forall_mem_cons.mpr ⟨lm0, e_nm⟩)⟩)⟩)⟩)⟩)⟩) ?_
    refine ew_iload_n dX1_depth_42 rfl lm1 ?_
    refine ew_iconst dX1_depth_43 (inI_of rfl) ?_
    refine ew_aload_n dX1_depth_44 rfl lm0 ?_
    refine xw_get (v := aR (some (0, 2, 13))) dX1_depth_45 (e_fl.a q341) xf_13 rfl ?_
    refine ew_iload dX1_depth_48 lm5 ?_
    obtain ⟨v3, H⟩ := H
    refine xw_iald dX1_depth_50 rfl v3.1 v3.2 ?_
    obtain ⟨v4, H⟩ := H
    refine ew_iadd dX1_depth_51 v4 ?_
    refine ew_max (d := d + 2) dX1_depth_52 q1100 (Nat.le_of_ble_eq_true rfl) ?_
    refine ew_istore_n dX1_depth_55 rfl (by decide) (lv' := [(2, aI (jmax x2 (1 + (s0.1.2 13 (s0.1.2 (100 + (x3).toNat) x5))))), (0, aR (some xT)), (3, aR (some (bI V 14 (x3).toNat))), (4, aI x4), (5, aI x5), (6, aI (s0.1.2 (100 + (x3).toNat) x5))]) rfl ?_
    refine ew_sub (List.forall_mem_cons.mpr ⟨lm1, (List.forall_mem_cons.mpr ⟨lm0, (List.forall_mem_cons.mpr ⟨lm2, (List.forall_mem_cons.mpr ⟨lm3, (List.forall_mem_cons.mpr ⟨lm4, (List.forall_mem_cons.mpr ⟨lm5, e_nm⟩)⟩)⟩)⟩)⟩)⟩) ?_
    obtain ⟨v5, H⟩ := H
    refine ew_iinc dX1_depth_56 lm4 (by decide) v5 (lv' := [(5, aI (x5 + 1)), (0, aR (some xT)), (2, aI (jmax x2 (1 + (s0.1.2 13 (s0.1.2 (100 + (x3).toNat) x5))))), (3, aR (some (bI V 14 (x3).toNat))), (4, aI x4), (6, aI (s0.1.2 (100 + (x3).toNat) x5))]) rfl ?_
    refine ew_sub (List.forall_mem_cons.mpr ⟨lm1, (List.forall_mem_cons.mpr ⟨lm2, (List.forall_mem_cons.mpr ⟨lm3, (List.forall_mem_cons.mpr ⟨lm4, (List.forall_mem_cons.mpr ⟨lm0, (List.forall_mem_cons.mpr ⟨lm5, e_nm⟩)⟩)⟩)⟩)⟩)⟩) ?_
    refine ew_goto (tgt := 29) dX1_depth_59 (by decide) ?_
    exact ew_room (Nat.le_refl _) (Nat.zero_le _) (Nat.zero_le _) (ew_sub (List.forall_mem_cons.mpr ⟨lm0, (List.forall_mem_cons.mpr ⟨lm1, (List.forall_mem_cons.mpr ⟨lm2, (List.forall_mem_cons.mpr ⟨lm3, (List.forall_mem_cons.mpr ⟨lm4, e_nm⟩)⟩)⟩)⟩)⟩) H)
set_option maxHeartbeats 4000000 in
theorem T_X1_depth_E (d : Nat) (V : XV) (g : AH) (K : Int → Prop) (a : Int) (s0 : XS) (H : B_X1_depth_E (W_X1_depth_29 d V g s0 K) K a s0) : EW mm_X1_depth (d + 3) 0 0 (cQ (xh V s0 g) K) 0 [(0, aR (some xT)), (1, aI a)] [] (xh V s0 g) := by
  refine ew_iconst dX1_depth_0 (inI_of rfl) ?_
  refine ew_istore_n dX1_depth_1 rfl (by decide) (lv' := [(2, aI 0), (0, aR (some xT)), (1, aI a)]) rfl ?_
  refine ew_sub (List.forall_mem_cons.mpr ⟨lm1, (List.forall_mem_cons.mpr ⟨lm2, (List.forall_mem_cons.mpr ⟨lm0, e_nm⟩)⟩)⟩) ?_
  refine ew_aload_n dX1_depth_2 rfl lm0 ?_
  refine xw_get (v := aR (some (bI V 1 0))) dX1_depth_3 (e_fl.a q333) xf_5 rfl ?_
  refine xw_book dX1_depth_6 (e_fl.c q191) bf_1 ?_
  refine ew_iload_n dX1_depth_9 rfl lm1 ?_
  obtain ⟨v1, H⟩ := H
  refine lw_g1 (d := d + 0) dX1_depth_10 q1021 (Nat.le_of_ble_eq_true rfl) v1.1 v1.2 ?_
  obtain ⟨v2, H⟩ := H
  refine cm_cast (f := a) dX1_depth_15 q1072 v2 ?_
  obtain ⟨v3, H⟩ := H
  refine gm_3 (f := a) dX1_depth_18 (e_fl.c q827) tf2_3 v3 ?_
  refine ew_astore_n dX1_depth_21 rfl (by decide) (lv' := [(3, aR (some (bI V 14 (a).toNat))), (0, aR (some xT)), (1, aI a), (2, aI 0)]) rfl ?_
  refine ew_sub (List.forall_mem_cons.mpr ⟨lm1, (List.forall_mem_cons.mpr ⟨lm2, (List.forall_mem_cons.mpr ⟨lm3, (List.forall_mem_cons.mpr ⟨lm0, e_nm⟩)⟩)⟩)⟩) ?_
  refine ew_aload_n dX1_depth_22 rfl lm3 ?_
  obtain ⟨v4, H⟩ := H
  refine pw_alen (f := a) dX1_depth_23 v4.1 v4.2 ?_
  refine ew_istore dX1_depth_24 (by decide) (lv' := [(4, aI (s0.1.2 34 a)), (0, aR (some xT)), (1, aI a), (2, aI 0), (3, aR (some (bI V 14 (a).toNat)))]) rfl ?_
  refine ew_sub (List.forall_mem_cons.mpr ⟨lm1, (List.forall_mem_cons.mpr ⟨lm2, (List.forall_mem_cons.mpr ⟨lm3, (List.forall_mem_cons.mpr ⟨lm4, (List.forall_mem_cons.mpr ⟨lm0, e_nm⟩)⟩)⟩)⟩)⟩) ?_
  refine ew_iconst dX1_depth_26 (inI_of rfl) ?_
  refine ew_istore dX1_depth_27 (by decide) (lv' := [(5, aI 0), (0, aR (some xT)), (1, aI a), (2, aI 0), (3, aR (some (bI V 14 (a).toNat))), (4, aI (s0.1.2 34 a))]) rfl ?_
  refine ew_sub (List.forall_mem_cons.mpr ⟨lm1, (List.forall_mem_cons.mpr ⟨lm2, (List.forall_mem_cons.mpr ⟨lm3, (List.forall_mem_cons.mpr ⟨lm4, (List.forall_mem_cons.mpr ⟨lm5, (List.forall_mem_cons.mpr ⟨lm0, e_nm⟩)⟩)⟩)⟩)⟩)⟩) ?_
  exact ew_room (Nat.le_refl _) (Nat.zero_le _) (Nat.zero_le _) (ew_sub (List.forall_mem_cons.mpr ⟨lm0, (List.forall_mem_cons.mpr ⟨lm2, (List.forall_mem_cons.mpr ⟨lm3, (List.forall_mem_cons.mpr ⟨lm4, (List.forall_mem_cons.mpr ⟨lm5, e_nm⟩)⟩)⟩)⟩)⟩) H)
def C_X1_depth (a : Int) (s0 : XS) (K : Int → Prop) : Prop := ∀ (X29 : Int → Int → Int → Int → Prop), (∀ (x2 : Int) (x3 : Int) (x4 : Int) (x5 : Int), B_X1_depth_29 X29 K x2 x3 x4 x5 s0 → X29 x2 x3 x4 x5) → B_X1_depth_E X29 K a s0
theorem S_X1_depth {d : Nat} {V : XV} {g : AH} {K : Int → Prop} {a : Int} {s0 : XS} (H : C_X1_depth a s0 K) : Sp mm_X1_depth (d + 3) 0 0 [aR (some xT), aI a] (xh V s0 g) (cQ (xh V s0 g) K) :=
  ew_sp rfl (Nat.le_of_ble_eq_true rfl) (T_X1_depth_E d V g K a s0 (H _ (fun x2 x3 x4 x5 H => T_X1_depth_29 d V g K x2 x3 x4 x5 s0 H)))
abbrev mm_X1_deep : EM := (yX1_deep, cX1_deep, 3, (Option.some .int), [])
theorem me_X1_deep : e_mth mm_X1_deep 1 := ⟨rfl, q1095, q108, by decide +kernel, by decide⟩
def B_X1_deep_2 (X2 : Int → Int → XS → Prop) (K : Int → XS → Prop) (x1 : Int) (x2 : Int) (s0 : XS) : Prop :=
  ((x1 < x2 → ((0 ≤ x1 ∧ x1 < 24) ∧ K (s0.1.2 13 x1) s0)) ∧ (¬ x1 < x2 → (C_X1_depth x2 s0 (fun r3 => (((0 ≤ x2 ∧ x2 < 24)) ∧ ∀ s7 : XS, s7 = xa s0 13 x2 r3 → (inI (x2 + 1) ∧ X2 x1 (x2 + 1) s7))))))
def B_X1_deep_E (X2 : Int → Int → XS → Prop) (K : Int → XS → Prop) (a : Int) (s0 : XS) : Prop :=
  X2 a 0 s0
def W_X1_deep_2 (d : Nat) (V : XV) (g : AH) (K : Int → XS → Prop) (x1 : Int) (x2 : Int) (s0 : XS) : Prop := EW mm_X1_deep (d + 4) 0 0 (xQi V g K) 2 [(0, aR (some xT)), (1, aI x1), (2, aI x2)] [] (xh V s0 g)
set_option maxHeartbeats 4000000 in
theorem T_X1_deep_2 (d : Nat) (V : XV) (g : AH) (K : Int → XS → Prop) (x1 : Int) (x2 : Int) (s0 : XS) (H : B_X1_deep_2 (W_X1_deep_2 d V g K) K x1 x2 s0) : EW mm_X1_deep (d + 4) 0 0 (xQi V g K) 2 [(0, aR (some xT)), (1, aI x1), (2, aI x2)] [] (xh V s0 g) := by
  refine ew_iload_n dX1_deep_2 rfl lm2 ?_
  refine ew_iload_n dX1_deep_3 rfl lm1 ?_
  refine ew_icmp_gt (tgt := 24) dX1_deep_4 (by decide) (fun c1 => ?_) (fun c1 => ?_)
  · replace H := H.1 c1
    refine ew_aload_n dX1_deep_24 rfl lm0 ?_
    refine xw_get (v := aR (some (0, 2, 13))) dX1_deep_25 (e_fl.a q341) xf_13 rfl ?_
    refine ew_iload_n dX1_deep_28 rfl lm1 ?_
    obtain ⟨v2, H⟩ := H
    refine xw_iald dX1_deep_29 rfl v2.1 v2.2 ?_
    exact ew_ret (o := some (aI (s0.1.2 13 x1))) rfl ⟨_, _, rfl, rfl, H⟩ ⟨dX1_deep_30, .int, rfl, Or.inl rfl, rfl⟩
  · replace H := H.2 c1
    refine ew_aload_n dX1_deep_7 rfl lm0 ?_
    refine xw_get (v := aR (some (0, 2, 13))) dX1_deep_8 (e_fl.a q341) xf_13 rfl ?_
    refine ew_iload_n dX1_deep_11 rfl lm2 ?_
    refine ew_aload_n dX1_deep_12 rfl lm0 ?_
    refine ew_iload_n dX1_deep_13 rfl lm2 ?_
    refine ew_callV (d := d + 3) (as := [aI x2]) rfl dX1_deep_14 me_X1_depth rfl (ci := 0) rfl rfl xh_x (Or.inl q1096) q1098 qs32 (Nat.le_of_ble_eq_true rfl) (Nat.zero_le _) (Nat.zero_le _) (S_X1_depth (d := d + 0) H) (fun o h' hq5 _ => ?_) (fun E i h' q _ => (cQ_no q).elim)
    obtain ⟨r3, E6, rfl, H⟩ := hq5
    cases E6
    obtain ⟨v9, H⟩ := H
    refine xw_iast dX1_deep_17 (by decide) rfl rfl v9.1 v9.2 (fun s7 e8 => ?_)
    replace H := H s7 e8
    obtain ⟨v10, H⟩ := H
    refine ew_iinc dX1_deep_18 lm2 (by decide) v10 (lv' := [(2, aI (x2 + 1)), (0, aR (some xT)), (1, aI x1)]) rfl ?_
    refine ew_sub (List.forall_mem_cons.mpr ⟨lm1, (List.forall_mem_cons.mpr ⟨lm2, (List.forall_mem_cons.mpr ⟨lm0, e_nm⟩)⟩)⟩) ?_
    refine ew_goto (tgt := 2) dX1_deep_21 (by decide) ?_
    exact ew_room (Nat.le_refl _) (Nat.zero_le _) (Nat.zero_le _) (ew_sub (List.forall_mem_cons.mpr ⟨lm0, (List.forall_mem_cons.mpr ⟨lm1, (List.forall_mem_cons.mpr ⟨lm2, e_nm⟩)⟩)⟩) H)
set_option maxHeartbeats 4000000 in
theorem T_X1_deep_E (d : Nat) (V : XV) (g : AH) (K : Int → XS → Prop) (a : Int) (s0 : XS) (H : B_X1_deep_E (W_X1_deep_2 d V g K) K a s0) : EW mm_X1_deep (d + 4) 0 0 (xQi V g K) 0 [(0, aR (some xT)), (1, aI a)] [] (xh V s0 g) := by
  refine ew_iconst dX1_deep_0 (inI_of rfl) ?_
  refine ew_istore_n dX1_deep_1 rfl (by decide) (lv' := [(2, aI 0), (0, aR (some xT)), (1, aI a)]) rfl ?_
  refine ew_sub (List.forall_mem_cons.mpr ⟨lm1, (List.forall_mem_cons.mpr ⟨lm2, (List.forall_mem_cons.mpr ⟨lm0, e_nm⟩)⟩)⟩) ?_
  exact ew_room (Nat.le_refl _) (Nat.zero_le _) (Nat.zero_le _) (ew_sub (List.forall_mem_cons.mpr ⟨lm0, (List.forall_mem_cons.mpr ⟨lm1, (List.forall_mem_cons.mpr ⟨lm2, e_nm⟩)⟩)⟩) H)
def C_X1_deep (a : Int) (s0 : XS) (K : Int → XS → Prop) : Prop := ∀ (X2 : Int → Int → XS → Prop), (∀ (x1 : Int) (x2 : Int) (s0 : XS), B_X1_deep_2 X2 K x1 x2 s0 → X2 x1 x2 s0) → B_X1_deep_E X2 K a s0
theorem S_X1_deep {d : Nat} {V : XV} {g : AH} {K : Int → XS → Prop} {a : Int} {s0 : XS} (H : C_X1_deep a s0 K) : Sp mm_X1_deep (d + 4) 0 0 [aR (some xT), aI a] (xh V s0 g) (xQi V g K) :=
  ew_sp rfl (Nat.le_of_ble_eq_true rfl) (T_X1_deep_E d V g K a s0 (H _ (fun x1 x2 s0 H => T_X1_deep_2 d V g K x1 x2 s0 H)))
abbrev mm_X1_uses : EM := (yX1_uses, cX1_uses, 7, (Option.some .boolean), [])
theorem me_X1_uses : e_mth mm_X1_uses 2 := ⟨rfl, q1091, q108, by decide +kernel, by decide⟩
def B_X1_uses_27 (X27 : Int → Int → Int → Int → Prop) (K : Int → Prop) (x2 : Int) (x3 : Int) (x4 : Int) (x5 : Int) (s0 : XS) : Prop :=
  ((x4 ≤ x5 → K 0) ∧ (¬ x4 ≤ x5 → (((0 ≤ x3 ∧ x3 < s0.1.1 41) ∧ 0 ≤ x5 ∧ x5 < s0.1.2 34 x3) ∧ ((0 ≤ (s0.1.2 (100 + (x3).toNat) x5) ∧ (s0.1.2 (100 + (x3).toNat) x5) < 24) ∧ ((((s0.2 4).2 0 (s0.1.2 (100 + (x3).toNat) x5)) = x2 → K 1) ∧ (¬ ((s0.2 4).2 0 (s0.1.2 (100 + (x3).toNat) x5)) = x2 → (inI (x5 + 1) ∧ X27 x2 x3 x4 (x5 + 1))))))))
def B_X1_uses_E (X27 : Int → Int → Int → Int → Prop) (K : Int → Prop) (a : Int) (b : Int) (s0 : XS) : Prop :=
  (((0 ≤ a ∧ a < s0.1.1 31) ∧ xok s0 1) ∧ ((0 ≤ a ∧ a < s0.1.1 41) ∧ ((0 ≤ a ∧ a < s0.1.1 41) ∧ (((0 ≤ a ∧ a < s0.1.1 41) ∧ 0 ≤ s0.1.2 34 a ∧ s0.1.2 34 a < 2147483648) ∧ X27 b a (s0.1.2 34 a) 0))))
def W_X1_uses_27 (d : Nat) (V : XV) (g : AH) (s0 : XS) (K : Int → Prop) (x2 : Int) (x3 : Int) (x4 : Int) (x5 : Int) : Prop := EW mm_X1_uses (d + 3) 0 0 (cQ (xh V s0 g) K) 27 [(0, aR (some xT)), (2, aI x2), (3, aR (some (bI V 14 (x3).toNat))), (4, aI x4), (5, aI x5)] [] (xh V s0 g)
set_option maxHeartbeats 4000000 in
theorem T_X1_uses_27 (d : Nat) (V : XV) (g : AH) (K : Int → Prop) (x2 : Int) (x3 : Int) (x4 : Int) (x5 : Int) (s0 : XS) (H : B_X1_uses_27 (W_X1_uses_27 d V g s0 K) K x2 x3 x4 x5 s0) : EW mm_X1_uses (d + 3) 0 0 (cQ (xh V s0 g) K) 27 [(0, aR (some xT)), (2, aI x2), (3, aR (some (bI V 14 (x3).toNat))), (4, aI x4), (5, aI x5)] [] (xh V s0 g) := by
  refine ew_iload dX1_uses_27 lm4 ?_
  refine ew_iload dX1_uses_29 lm3 ?_
  refine ew_icmp_ge (tgt := 62) dX1_uses_31 (by decide) (fun c1 => ?_) (fun c1 => ?_)
  · replace H := H.1 c1
    refine ew_iconst dX1_uses_62 (inI_of rfl) ?_
    exact ew_ret (o := some (aI 0)) rfl ⟨_, rfl, rfl, H⟩ ⟨dX1_uses_63, .boolean, rfl, Or.inr (Or.inl rfl), by decide⟩
  · replace H := H.2 c1
    refine ew_aload_n dX1_uses_34 rfl lm2 ?_
    refine ew_iload dX1_uses_35 lm4 ?_
    obtain ⟨v2, H⟩ := H
    refine pw_iald (f := x3) dX1_uses_37 v2.1 v2.2 ?_
    refine ew_istore dX1_uses_38 (by decide) (lv' := [(6, aI (s0.1.2 (100 + (x3).toNat) x5)), (0, aR (some xT)), (2, aI x2), (3, aR (some (bI V 14 (x3).toNat))), (4, aI x4), (5, aI x5)]) rfl ?_
    refine ew_sub (List.forall_mem_cons.mpr ⟨lm1, (List.forall_mem_cons.mpr ⟨lm2, (List.forall_mem_cons.mpr ⟨lm3, (List.forall_mem_cons.mpr ⟨lm4, (List.forall_mem_cons.mpr ⟨lm5, (List.forall_mem_cons.mpr ⟨lm0, e_nm⟩)⟩)⟩)⟩)⟩)⟩) ?_
    refine ew_aload_n dX1_uses_40 rfl lm0 ?_
    refine xw_get (v := aR (some (sI V 4 99))) dX1_uses_41 (e_fl.a q334) xf_6 rfl ?_
    refine yw_get (cs := [3, 4, 5]) (v := aR (some (sI V 4 0))) dX1_uses_44 (by decide) (e_fl.b q261 q262) yf_0 (by decide) rfl ?_
    refine ew_iload dX1_uses_47 lm5 ?_
    obtain ⟨v3, H⟩ := H
    refine yw_iald dX1_uses_49 (by decide) rfl v3.1 v3.2 ?_
    refine ew_iload_n dX1_uses_50 rfl lm1 ?_
    refine ew_icmp_ne (tgt := 56) dX1_uses_51 (by decide) (fun c4 => ?_) (fun c4 => ?_)
    · replace H := H.2 c4
      obtain ⟨v5, H⟩ := H
      refine ew_iinc dX1_uses_56 lm4 (by decide) v5 (lv' := [(5, aI (x5 + 1)), (0, aR (some xT)), (2, aI x2), (3, aR (some (bI V 14 (x3).toNat))), (4, aI x4), (6, aI (s0.1.2 (100 + (x3).toNat) x5))]) rfl ?_
      refine ew_sub (List.forall_mem_cons.mpr ⟨lm1, (List.forall_mem_cons.mpr ⟨lm2, (List.forall_mem_cons.mpr ⟨lm3, (List.forall_mem_cons.mpr ⟨lm4, (List.forall_mem_cons.mpr ⟨lm0, (List.forall_mem_cons.mpr ⟨lm5, e_nm⟩)⟩)⟩)⟩)⟩)⟩) ?_
      refine ew_goto (tgt := 27) dX1_uses_59 (by decide) ?_
      exact ew_room (Nat.le_refl _) (Nat.zero_le _) (Nat.zero_le _) (ew_sub (List.forall_mem_cons.mpr ⟨lm0, (List.forall_mem_cons.mpr ⟨lm1, (List.forall_mem_cons.mpr ⟨lm2, (List.forall_mem_cons.mpr ⟨lm3, (List.forall_mem_cons.mpr ⟨lm4, e_nm⟩)⟩)⟩)⟩)⟩) H)
    · replace H := H.1 c4
      refine ew_iconst dX1_uses_54 (inI_of rfl) ?_
      exact ew_ret (o := some (aI 1)) rfl ⟨_, rfl, rfl, H⟩ ⟨dX1_uses_55, .boolean, rfl, Or.inr (Or.inl rfl), by decide⟩
set_option maxHeartbeats 4000000 in
theorem T_X1_uses_E (d : Nat) (V : XV) (g : AH) (K : Int → Prop) (a : Int) (b : Int) (s0 : XS) (H : B_X1_uses_E (W_X1_uses_27 d V g s0 K) K a b s0) : EW mm_X1_uses (d + 3) 0 0 (cQ (xh V s0 g) K) 0 [(0, aR (some xT)), (1, aI a), (2, aI b)] [] (xh V s0 g) := by
  refine ew_aload_n dX1_uses_0 rfl lm0 ?_
  refine xw_get (v := aR (some (bI V 1 0))) dX1_uses_1 (e_fl.a q333) xf_5 rfl ?_
  refine xw_book dX1_uses_4 (e_fl.c q191) bf_1 ?_
  refine ew_iload_n dX1_uses_7 rfl lm1 ?_
  obtain ⟨v1, H⟩ := H
  refine lw_g1 (d := d + 0) dX1_uses_8 q1021 (Nat.le_of_ble_eq_true rfl) v1.1 v1.2 ?_
  obtain ⟨v2, H⟩ := H
  refine cm_cast (f := a) dX1_uses_13 q1072 v2 ?_
  obtain ⟨v3, H⟩ := H
  refine gm_3 (f := a) dX1_uses_16 (e_fl.c q827) tf2_3 v3 ?_
  refine ew_astore_n dX1_uses_19 rfl (by decide) (lv' := [(3, aR (some (bI V 14 (a).toNat))), (0, aR (some xT)), (1, aI a), (2, aI b)]) rfl ?_
  refine ew_sub (List.forall_mem_cons.mpr ⟨lm1, (List.forall_mem_cons.mpr ⟨lm2, (List.forall_mem_cons.mpr ⟨lm3, (List.forall_mem_cons.mpr ⟨lm0, e_nm⟩)⟩)⟩)⟩) ?_
  refine ew_aload_n dX1_uses_20 rfl lm3 ?_
  obtain ⟨v4, H⟩ := H
  refine pw_alen (f := a) dX1_uses_21 v4.1 v4.2 ?_
  refine ew_istore dX1_uses_22 (by decide) (lv' := [(4, aI (s0.1.2 34 a)), (0, aR (some xT)), (1, aI a), (2, aI b), (3, aR (some (bI V 14 (a).toNat)))]) rfl ?_
  refine ew_sub (List.forall_mem_cons.mpr ⟨lm1, (List.forall_mem_cons.mpr ⟨lm2, (List.forall_mem_cons.mpr ⟨lm3, (List.forall_mem_cons.mpr ⟨lm4, (List.forall_mem_cons.mpr ⟨lm0, e_nm⟩)⟩)⟩)⟩)⟩) ?_
  refine ew_iconst dX1_uses_24 (inI_of rfl) ?_
  refine ew_istore dX1_uses_25 (by decide) (lv' := [(5, aI 0), (0, aR (some xT)), (1, aI a), (2, aI b), (3, aR (some (bI V 14 (a).toNat))), (4, aI (s0.1.2 34 a))]) rfl ?_
  refine ew_sub (List.forall_mem_cons.mpr ⟨lm1, (List.forall_mem_cons.mpr ⟨lm2, (List.forall_mem_cons.mpr ⟨lm3, (List.forall_mem_cons.mpr ⟨lm4, (List.forall_mem_cons.mpr ⟨lm5, (List.forall_mem_cons.mpr ⟨lm0, e_nm⟩)⟩)⟩)⟩)⟩)⟩) ?_
  exact ew_room (Nat.le_refl _) (Nat.zero_le _) (Nat.zero_le _) (ew_sub (List.forall_mem_cons.mpr ⟨lm0, (List.forall_mem_cons.mpr ⟨lm2, (List.forall_mem_cons.mpr ⟨lm3, (List.forall_mem_cons.mpr ⟨lm4, (List.forall_mem_cons.mpr ⟨lm5, e_nm⟩)⟩)⟩)⟩)⟩) H)
def C_X1_uses (a : Int) (b : Int) (s0 : XS) (K : Int → Prop) : Prop := ∀ (X27 : Int → Int → Int → Int → Prop), (∀ (x2 : Int) (x3 : Int) (x4 : Int) (x5 : Int), B_X1_uses_27 X27 K x2 x3 x4 x5 s0 → X27 x2 x3 x4 x5) → B_X1_uses_E X27 K a b s0
theorem S_X1_uses {d : Nat} {V : XV} {g : AH} {K : Int → Prop} {a : Int} {b : Int} {s0 : XS} (H : C_X1_uses a b s0 K) : Sp mm_X1_uses (d + 3) 0 0 [aR (some xT), aI a, aI b] (xh V s0 g) (cQ (xh V s0 g) K) :=
  ew_sp rfl (Nat.le_of_ble_eq_true rfl) (T_X1_uses_E d V g K a b s0 (H _ (fun x2 x3 x4 x5 H => T_X1_uses_27 d V g K x2 x3 x4 x5 s0 H)))
