/-! ReasonCloser: methods as predicates, by program (gen/gxx.py) -/
set_option maxRecDepth 100000
abbrev mm_X1_bySames : EM := (yX1_bySames, cX1_bySames, 3, (Option.none : Option Jvm.ClassFile.FieldType), [])
theorem me_X1_bySames : e_mth mm_X1_bySames 1 := ⟨rfl, q1242, q108, by decide +kernel, by decide⟩
def B_X1_bySames_10 (X10 : Int → XS → Prop) (X33 : Int → XS → Prop) (K : XS → Prop) (x2 : Int) (s0 : XS) : Prop :=
  (C_X1_terms s0 (fun r1 => ((r1 ≤ x2 → X33 0 s0) ∧ (¬ r1 ≤ x2 → (((0 ≤ x2 ∧ x2 < 24)) ∧ ∀ s6 : XS, s6 = ya s0 1 0 x2 x2 → (inI (x2 + 1) ∧ X10 (x2 + 1) s6))))))
def B_X1_bySames_33 (X10 : Int → XS → Prop) (X33 : Int → XS → Prop) (K : XS → Prop) (x2 : Int) (s0 : XS) : Prop :=
  (C_X1_sames s0 (fun r1 => ((r1 ≤ x2 → K s0) ∧ (¬ r1 ≤ x2 → (((0 ≤ x2 ∧ x2 < s0.1.1 32) ∧ xok s0 2) ∧ ((0 ≤ x2 ∧ x2 < s0.1.1 42) ∧ ((0 ≤ x2 ∧ x2 < s0.1.1 42) ∧ (((0 ≤ x2 ∧ x2 < s0.1.1 32) ∧ xok s0 2) ∧ ((0 ≤ x2 ∧ x2 < s0.1.1 42) ∧ ((0 ≤ x2 ∧ x2 < s0.1.1 42) ∧ (C_X3_unites_Q (s0.1.2 40 x2) (s0.1.2 41 x2) 1 s0 (fun s13 => (inI (x2 + 1) ∧ X33 (x2 + 1) s13)))))))))))))
def B_X1_bySames_E (X10 : Int → XS → Prop) (X33 : Int → XS → Prop) (K : XS → Prop) (s0 : XS) : Prop :=
  (C_X1_terms s0 (fun r1 => (∀ s5 : XS, s5 = ys s0 1 1 r1 → X10 0 s5)))
def W_X1_bySames_10 (d : Nat) (V : XV) (g : AH) (K : XS → Prop) (x2 : Int) (s0 : XS) : Prop := EW mm_X1_bySames (d + 3) 0 0 (xQv V g K) 10 [(0, aR (some xT)), (1, aR (some (sI V 1 99))), (2, aI x2)] [] (xh V s0 g)
def W_X1_bySames_33 (d : Nat) (V : XV) (g : AH) (K : XS → Prop) (x2 : Int) (s0 : XS) : Prop := EW mm_X1_bySames (d + 3) 0 0 (xQv V g K) 33 [(0, aR (some xT)), (1, aR (some (sI V 1 99))), (2, aI x2)] [] (xh V s0 g)
set_option maxHeartbeats 4000000 in
theorem T_X1_bySames_10 (d : Nat) (V : XV) (g : AH) (K : XS → Prop) (x2 : Int) (s0 : XS) (H : B_X1_bySames_10 (W_X1_bySames_10 d V g K) (W_X1_bySames_33 d V g K) K x2 s0) : EW mm_X1_bySames (d + 3) 0 0 (xQv V g K) 10 [(0, aR (some xT)), (1, aR (some (sI V 1 99))), (2, aI x2)] [] (xh V s0 g) := by
  refine ew_iload_n dX1_bySames_10 rfl lm2 ?_
  refine ew_aload_n dX1_bySames_11 rfl lm0 ?_
  refine ew_callV (d := d + 2) (as := []) rfl dX1_bySames_12 me_X1_terms rfl (ci := 0) rfl rfl xh_x (Or.inl q1048) q1050 qs25 (Nat.le_of_ble_eq_true rfl) (Nat.zero_le _) (Nat.zero_le _) (S_X1_terms (d := d + 1) H) (fun o h' hq3 _ => ?_) (fun E i h' q _ => (cQ_no q).elim)
  obtain ⟨r1, E4, rfl, H⟩ := hq3
  cases E4
  refine ew_icmp_ge (tgt := 31) dX1_bySames_15 (by decide) (fun c5 => ?_) (fun c5 => ?_)
  · replace H := H.1 c5
    refine ew_iconst dX1_bySames_31 (inI_of rfl) ?_
    refine ew_istore_n dX1_bySames_32 rfl (by decide) (lv' := [(2, aI 0), (0, aR (some xT)), (1, aR (some (sI V 1 99)))]) rfl ?_
    refine ew_sub (List.forall_mem_cons.mpr ⟨lm1, (List.forall_mem_cons.mpr ⟨lm2, (List.forall_mem_cons.mpr ⟨lm0, e_nm⟩)⟩)⟩) ?_
    exact ew_room (Nat.le_refl _) (Nat.zero_le _) (Nat.zero_le _) (ew_sub (List.forall_mem_cons.mpr ⟨lm0, (List.forall_mem_cons.mpr ⟨lm1, (List.forall_mem_cons.mpr ⟨lm2, e_nm⟩)⟩)⟩) H)
  · replace H := H.2 c5
    refine ew_aload_n dX1_bySames_18 rfl lm1 ?_
    refine yw_get (cs := [3, 4, 5]) (v := aR (some (sI V 1 0))) dX1_bySames_19 (by decide) (e_fl.a q263) yf_0 (by decide) rfl ?_
    refine ew_iload_n dX1_bySames_22 rfl lm2 ?_
    refine ew_iload_n dX1_bySames_23 rfl lm2 ?_
    obtain ⟨v8, H⟩ := H
    refine yw_iast dX1_bySames_24 (by decide) (by decide) rfl rfl v8.1 v8.2 (fun s6 e7 => ?_)
    replace H := H s6 e7
    obtain ⟨v9, H⟩ := H
    refine ew_iinc dX1_bySames_25 lm2 (by decide) v9 (lv' := [(2, aI (x2 + 1)), (0, aR (some xT)), (1, aR (some (sI V 1 99)))]) rfl ?_
    refine ew_sub (List.forall_mem_cons.mpr ⟨lm1, (List.forall_mem_cons.mpr ⟨lm2, (List.forall_mem_cons.mpr ⟨lm0, e_nm⟩)⟩)⟩) ?_
    refine ew_goto (tgt := 10) dX1_bySames_28 (by decide) ?_
    exact ew_room (Nat.le_refl _) (Nat.zero_le _) (Nat.zero_le _) (ew_sub (List.forall_mem_cons.mpr ⟨lm0, (List.forall_mem_cons.mpr ⟨lm1, (List.forall_mem_cons.mpr ⟨lm2, e_nm⟩)⟩)⟩) H)
set_option maxHeartbeats 4000000 in
theorem T_X1_bySames_33 (d : Nat) (V : XV) (g : AH) (K : XS → Prop) (x2 : Int) (s0 : XS) (H : B_X1_bySames_33 (W_X1_bySames_10 d V g K) (W_X1_bySames_33 d V g K) K x2 s0) : EW mm_X1_bySames (d + 3) 0 0 (xQv V g K) 33 [(0, aR (some xT)), (1, aR (some (sI V 1 99))), (2, aI x2)] [] (xh V s0 g) := by
  refine ew_iload_n dX1_bySames_33 rfl lm2 ?_
  refine ew_aload_n dX1_bySames_34 rfl lm0 ?_
  refine ew_callV (d := d + 2) (as := []) rfl dX1_bySames_35 me_X1_sames rfl (ci := 0) rfl rfl xh_x (Or.inl q1052) q1054 qs26 (Nat.le_of_ble_eq_true rfl) (Nat.zero_le _) (Nat.zero_le _) (S_X1_sames (d := d + 1) H) (fun o h' hq3 _ => ?_) (fun E i h' q _ => (cQ_no q).elim)
  obtain ⟨r1, E4, rfl, H⟩ := hq3
  cases E4
  refine ew_icmp_ge (tgt := 89) dX1_bySames_38 (by decide) (fun c5 => ?_) (fun c5 => ?_)
  · replace H := H.1 c5
    exact ew_ret (o := none) rfl ⟨_, rfl, rfl, H⟩ ⟨rfl, dX1_bySames_89⟩
  · replace H := H.2 c5
    refine ew_aload_n dX1_bySames_41 rfl lm1 ?_
    refine ew_aload_n dX1_bySames_42 rfl lm0 ?_
    refine xw_get (v := aR (some (bI V 1 0))) dX1_bySames_43 (e_fl.a q333) xf_5 rfl ?_
    refine xw_book dX1_bySames_46 (e_fl.c q194) bf_2 ?_
    refine ew_iload_n dX1_bySames_49 rfl lm2 ?_
    obtain ⟨v6, H⟩ := H
    refine lw_g2 (d := d + 0) dX1_bySames_50 q1021 (Nat.le_of_ble_eq_true rfl) v6.1 v6.2 ?_
    obtain ⟨v7, H⟩ := H
    refine cs_cast (f := x2) dX1_bySames_55 q1022 v7 ?_
    obtain ⟨v8, H⟩ := H
    refine gs_0 (f := x2) dX1_bySames_58 (e_fl.c q865) sf_0 v8 ?_
    refine ew_aload_n dX1_bySames_61 rfl lm0 ?_
    refine xw_get (v := aR (some (bI V 1 0))) dX1_bySames_62 (e_fl.a q333) xf_5 rfl ?_
    refine xw_book dX1_bySames_65 (e_fl.c q194) bf_2 ?_
    refine ew_iload_n dX1_bySames_68 rfl lm2 ?_
    obtain ⟨v9, H⟩ := H
    refine lw_g2 (d := d + 0) dX1_bySames_69 q1021 (Nat.le_of_ble_eq_true rfl) v9.1 v9.2 ?_
    obtain ⟨v10, H⟩ := H
    refine cs_cast (f := x2) dX1_bySames_74 q1022 v10 ?_
    obtain ⟨v11, H⟩ := H
    refine gs_1 (f := x2) dX1_bySames_77 (e_fl.c q867) sf_1 v11 ?_
    refine ew_callY (x := ⟨"ReasonCloser$Groups", "unites", "(II)V"⟩) (d := d + 2) (as := [aI (s0.1.2 40 x2), aI (s0.1.2 41 x2)]) rfl dX1_bySames_80 me_X3_unites rfl (by decide) rfl q1243 q1979 (ysel3_1 (P := fun c => Cond.selects c _ _ ∈ lw_all) q1981) q1015 (Or.inl q1012) (by decide) (Nat.le_of_ble_eq_true rfl) (Nat.zero_le _) (Nat.zero_le _) (S_X3_unites_Q (d := d + 1) (by decide) H) (fun o h' hq14 _ => ?_) (fun E i h' q _ => (xQv_no q).elim)
    obtain ⟨s13, E15, rfl, H⟩ := hq14
    cases E15
    obtain ⟨v16, H⟩ := H
    refine ew_iinc dX1_bySames_83 lm2 (by decide) v16 (lv' := [(2, aI (x2 + 1)), (0, aR (some xT)), (1, aR (some (sI V 1 99)))]) rfl ?_
    refine ew_sub (List.forall_mem_cons.mpr ⟨lm1, (List.forall_mem_cons.mpr ⟨lm2, (List.forall_mem_cons.mpr ⟨lm0, e_nm⟩)⟩)⟩) ?_
    refine ew_goto (tgt := 33) dX1_bySames_86 (by decide) ?_
    exact ew_room (Nat.le_refl _) (Nat.zero_le _) (Nat.zero_le _) (ew_sub (List.forall_mem_cons.mpr ⟨lm0, (List.forall_mem_cons.mpr ⟨lm1, (List.forall_mem_cons.mpr ⟨lm2, e_nm⟩)⟩)⟩) H)
set_option maxHeartbeats 4000000 in
theorem T_X1_bySames_E (d : Nat) (V : XV) (g : AH) (K : XS → Prop) (s0 : XS) (H : B_X1_bySames_E (W_X1_bySames_10 d V g K) (W_X1_bySames_33 d V g K) K s0) : EW mm_X1_bySames (d + 3) 0 0 (xQv V g K) 0 [(0, aR (some xT)), (1, aR (some (sI V 1 99)))] [] (xh V s0 g) := by
  refine ew_aload_n dX1_bySames_0 rfl lm1 ?_
  refine ew_aload_n dX1_bySames_1 rfl lm0 ?_
  refine ew_callV (d := d + 2) (as := []) rfl dX1_bySames_2 me_X1_terms rfl (ci := 0) rfl rfl xh_x (Or.inl q1048) q1050 qs25 (Nat.le_of_ble_eq_true rfl) (Nat.zero_le _) (Nat.zero_le _) (S_X1_terms (d := d + 1) H) (fun o h' hq3 _ => ?_) (fun E i h' q _ => (cQ_no q).elim)
  obtain ⟨r1, E4, rfl, H⟩ := hq3
  cases E4
  refine yw_put (cs := [3, 4, 5]) dX1_bySames_5 (by decide) (e_fl.a q267) yf_1 (by decide) rfl (by decide +kernel) (fun s5 e6 => ?_)
  replace H := H s5 e6
  refine ew_iconst dX1_bySames_8 (inI_of rfl) ?_
  refine ew_istore_n dX1_bySames_9 rfl (by decide) (lv' := [(2, aI 0), (0, aR (some xT)), (1, aR (some (sI V 1 99)))]) rfl ?_
  refine ew_sub (List.forall_mem_cons.mpr ⟨lm1, (List.forall_mem_cons.mpr ⟨lm2, (List.forall_mem_cons.mpr ⟨lm0, e_nm⟩)⟩)⟩) ?_
  exact ew_room (Nat.le_refl _) (Nat.zero_le _) (Nat.zero_le _) (ew_sub (List.forall_mem_cons.mpr ⟨lm0, (List.forall_mem_cons.mpr ⟨lm1, (List.forall_mem_cons.mpr ⟨lm2, e_nm⟩)⟩)⟩) H)
def C_X1_bySames (s0 : XS) (K : XS → Prop) : Prop := ∀ (X10 : Int → XS → Prop) (X33 : Int → XS → Prop), (∀ (x2 : Int) (s0 : XS), B_X1_bySames_10 X10 X33 K x2 s0 → X10 x2 s0) → (∀ (x2 : Int) (s0 : XS), B_X1_bySames_33 X10 X33 K x2 s0 → X33 x2 s0) → B_X1_bySames_E X10 X33 K s0
theorem S_X1_bySames {d : Nat} {V : XV} {g : AH} {K : XS → Prop} {s0 : XS} (H : C_X1_bySames s0 K) : Sp mm_X1_bySames (d + 3) 0 0 [aR (some xT), aR (some (sI V 1 99))] (xh V s0 g) (xQv V g K) :=
  ew_sp rfl (Nat.le_of_ble_eq_true rfl) (T_X1_bySames_E d V g K s0 (H _ _ (fun x2 s0 H => T_X1_bySames_10 d V g K x2 s0 H) (fun x2 s0 H => T_X1_bySames_33 d V g K x2 s0 H)))
abbrev mm_X1_follow : EM := (yX1_follow, cX1_follow, 7, (Option.some .boolean), [])
theorem me_X1_follow : e_mth mm_X1_follow 3 := ⟨rfl, q1248, q108, by decide +kernel, by decide⟩
def B_X1_follow_54 (X54 : Int → Int → Int → Prop) (K : Int → Prop) (x4 : Int) (x5 : Int) (x6 : Int) (j : Nat) (s0 : XS) : Prop :=
  ((0 ≤ x4 ∧ x4 < s0.1.1 41) ∧ (((0 ≤ x4 ∧ x4 < s0.1.1 41) ∧ 0 ≤ s0.1.2 34 x4 ∧ s0.1.2 34 x4 < 2147483648) ∧ (((s0.1.2 34 x4) ≤ x6 → K 1) ∧ (¬ (s0.1.2 34 x4) ≤ x6 → ((0 ≤ x4 ∧ x4 < s0.1.1 41) ∧ (((0 ≤ x4 ∧ x4 < s0.1.1 41) ∧ 0 ≤ x6 ∧ x6 < s0.1.2 34 x4) ∧ ((0 ≤ x5 ∧ x5 < s0.1.1 41) ∧ (((0 ≤ x5 ∧ x5 < s0.1.1 41) ∧ 0 ≤ x6 ∧ x6 < s0.1.2 34 x5) ∧ (C_X3_areOne_G (s0.1.2 (100 + (x4).toNat) x6) (s0.1.2 (100 + (x5).toNat) x6) j s0 (fun r8 => ((r8 = 0 → K 0) ∧ (¬ r8 = 0 → (inI (x6 + 1) ∧ X54 x4 x5 (x6 + 1))))))))))))))
def B_X1_follow_E (X54 : Int → Int → Int → Prop) (K : Int → Prop) (a : Int) (b : Int) (j : Nat) (s0 : XS) : Prop :=
  (((0 ≤ a ∧ a < s0.1.1 31) ∧ xok s0 1) ∧ ((0 ≤ a ∧ a < s0.1.1 41) ∧ (((0 ≤ b ∧ b < s0.1.1 31) ∧ xok s0 1) ∧ ((0 ≤ b ∧ b < s0.1.1 41) ∧ ((0 ≤ a ∧ a < s0.1.1 41) ∧ ((0 ≤ b ∧ b < s0.1.1 41) ∧ (((s0.1.2 33 a) = (s0.1.2 33 b) → X54 a b 0) ∧ (¬ (s0.1.2 33 a) = (s0.1.2 33 b) → K 0))))))))
def W_X1_follow_54 (d : Nat) (V : XV) (g : AH) (j : Nat) (s0 : XS) (K : Int → Prop) (x4 : Int) (x5 : Int) (x6 : Int) : Prop := EW mm_X1_follow (d + 3) 0 0 (cQ (xh V s0 g) K) 54 [(1, aR (some (sI V j 99))), (4, aR (some (bI V 11 (x4).toNat))), (5, aR (some (bI V 11 (x5).toNat))), (6, aI x6)] [] (xh V s0 g)
set_option maxHeartbeats 4000000 in
theorem T_X1_follow_54 (d : Nat) (V : XV) (g : AH) (j : Nat) (hj : j < 5) (K : Int → Prop) (x4 : Int) (x5 : Int) (x6 : Int) (s0 : XS) (H : B_X1_follow_54 (W_X1_follow_54 d V g j s0 K) K x4 x5 x6 j s0) : EW mm_X1_follow (d + 3) 0 0 (cQ (xh V s0 g) K) 54 [(1, aR (some (sI V j 99))), (4, aR (some (bI V 11 (x4).toNat))), (5, aR (some (bI V 11 (x5).toNat))), (6, aI x6)] [] (xh V s0 g) := by
  refine ew_iload dX1_follow_54 lm3 ?_
  refine ew_aload dX1_follow_56 lm1 ?_
  obtain ⟨v1, H⟩ := H
  refine gm_3 (f := x4) dX1_follow_58 (e_fl.c q827) tf2_3 v1 ?_
  obtain ⟨v2, H⟩ := H
  refine pw_alen (f := x4) dX1_follow_61 v2.1 v2.2 ?_
  refine ew_icmp_ge (tgt := 96) dX1_follow_62 (by decide) (fun c3 => ?_) (fun c3 => ?_)
  · replace H := H.1 c3
    refine ew_iconst dX1_follow_96 (inI_of rfl) ?_
    exact ew_ret (o := some (aI 1)) rfl ⟨_, rfl, rfl, H⟩ ⟨dX1_follow_97, .boolean, rfl, Or.inr (Or.inl rfl), by decide⟩
  · replace H := H.2 c3
    refine ew_aload_n dX1_follow_65 rfl lm0 ?_
    refine ew_aload dX1_follow_66 lm1 ?_
    obtain ⟨v4, H⟩ := H
    refine gm_3 (f := x4) dX1_follow_68 (e_fl.c q827) tf2_3 v4 ?_
    refine ew_iload dX1_follow_71 lm3 ?_
    obtain ⟨v5, H⟩ := H
    refine pw_iald (f := x4) dX1_follow_73 v5.1 v5.2 ?_
    refine ew_aload dX1_follow_74 lm2 ?_
    obtain ⟨v6, H⟩ := H
    refine gm_3 (f := x5) dX1_follow_76 (e_fl.c q827) tf2_3 v6 ?_
    refine ew_iload dX1_follow_79 lm3 ?_
    obtain ⟨v7, H⟩ := H
    refine pw_iald (f := x5) dX1_follow_81 v7.1 v7.2 ?_
    refine ew_callY (x := ⟨"ReasonCloser$Groups", "areOne", "(II)Z"⟩) (d := d + 2) (as := [aI (s0.1.2 (100 + (x4).toNat) x6), aI (s0.1.2 (100 + (x5).toNat) x6)]) rfl dX1_follow_82 me_X3_areOne rfl hj rfl q1066 q1972 (yselG hj (P := fun c => Cond.selects c _ _ ∈ lw_all) q1974 q1973 q1975) q981 (Or.inl q978) (by decide) (Nat.le_of_ble_eq_true rfl) (Nat.zero_le _) (Nat.zero_le _) (S_X3_areOne_G (d := d + 2) hj H) (fun o h' hq10 _ => ?_) (fun E i h' q _ => (cQ_no q).elim)
    obtain ⟨r8, E11, rfl, H⟩ := hq10
    cases E11
    refine ew_if_ne (tgt := 90) dX1_follow_85 (by decide) (fun c12 => ?_) (fun c12 => ?_)
    · replace H := H.2 c12
      obtain ⟨v13, H⟩ := H
      refine ew_iinc dX1_follow_90 lm3 (by decide) v13 (lv' := [(6, aI (x6 + 1)), (1, aR (some (sI V j 99))), (4, aR (some (bI V 11 (x4).toNat))), (5, aR (some (bI V 11 (x5).toNat)))]) rfl ?_
      refine ew_sub (List.forall_mem_cons.mpr ⟨lm1, (List.forall_mem_cons.mpr ⟨lm2, (List.forall_mem_cons.mpr ⟨lm3, (List.forall_mem_cons.mpr ⟨lm0, e_nm⟩)⟩)⟩)⟩) ?_
      refine ew_goto (tgt := 54) dX1_follow_93 (by decide) ?_
      exact ew_room (Nat.le_refl _) (Nat.zero_le _) (Nat.zero_le _) (ew_sub (List.forall_mem_cons.mpr ⟨lm0, (List.forall_mem_cons.mpr ⟨lm1, (List.forall_mem_cons.mpr ⟨lm2, (List.forall_mem_cons.mpr ⟨lm3, e_nm⟩)⟩)⟩)⟩) H)
    · replace H := H.1 c12
      refine ew_iconst dX1_follow_88 (inI_of rfl) ?_
      exact ew_ret (o := some (aI 0)) rfl ⟨_, rfl, rfl, H⟩ ⟨dX1_follow_89, .boolean, rfl, Or.inr (Or.inl rfl), by decide⟩
set_option maxHeartbeats 4000000 in
theorem T_X1_follow_E (d : Nat) (V : XV) (g : AH) (j : Nat) (hj : j < 5) (K : Int → Prop) (a : Int) (b : Int) (s0 : XS) (H : B_X1_follow_E (W_X1_follow_54 d V g j s0 K) K a b j s0) : EW mm_X1_follow (d + 3) 0 0 (cQ (xh V s0 g) K) 0 [(0, aR (some xT)), (1, aR (some (sI V j 99))), (2, aI a), (3, aI b)] [] (xh V s0 g) := by
  refine ew_aload_n dX1_follow_0 rfl lm0 ?_
  refine xw_get (v := aR (some (bI V 1 0))) dX1_follow_1 (e_fl.a q333) xf_5 rfl ?_
  refine xw_book dX1_follow_4 (e_fl.c q191) bf_1 ?_
  refine ew_iload_n dX1_follow_7 rfl lm2 ?_
  obtain ⟨v1, H⟩ := H
  refine lw_g1 (d := d + 0) dX1_follow_8 q1021 (Nat.le_of_ble_eq_true rfl) v1.1 v1.2 ?_
  obtain ⟨v2, H⟩ := H
  refine cm_cast (f := a) dX1_follow_13 q1072 v2 ?_
  refine ew_astore dX1_follow_16 (by decide) (lv' := [(4, aR (some (bI V 11 (a).toNat))), (0, aR (some xT)), (1, aR (some (sI V j 99))), (2, aI a), (3, aI b)]) rfl ?_
  refine ew_sub (List.forall_mem_cons.mpr ⟨lm1, (List.forall_mem_cons.mpr ⟨lm2, (List.forall_mem_cons.mpr ⟨lm3, (List.forall_mem_cons.mpr ⟨lm4, (List.forall_mem_cons.mpr ⟨lm0, e_nm⟩)⟩)⟩)⟩)⟩) ?_
  refine ew_aload_n dX1_follow_18 rfl lm0 ?_
  refine xw_get (v := aR (some (bI V 1 0))) dX1_follow_19 (e_fl.a q333) xf_5 rfl ?_
  refine xw_book dX1_follow_22 (e_fl.c q191) bf_1 ?_
  refine ew_iload_n dX1_follow_25 rfl lm3 ?_
  obtain ⟨v3, H⟩ := H
  refine lw_g1 (d := d + 0) dX1_follow_26 q1021 (Nat.le_of_ble_eq_true rfl) v3.1 v3.2 ?_
  obtain ⟨v4, H⟩ := H
  refine cm_cast (f := b) dX1_follow_31 q1072 v4 ?_
  refine ew_astore dX1_follow_34 (by decide) (lv' := [(5, aR (some (bI V 11 (b).toNat))), (0, aR (some xT)), (1, aR (some (sI V j 99))), (2, aI a), (3, aI b), (4, aR (some (bI V 11 (a).toNat)))]) rfl ?_
  refine ew_sub (List.forall_mem_cons.mpr ⟨lm1, (List.forall_mem_cons.mpr ⟨lm2, (List.forall_mem_cons.mpr ⟨lm3, (List.forall_mem_cons.mpr ⟨lm4, (List.forall_mem_cons.mpr ⟨lm5, (List.forall_mem_cons.mpr ⟨lm0, e_nm⟩)⟩)⟩)⟩)⟩)⟩) ?_
  refine ew_aload dX1_follow_36 lm4 ?_
  obtain ⟨v5, H⟩ := H
  refine gm_2 (f := a) dX1_follow_38 (e_fl.c q823) tf2_2 v5 ?_
  refine ew_aload dX1_follow_41 lm5 ?_
  obtain ⟨v6, H⟩ := H
  refine gm_2 (f := b) dX1_follow_43 (e_fl.c q823) tf2_2 v6 ?_
  refine ew_icmp_eq (tgt := 51) dX1_follow_46 (by decide) (fun c7 => ?_) (fun c7 => ?_)
  · replace H := H.1 c7
    refine ew_iconst dX1_follow_51 (inI_of rfl) ?_
    refine ew_istore dX1_follow_52 (by decide) (lv' := [(6, aI 0), (0, aR (some xT)), (1, aR (some (sI V j 99))), (2, aI a), (3, aI b), (4, aR (some (bI V 11 (a).toNat))), (5, aR (some (bI V 11 (b).toNat)))]) rfl ?_
    refine ew_sub (List.forall_mem_cons.mpr ⟨lm1, (List.forall_mem_cons.mpr ⟨lm2, (List.forall_mem_cons.mpr ⟨lm3, (List.forall_mem_cons.mpr ⟨lm4, (List.forall_mem_cons.mpr ⟨lm5, (List.forall_mem_cons.mpr ⟨lm6, (List.forall_mem_cons.mpr ⟨lm0, e_nm⟩)⟩)⟩)⟩)⟩)⟩)⟩) ?_
    exact ew_room (Nat.le_refl _) (Nat.zero_le _) (Nat.zero_le _) (ew_sub (List.forall_mem_cons.mpr ⟨lm1, (List.forall_mem_cons.mpr ⟨lm4, (List.forall_mem_cons.mpr ⟨lm5, (List.forall_mem_cons.mpr ⟨lm6, e_nm⟩)⟩)⟩)⟩) H)
  · replace H := H.2 c7
    refine ew_iconst dX1_follow_49 (inI_of rfl) ?_
    exact ew_ret (o := some (aI 0)) rfl ⟨_, rfl, rfl, H⟩ ⟨dX1_follow_50, .boolean, rfl, Or.inr (Or.inl rfl), by decide⟩
def C_X1_follow (a : Int) (b : Int) (j : Nat) (s0 : XS) (K : Int → Prop) : Prop := ∀ (X54 : Int → Int → Int → Prop), (∀ (x4 : Int) (x5 : Int) (x6 : Int), B_X1_follow_54 X54 K x4 x5 x6 j s0 → X54 x4 x5 x6) → B_X1_follow_E X54 K a b j s0
theorem S_X1_follow {d : Nat} {V : XV} {g : AH} {j : Nat} {K : Int → Prop} {a : Int} {b : Int} {s0 : XS} (hj : j < 5) (H : C_X1_follow a b j s0 K) : Sp mm_X1_follow (d + 3) 0 0 [aR (some xT), aR (some (sI V j 99)), aI a, aI b] (xh V s0 g) (cQ (xh V s0 g) K) :=
  ew_sp rfl (Nat.le_of_ble_eq_true rfl) (T_X1_follow_E d V g j hj K a b s0 (H _ (fun x4 x5 x6 H => T_X1_follow_54 d V g j hj K x4 x5 x6 s0 H)))
abbrev mm_X1_level : EM := (yX1_level, cX1_level, 7, (Option.some .int), [])
theorem me_X1_level : e_mth mm_X1_level 2 := ⟨rfl, q1238, q108, by decide +kernel, by decide⟩
def B_X1_level_28 (X28 : Int → Int → Int → XS → Prop) (X62 : Int → Int → Int → Int → XS → Prop) (X77 : Int → Int → Int → Int → Int → XS → Prop) (K : Int → XS → Prop) (x1 : Int) (x2 : Int) (x4 : Int) (s0 : XS) : Prop :=
  (C_X3_areOne_G x1 x2 1 s0 (fun r1 => ((r1 = 0 → (C_X3_like_V01 s0 (fun s11 => (C_X1_bySames s11 (fun s15 => X62 x1 x2 x4 0 s15))))) ∧ (¬ r1 = 0 → (C_X1_fine x4 s0 (fun r6 s7 => K r6 s7))))))
def B_X1_level_62 (X28 : Int → Int → Int → XS → Prop) (X62 : Int → Int → Int → Int → XS → Prop) (X77 : Int → Int → Int → Int → Int → XS → Prop) (K : Int → XS → Prop) (x1 : Int) (x2 : Int) (x4 : Int) (x5 : Int) (s0 : XS) : Prop :=
  (C_X1_terms s0 (fun r1 => ((r1 ≤ x5 → (inI (x4 + 1) ∧ X28 x1 x2 (x4 + 1) s0)) ∧ (¬ r1 ≤ x5 → ((inI (x5 + 1)) ∧ X77 x1 x2 x4 x5 (x5 + 1) s0)))))
def B_X1_level_77 (X28 : Int → Int → Int → XS → Prop) (X62 : Int → Int → Int → Int → XS → Prop) (X77 : Int → Int → Int → Int → Int → XS → Prop) (K : Int → XS → Prop) (x1 : Int) (x2 : Int) (x4 : Int) (x5 : Int) (x6 : Int) (s0 : XS) : Prop :=
  (C_X1_terms s0 (fun r1 => ((r1 ≤ x6 → (inI (x5 + 1) ∧ X62 x1 x2 x4 (x5 + 1) s0)) ∧ (¬ r1 ≤ x6 → (C_X1_follow x5 x6 0 s0 (fun r7 => ((r7 = 0 → (inI (x6 + 1) ∧ X77 x1 x2 x4 x5 (x6 + 1) s0)) ∧ (¬ r7 = 0 → (C_X3_unites_Q x5 x6 1 s0 (fun s14 => (inI (x6 + 1) ∧ X77 x1 x2 x4 x5 (x6 + 1) s14)))))))))))
def B_X1_level_E (X28 : Int → Int → Int → XS → Prop) (X62 : Int → Int → Int → Int → XS → Prop) (X77 : Int → Int → Int → Int → Int → XS → Prop) (K : Int → XS → Prop) (a : Int) (b : Int) (s0 : XS) : Prop :=
  (C_X1_why a b s0 (fun r1 => ((r1 ≤ 0 → (C_X1_bySames s0 (fun s7 => X28 a b 0 s7))) ∧ (¬ r1 ≤ 0 → (C_X1_refused r1 s0 (fun r10 s11 => K r10 s11))))))
def W_X1_level_28 (d : Nat) (V : XV) (g : AH) (K : Int → XS → Prop) (x1 : Int) (x2 : Int) (x4 : Int) (s0 : XS) : Prop := ∀ g1, eX g g1 → EW mm_X1_level (d + 4) 0 0 (tQi V g K) 28 [(0, aR (some xT)), (1, aI x1), (2, aI x2), (4, aI x4)] [] (xh V s0 g1)
def W_X1_level_62 (d : Nat) (V : XV) (g : AH) (K : Int → XS → Prop) (x1 : Int) (x2 : Int) (x4 : Int) (x5 : Int) (s0 : XS) : Prop := ∀ g1, eX g g1 → EW mm_X1_level (d + 4) 0 0 (tQi V g K) 62 [(0, aR (some xT)), (1, aI x1), (2, aI x2), (4, aI x4), (5, aI x5)] [] (xh V s0 g1)
def W_X1_level_77 (d : Nat) (V : XV) (g : AH) (K : Int → XS → Prop) (x1 : Int) (x2 : Int) (x4 : Int) (x5 : Int) (x6 : Int) (s0 : XS) : Prop := ∀ g1, eX g g1 → EW mm_X1_level (d + 4) 0 0 (tQi V g K) 77 [(0, aR (some xT)), (1, aI x1), (2, aI x2), (4, aI x4), (5, aI x5), (6, aI x6)] [] (xh V s0 g1)
set_option maxHeartbeats 4000000 in
theorem T_X1_level_28 (d : Nat) (V : XV) (g : AH) (hg : xf 4 g) (hr : xfree V g) (K : Int → XS → Prop) (x1 : Int) (x2 : Int) (x4 : Int) (s0 : XS) (g1 : AH) (hx : eX g g1) (H : B_X1_level_28 (W_X1_level_28 d V g K) (W_X1_level_62 d V g K) (W_X1_level_77 d V g K) K x1 x2 x4 s0) : EW mm_X1_level (d + 4) 0 0 (tQi V g K) 28 [(0, aR (some xT)), (1, aI x1), (2, aI x2), (4, aI x4)] [] (xh V s0 g1) := by
  refine ew_aload_n dX1_level_28 rfl lm0 ?_
  refine xw_get (v := aR (some (sI V 1 99))) dX1_level_29 (e_fl.a q344) xf_16 rfl ?_
  refine ew_iload_n dX1_level_32 rfl lm1 ?_
  refine ew_iload_n dX1_level_33 rfl lm2 ?_
  refine ew_callY (x := ⟨"ReasonCloser$Groups", "areOne", "(II)Z"⟩) (d := d + 3) (as := [aI x1, aI x2]) rfl dX1_level_34 me_X3_areOne rfl (by decide) rfl q1066 q1972 (ysel3_1 (P := fun c => Cond.selects c _ _ ∈ lw_all) q1974) q981 (Or.inl q978) (by decide) (Nat.le_of_ble_eq_true rfl) (Nat.zero_le _) (Nat.zero_le _) (S_X3_areOne_G (d := d + 3) (by decide) H) (fun o h' hq3 _ => ?_) (fun E i h' q _ => (cQ_no q).elim)
  obtain ⟨r1, E4, rfl, H⟩ := hq3
  cases E4
  refine ew_if_ne (tgt := 130) dX1_level_37 (by decide) (fun c5 => ?_) (fun c5 => ?_)
  · replace H := H.2 c5
    refine ew_aload_n dX1_level_130 rfl lm0 ?_
    refine ew_iload dX1_level_131 lm3 ?_
    refine ew_callV (d := d + 3) (as := [aI x4]) rfl dX1_level_133 me_X1_fine rfl (ci := 0) rfl rfl xh_x (Or.inl q1032) q1034 qs24 (Nat.le_of_ble_eq_true rfl) (Nat.zero_le _) (Nat.zero_le _) (S_X1_fine (d := d + 3) H) (fun o h' hq8 _ => ?_) (fun E i h' q _ => (xQi_no q).elim)
    obtain ⟨r6, s7, E9, rfl, H⟩ := hq8
    cases E9
    exact ew_ret (o := some (aI r6)) rfl ⟨_, _, _, rfl, rfl, hx, H⟩ ⟨dX1_level_136, .int, rfl, Or.inl rfl, rfl⟩
  · replace H := H.1 c5
    refine ew_aload_n dX1_level_40 rfl lm0 ?_
    refine xw_get (v := aR (some (sI V 0 99))) dX1_level_41 (e_fl.a q343) xf_15 rfl ?_
    refine ew_aload_n dX1_level_44 rfl lm0 ?_
    refine xw_get (v := aR (some (sI V 1 99))) dX1_level_45 (e_fl.a q344) xf_16 rfl ?_
    refine ew_callY (x := ⟨"ReasonCloser$Groups", "like", "(LReasonCloser$Groups;)V"⟩) (d := d + 3) (as := [aR (some (sI V 1 99))]) rfl dX1_level_48 me_X3_like rfl (by decide) rfl q1244 q1983 (ysel3_0 (P := fun c => Cond.selects c _ _ ∈ lw_all) q1985) q1122 (Or.inl q1119) (by decide) (Nat.le_of_ble_eq_true rfl) (Nat.zero_le _) (Nat.zero_le _) (S_X3_like_V01 (d := d + 3) H) (fun o h' hq12 _ => ?_) (fun E i h' q _ => (xQv_no q).elim)
    obtain ⟨s11, E13, rfl, H⟩ := hq12
    cases E13
    refine ew_aload_n dX1_level_51 rfl lm0 ?_
    refine ew_aload_n dX1_level_52 rfl lm0 ?_
    refine xw_get (v := aR (some (sI V 1 99))) dX1_level_53 (e_fl.a q344) xf_16 rfl ?_
    refine ew_callV (d := d + 3) (as := [aR (some (sI V 1 99))]) rfl dX1_level_56 me_X1_bySames rfl (ci := 0) rfl rfl xh_x (Or.inl q1239) q1241 qs42 (Nat.le_of_ble_eq_true rfl) (Nat.zero_le _) (Nat.zero_le _) (S_X1_bySames (d := d + 0) H) (fun o h' hq16 _ => ?_) (fun E i h' q _ => (xQv_no q).elim)
    obtain ⟨s15, E17, rfl, H⟩ := hq16
    cases E17
    refine ew_iconst dX1_level_59 (inI_of rfl) ?_
    refine ew_istore dX1_level_60 (by decide) (lv' := [(5, aI 0), (0, aR (some xT)), (1, aI x1), (2, aI x2), (4, aI x4)]) rfl ?_
    refine ew_sub (List.forall_mem_cons.mpr ⟨lm1, (List.forall_mem_cons.mpr ⟨lm2, (List.forall_mem_cons.mpr ⟨lm3, (List.forall_mem_cons.mpr ⟨lm4, (List.forall_mem_cons.mpr ⟨lm0, e_nm⟩)⟩)⟩)⟩)⟩) ?_
    exact ew_room (Nat.le_refl _) (Nat.zero_le _) (Nat.zero_le _) (ew_sub (List.forall_mem_cons.mpr ⟨lm0, (List.forall_mem_cons.mpr ⟨lm1, (List.forall_mem_cons.mpr ⟨lm2, (List.forall_mem_cons.mpr ⟨lm3, (List.forall_mem_cons.mpr ⟨lm4, e_nm⟩)⟩)⟩)⟩)⟩) (H _ hx))
set_option maxHeartbeats 4000000 in
theorem T_X1_level_62 (d : Nat) (V : XV) (g : AH) (hg : xf 4 g) (hr : xfree V g) (K : Int → XS → Prop) (x1 : Int) (x2 : Int) (x4 : Int) (x5 : Int) (s0 : XS) (g1 : AH) (hx : eX g g1) (H : B_X1_level_62 (W_X1_level_28 d V g K) (W_X1_level_62 d V g K) (W_X1_level_77 d V g K) K x1 x2 x4 x5 s0) : EW mm_X1_level (d + 4) 0 0 (tQi V g K) 62 [(0, aR (some xT)), (1, aI x1), (2, aI x2), (4, aI x4), (5, aI x5)] [] (xh V s0 g1) := by
  refine ew_iload dX1_level_62 lm4 ?_
  refine ew_aload_n dX1_level_64 rfl lm0 ?_
  refine ew_callV (d := d + 3) (as := []) rfl dX1_level_65 me_X1_terms rfl (ci := 0) rfl rfl xh_x (Or.inl q1048) q1050 qs25 (Nat.le_of_ble_eq_true rfl) (Nat.zero_le _) (Nat.zero_le _) (S_X1_terms (d := d + 2) H) (fun o h' hq3 _ => ?_) (fun E i h' q _ => (cQ_no q).elim)
  obtain ⟨r1, E4, rfl, H⟩ := hq3
  cases E4
  refine ew_icmp_ge (tgt := 124) dX1_level_68 (by decide) (fun c5 => ?_) (fun c5 => ?_)
  · replace H := H.1 c5
    obtain ⟨v6, H⟩ := H
    refine ew_iinc dX1_level_124 lm3 (by decide) v6 (lv' := [(4, aI (x4 + 1)), (0, aR (some xT)), (1, aI x1), (2, aI x2), (5, aI x5)]) rfl ?_
    refine ew_sub (List.forall_mem_cons.mpr ⟨lm1, (List.forall_mem_cons.mpr ⟨lm2, (List.forall_mem_cons.mpr ⟨lm3, (List.forall_mem_cons.mpr ⟨lm0, (List.forall_mem_cons.mpr ⟨lm4, e_nm⟩)⟩)⟩)⟩)⟩) ?_
    refine ew_goto (tgt := 28) dX1_level_127 (by decide) ?_
    exact ew_room (Nat.le_refl _) (Nat.zero_le _) (Nat.zero_le _) (ew_sub (List.forall_mem_cons.mpr ⟨lm0, (List.forall_mem_cons.mpr ⟨lm1, (List.forall_mem_cons.mpr ⟨lm2, (List.forall_mem_cons.mpr ⟨lm3, e_nm⟩)⟩)⟩)⟩) (H _ hx))
  · replace H := H.2 c5
    refine ew_iload dX1_level_71 lm4 ?_
    refine ew_iconst dX1_level_73 (inI_of rfl) ?_
    obtain ⟨v7, H⟩ := H
    refine ew_iadd dX1_level_74 v7 ?_
    refine ew_istore dX1_level_75 (by decide) (lv' := [(6, aI (x5 + 1)), (0, aR (some xT)), (1, aI x1), (2, aI x2), (4, aI x4), (5, aI x5)]) rfl ?_
    refine ew_sub (List.forall_mem_cons.mpr ⟨lm1, (List.forall_mem_cons.mpr ⟨lm2, (List.forall_mem_cons.mpr ⟨lm3, (List.forall_mem_cons.mpr ⟨lm4, (List.forall_mem_cons.mpr ⟨lm5, (List.forall_mem_cons.mpr ⟨lm0, e_nm⟩)⟩)⟩)⟩)⟩)⟩) ?_
    exact ew_room (Nat.le_refl _) (Nat.zero_le _) (Nat.zero_le _) (ew_sub (List.forall_mem_cons.mpr ⟨lm0, (List.forall_mem_cons.mpr ⟨lm1, (List.forall_mem_cons.mpr ⟨lm2, (List.forall_mem_cons.mpr ⟨lm3, (List.forall_mem_cons.mpr ⟨lm4, (List.forall_mem_cons.mpr ⟨lm5, e_nm⟩)⟩)⟩)⟩)⟩)⟩) (H _ hx))
set_option maxHeartbeats 4000000 in
theorem T_X1_level_77 (d : Nat) (V : XV) (g : AH) (hg : xf 4 g) (hr : xfree V g) (K : Int → XS → Prop) (x1 : Int) (x2 : Int) (x4 : Int) (x5 : Int) (x6 : Int) (s0 : XS) (g1 : AH) (hx : eX g g1) (H : B_X1_level_77 (W_X1_level_28 d V g K) (W_X1_level_62 d V g K) (W_X1_level_77 d V g K) K x1 x2 x4 x5 x6 s0) : EW mm_X1_level (d + 4) 0 0 (tQi V g K) 77 [(0, aR (some xT)), (1, aI x1), (2, aI x2), (4, aI x4), (5, aI x5), (6, aI x6)] [] (xh V s0 g1) := by
  refine ew_iload dX1_level_77 lm5 ?_
  refine ew_aload_n dX1_level_79 rfl lm0 ?_
  refine ew_callV (d := d + 3) (as := []) rfl dX1_level_80 me_X1_terms rfl (ci := 0) rfl rfl xh_x (Or.inl q1048) q1050 qs25 (Nat.le_of_ble_eq_true rfl) (Nat.zero_le _) (Nat.zero_le _) (S_X1_terms (d := d + 2) H) (fun o h' hq3 _ => ?_) (fun E i h' q _ => (cQ_no q).elim)
  obtain ⟨r1, E4, rfl, H⟩ := hq3
  cases E4
  refine ew_icmp_ge (tgt := 118) dX1_level_83 (by decide) (fun c5 => ?_) (fun c5 => ?_)
  · replace H := H.1 c5
    obtain ⟨v6, H⟩ := H
    refine ew_iinc dX1_level_118 lm4 (by decide) v6 (lv' := [(5, aI (x5 + 1)), (0, aR (some xT)), (1, aI x1), (2, aI x2), (4, aI x4), (6, aI x6)]) rfl ?_
    refine ew_sub (List.forall_mem_cons.mpr ⟨lm1, (List.forall_mem_cons.mpr ⟨lm2, (List.forall_mem_cons.mpr ⟨lm3, (List.forall_mem_cons.mpr ⟨lm4, (List.forall_mem_cons.mpr ⟨lm0, (List.forall_mem_cons.mpr ⟨lm5, e_nm⟩)⟩)⟩)⟩)⟩)⟩) ?_
    refine ew_goto (tgt := 62) dX1_level_121 (by decide) ?_
    exact ew_room (Nat.le_refl _) (Nat.zero_le _) (Nat.zero_le _) (ew_sub (List.forall_mem_cons.mpr ⟨lm0, (List.forall_mem_cons.mpr ⟨lm1, (List.forall_mem_cons.mpr ⟨lm2, (List.forall_mem_cons.mpr ⟨lm3, (List.forall_mem_cons.mpr ⟨lm4, e_nm⟩)⟩)⟩)⟩)⟩) (H _ hx))
  · replace H := H.2 c5
    refine ew_aload_n dX1_level_86 rfl lm0 ?_
    refine ew_aload_n dX1_level_87 rfl lm0 ?_
    refine xw_get (v := aR (some (sI V 0 99))) dX1_level_88 (e_fl.a q343) xf_15 rfl ?_
    refine ew_iload dX1_level_91 lm4 ?_
    refine ew_iload dX1_level_93 lm5 ?_
    refine ew_callV (d := d + 3) (as := [aR (some (sI V 0 99)), aI x5, aI x6]) rfl dX1_level_95 me_X1_follow rfl (ci := 0) rfl rfl xh_x (Or.inl q1245) q1247 qs43 (Nat.le_of_ble_eq_true rfl) (Nat.zero_le _) (Nat.zero_le _) (S_X1_follow (d := d + 0) (by decide) H) (fun o h' hq9 _ => ?_) (fun E i h' q _ => (cQ_no q).elim)
    obtain ⟨r7, E10, rfl, H⟩ := hq9
    cases E10
    refine ew_if_eq (tgt := 112) dX1_level_98 (by decide) (fun c11 => ?_) (fun c11 => ?_)
    · replace H := H.1 c11
      obtain ⟨v12, H⟩ := H
      refine ew_iinc dX1_level_112 lm5 (by decide) v12 (lv' := [(6, aI (x6 + 1)), (0, aR (some xT)), (1, aI x1), (2, aI x2), (4, aI x4), (5, aI x5)]) rfl ?_
      refine ew_sub (List.forall_mem_cons.mpr ⟨lm1, (List.forall_mem_cons.mpr ⟨lm2, (List.forall_mem_cons.mpr ⟨lm3, (List.forall_mem_cons.mpr ⟨lm4, (List.forall_mem_cons.mpr ⟨lm5, (List.forall_mem_cons.mpr ⟨lm0, e_nm⟩)⟩)⟩)⟩)⟩)⟩) ?_
      refine ew_goto (tgt := 77) dX1_level_115 (by decide) ?_
      exact ew_room (Nat.le_refl _) (Nat.zero_le _) (Nat.zero_le _) (ew_sub (List.forall_mem_cons.mpr ⟨lm0, (List.forall_mem_cons.mpr ⟨lm1, (List.forall_mem_cons.mpr ⟨lm2, (List.forall_mem_cons.mpr ⟨lm3, (List.forall_mem_cons.mpr ⟨lm4, (List.forall_mem_cons.mpr ⟨lm5, e_nm⟩)⟩)⟩)⟩)⟩)⟩) (H _ hx))
    · replace H := H.2 c11
      refine ew_aload_n dX1_level_101 rfl lm0 ?_
      refine xw_get (v := aR (some (sI V 1 99))) dX1_level_102 (e_fl.a q344) xf_16 rfl ?_
      refine ew_iload dX1_level_105 lm4 ?_
      refine ew_iload dX1_level_107 lm5 ?_
      refine ew_callY (x := ⟨"ReasonCloser$Groups", "unites", "(II)V"⟩) (d := d + 3) (as := [aI x5, aI x6]) rfl dX1_level_109 me_X3_unites rfl (by decide) rfl q1243 q1979 (ysel3_1 (P := fun c => Cond.selects c _ _ ∈ lw_all) q1981) q1015 (Or.inl q1012) (by decide) (Nat.le_of_ble_eq_true rfl) (Nat.zero_le _) (Nat.zero_le _) (S_X3_unites_Q (d := d + 2) (by decide) H) (fun o h' hq15 _ => ?_) (fun E i h' q _ => (xQv_no q).elim)
      obtain ⟨s14, E16, rfl, H⟩ := hq15
      cases E16
      obtain ⟨v17, H⟩ := H
      refine ew_iinc dX1_level_112 lm5 (by decide) v17 (lv' := [(6, aI (x6 + 1)), (0, aR (some xT)), (1, aI x1), (2, aI x2), (4, aI x4), (5, aI x5)]) rfl ?_
      refine ew_sub (List.forall_mem_cons.mpr ⟨lm1, (List.forall_mem_cons.mpr ⟨lm2, (List.forall_mem_cons.mpr ⟨lm3, (List.forall_mem_cons.mpr ⟨lm4, (List.forall_mem_cons.mpr ⟨lm5, (List.forall_mem_cons.mpr ⟨lm0, e_nm⟩)⟩)⟩)⟩)⟩)⟩) ?_
      refine ew_goto (tgt := 77) dX1_level_115 (by decide) ?_
      exact ew_room (Nat.le_refl _) (Nat.zero_le _) (Nat.zero_le _) (ew_sub (List.forall_mem_cons.mpr ⟨lm0, (List.forall_mem_cons.mpr ⟨lm1, (List.forall_mem_cons.mpr ⟨lm2, (List.forall_mem_cons.mpr ⟨lm3, (List.forall_mem_cons.mpr ⟨lm4, (List.forall_mem_cons.mpr ⟨lm5, e_nm⟩)⟩)⟩)⟩)⟩)⟩) (H _ hx))
set_option maxHeartbeats 4000000 in
theorem T_X1_level_E (d : Nat) (V : XV) (g : AH) (hg : xf 4 g) (hr : xfree V g) (K : Int → XS → Prop) (a : Int) (b : Int) (s0 : XS) (H : B_X1_level_E (W_X1_level_28 d V g K) (W_X1_level_62 d V g K) (W_X1_level_77 d V g K) K a b s0) : EW mm_X1_level (d + 4) 1 2 (tQi V g K) 0 [(0, aR (some xT)), (1, aI a), (2, aI b)] [] (xh V s0 g) := by
  refine ew_aload_n dX1_level_0 rfl lm0 ?_
  refine ew_iload_n dX1_level_1 rfl lm1 ?_
  refine ew_iload_n dX1_level_2 rfl lm2 ?_
  refine ew_callV (d := d + 3) (as := [aI a, aI b]) rfl dX1_level_3 me_X1_why rfl (ci := 0) rfl rfl xh_x (Or.inl q1157) q1159 qs35 (Nat.le_of_ble_eq_true rfl) (Nat.le_of_ble_eq_true rfl) (Nat.le_of_ble_eq_true rfl) (S_X1_why (d := d + 0) (xf.le hg (Nat.le_of_ble_eq_true rfl)) hr H) (fun o h' hq3 _ => ?_) (fun E i h' q _ => (cQ_no q).elim)
  obtain ⟨r1, E4, rfl, H⟩ := hq3
  cases E4
  refine ew_istore_n dX1_level_6 rfl (by decide) (lv' := [(3, aI r1), (0, aR (some xT)), (1, aI a), (2, aI b)]) rfl ?_
  refine ew_sub (List.forall_mem_cons.mpr ⟨lm1, (List.forall_mem_cons.mpr ⟨lm2, (List.forall_mem_cons.mpr ⟨lm3, (List.forall_mem_cons.mpr ⟨lm0, e_nm⟩)⟩)⟩)⟩) ?_
  refine ew_iload_n dX1_level_7 rfl lm3 ?_
  refine ew_if_le (tgt := 17) dX1_level_8 (by decide) (fun c5 => ?_) (fun c5 => ?_)
  · replace H := H.1 c5
    refine ew_aload_n dX1_level_17 rfl lm0 ?_
    refine ew_aload_n dX1_level_18 rfl lm0 ?_
    refine xw_get (v := aR (some (sI V 1 99))) dX1_level_19 (e_fl.a q344) xf_16 rfl ?_
    refine ew_callV (d := d + 3) (as := [aR (some (sI V 1 99))]) rfl dX1_level_22 me_X1_bySames rfl (ci := 0) rfl rfl xh_x (Or.inl q1239) q1241 qs42 (Nat.le_of_ble_eq_true rfl) (Nat.zero_le _) (Nat.zero_le _) (S_X1_bySames (d := d + 0) H) (fun o h' hq8 _ => ?_) (fun E i h' q _ => (xQv_no q).elim)
    obtain ⟨s7, E9, rfl, H⟩ := hq8
    cases E9
    refine ew_iconst dX1_level_25 (inI_of rfl) ?_
    refine ew_istore dX1_level_26 (by decide) (lv' := [(4, aI 0), (0, aR (some xT)), (1, aI a), (2, aI b), (3, aI r1)]) rfl ?_
    refine ew_sub (List.forall_mem_cons.mpr ⟨lm1, (List.forall_mem_cons.mpr ⟨lm2, (List.forall_mem_cons.mpr ⟨lm3, (List.forall_mem_cons.mpr ⟨lm4, (List.forall_mem_cons.mpr ⟨lm0, e_nm⟩)⟩)⟩)⟩)⟩) ?_
    exact ew_room (Nat.le_refl _) (Nat.zero_le _) (Nat.zero_le _) (ew_sub (List.forall_mem_cons.mpr ⟨lm0, (List.forall_mem_cons.mpr ⟨lm1, (List.forall_mem_cons.mpr ⟨lm2, (List.forall_mem_cons.mpr ⟨lm4, e_nm⟩)⟩)⟩)⟩) (H _ eX.rf))
  · replace H := H.2 c5
    refine ew_aload_n dX1_level_11 rfl lm0 ?_
    refine ew_iload_n dX1_level_12 rfl lm3 ?_
    refine ew_callV (d := d + 3) (as := [aI r1]) rfl dX1_level_13 me_X1_refused rfl (ci := 0) rfl rfl xh_x (Or.inl q406) q408 qs1 (Nat.le_of_ble_eq_true rfl) (Nat.zero_le _) (Nat.zero_le _) (S_X1_refused (d := d + 3) H) (fun o h' hq12 _ => ?_) (fun E i h' q _ => (xQi_no q).elim)
    obtain ⟨r10, s11, E13, rfl, H⟩ := hq12
    cases E13
    exact ew_ret (o := some (aI r10)) rfl ⟨_, _, _, rfl, rfl, eX.rf, H⟩ ⟨dX1_level_16, .int, rfl, Or.inl rfl, rfl⟩
def C_X1_level (a : Int) (b : Int) (s0 : XS) (K : Int → XS → Prop) : Prop := ∀ (X28 : Int → Int → Int → XS → Prop) (X62 : Int → Int → Int → Int → XS → Prop) (X77 : Int → Int → Int → Int → Int → XS → Prop), (∀ (x1 : Int) (x2 : Int) (x4 : Int) (s0 : XS), B_X1_level_28 X28 X62 X77 K x1 x2 x4 s0 → X28 x1 x2 x4 s0) → (∀ (x1 : Int) (x2 : Int) (x4 : Int) (x5 : Int) (s0 : XS), B_X1_level_62 X28 X62 X77 K x1 x2 x4 x5 s0 → X62 x1 x2 x4 x5 s0) → (∀ (x1 : Int) (x2 : Int) (x4 : Int) (x5 : Int) (x6 : Int) (s0 : XS), B_X1_level_77 X28 X62 X77 K x1 x2 x4 x5 x6 s0 → X77 x1 x2 x4 x5 x6 s0) → B_X1_level_E X28 X62 X77 K a b s0
theorem S_X1_level {d : Nat} {V : XV} {g : AH} {K : Int → XS → Prop} {a : Int} {b : Int} {s0 : XS} (hg : xf 4 g) (hr : xfree V g) (H : C_X1_level a b s0 K) : Sp mm_X1_level (d + 4) 1 2 [aR (some xT), aI a, aI b] (xh V s0 g) (xQi V g K) :=
  Sp.forget hr tQi_x (ew_sp rfl (Nat.le_of_ble_eq_true rfl) (T_X1_level_E d V g hg hr K a b s0 (H _ _ _ (fun x1 x2 x4 s0 H g1 hx => T_X1_level_28 d V g hg hr K x1 x2 x4 s0 g1 hx H) (fun x1 x2 x4 x5 s0 H g1 hx => T_X1_level_62 d V g hg hr K x1 x2 x4 x5 s0 g1 hx H) (fun x1 x2 x4 x5 x6 s0 H g1 hx => T_X1_level_77 d V g hg hr K x1 x2 x4 x5 x6 s0 g1 hx H))))
