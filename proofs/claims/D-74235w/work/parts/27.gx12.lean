/-! ReasonCloser: methods as predicates, by program (gen/gxx.py) -/
set_option maxRecDepth 100000
abbrev mm_X1_cost : EM := (yX1_cost, cX1_cost, 4, (Option.some .int), [])
theorem me_X1_cost : e_mth mm_X1_cost 2 := ⟨rfl, q1252, q108, by decide +kernel, by decide⟩
def B_X1_cost_E (K : Int → XS → Prop) (a : Int) (b : Int) (s0 : XS) : Prop :=
  (C_X1_why a b s0 (fun r1 => ((r1 ≤ 0 → (C_X1_laysCosts s0 (fun s7 => ((inI (24 * a)) ∧ ((inI ((24 * a) + b)) ∧ ((0 ≤ ((24 * a) + b) ∧ ((24 * a) + b) < 576) ∧ ((inI (s7.1.2 17 ((24 * a) + b))) ∧ (C_X1_fine (s7.1.2 17 ((24 * a) + b)) s7 (fun r14 s15 => K r14 s15))))))))) ∧ (¬ r1 ≤ 0 → (C_X1_refused r1 s0 (fun r18 s19 => K r18 s19))))))
set_option maxHeartbeats 4000000 in
theorem T_X1_cost_E (d : Nat) (V : XV) (g : AH) (hg : xf 6 g) (hr : xfree V g) (K : Int → XS → Prop) (a : Int) (b : Int) (s0 : XS) (H : B_X1_cost_E K a b s0) : EW mm_X1_cost (d + 6) 1 2 (tQi V g K) 0 [(0, aR (some xT)), (1, aI a), (2, aI b)] [] (xh V s0 g) := by
  refine ew_aload_n dX1_cost_0 rfl lm0 ?_
  refine ew_iload_n dX1_cost_1 rfl lm1 ?_
  refine ew_iload_n dX1_cost_2 rfl lm2 ?_
  refine ew_callV (d := d + 5) (as := [aI a, aI b]) rfl dX1_cost_3 me_X1_why rfl (ci := 0) rfl rfl xh_x (Or.inl q1157) q1159 qs35 (Nat.le_of_ble_eq_true rfl) (Nat.le_of_ble_eq_true rfl) (Nat.le_of_ble_eq_true rfl) (S_X1_why (d := d + 2) (xf.le hg (Nat.le_of_ble_eq_true rfl)) hr H) (fun o h' hq3 _ => ?_) (fun E i h' q _ => (cQ_no q).elim)
  obtain ⟨r1, E4, rfl, H⟩ := hq3
  cases E4
  refine ew_istore_n dX1_cost_6 rfl (by decide) (lv' := [(3, aI r1), (0, aR (some xT)), (1, aI a), (2, aI b)]) rfl ?_
  refine ew_sub (List.forall_mem_cons.mpr ⟨lm1, (List.forall_mem_cons.mpr ⟨lm2, (List.forall_mem_cons.mpr ⟨lm3, (List.forall_mem_cons.mpr ⟨lm0, e_nm⟩)⟩)⟩)⟩) ?_
  refine ew_iload_n dX1_cost_7 rfl lm3 ?_
  refine ew_if_le (tgt := 17) dX1_cost_8 (by decide) (fun c5 => ?_) (fun c5 => ?_)
  · replace H := H.1 c5
    refine ew_aload_n dX1_cost_17 rfl lm0 ?_
    refine ew_callV (d := d + 5) (as := []) rfl dX1_cost_18 me_X1_laysCosts rfl (ci := 0) rfl rfl xh_x (Or.inl q1253) q1255 qs44 (Nat.le_of_ble_eq_true rfl) (Nat.zero_le _) (Nat.zero_le _) (S_X1_laysCosts (d := d + 0) H) (fun o h' hq8 _ => ?_) (fun E i h' q _ => (xQv_no q).elim)
    obtain ⟨s7, E9, rfl, H⟩ := hq8
    cases E9
    refine ew_aload_n dX1_cost_21 rfl lm0 ?_
    refine ew_aload_n dX1_cost_22 rfl lm0 ?_
    refine xw_get (v := aR (some (0, 2, 17))) dX1_cost_23 (e_fl.a q345) xf_17 rfl ?_
    refine ew_bipush dX1_cost_26 (inI_of rfl) (by decide) ?_
    refine ew_iload_n dX1_cost_28 rfl lm1 ?_
    obtain ⟨v10, H⟩ := H
    refine ew_imul dX1_cost_29 v10 ?_
    refine ew_iload_n dX1_cost_30 rfl lm2 ?_
    obtain ⟨v11, H⟩ := H
    refine ew_iadd dX1_cost_31 v11 ?_
    obtain ⟨v12, H⟩ := H
    refine xw_lald dX1_cost_32 rfl v12.1 v12.2 ?_
    obtain ⟨v13, H⟩ := H
    refine ew_l2i dX1_cost_33 v13 ?_
    refine ew_callV (d := d + 5) (as := [aI (s7.1.2 17 ((24 * a) + b))]) rfl dX1_cost_34 me_X1_fine rfl (ci := 0) rfl rfl xh_x (Or.inl q1032) q1034 qs24 (Nat.le_of_ble_eq_true rfl) (Nat.zero_le _) (Nat.zero_le _) (S_X1_fine (d := d + 5) H) (fun o h' hq16 _ => ?_) (fun E i h' q _ => (xQi_no q).elim)
    obtain ⟨r14, s15, E17, rfl, H⟩ := hq16
    cases E17
    exact ew_ret (o := some (aI r14)) rfl ⟨_, _, _, rfl, rfl, eX.rf, H⟩ ⟨dX1_cost_37, .int, rfl, Or.inl rfl, rfl⟩
  · replace H := H.2 c5
    refine ew_aload_n dX1_cost_11 rfl lm0 ?_
    refine ew_iload_n dX1_cost_12 rfl lm3 ?_
    refine ew_callV (d := d + 5) (as := [aI r1]) rfl dX1_cost_13 me_X1_refused rfl (ci := 0) rfl rfl xh_x (Or.inl q406) q408 qs1 (Nat.le_of_ble_eq_true rfl) (Nat.zero_le _) (Nat.zero_le _) (S_X1_refused (d := d + 5) H) (fun o h' hq20 _ => ?_) (fun E i h' q _ => (xQi_no q).elim)
    obtain ⟨r18, s19, E21, rfl, H⟩ := hq20
    cases E21
    exact ew_ret (o := some (aI r18)) rfl ⟨_, _, _, rfl, rfl, eX.rf, H⟩ ⟨dX1_cost_16, .int, rfl, Or.inl rfl, rfl⟩
def C_X1_cost (a : Int) (b : Int) (s0 : XS) (K : Int → XS → Prop) : Prop := B_X1_cost_E K a b s0
theorem S_X1_cost {d : Nat} {V : XV} {g : AH} {K : Int → XS → Prop} {a : Int} {b : Int} {s0 : XS} (hg : xf 6 g) (hr : xfree V g) (H : C_X1_cost a b s0 K) : Sp mm_X1_cost (d + 6) 1 2 [aR (some xT), aI a, aI b] (xh V s0 g) (xQi V g K) :=
  Sp.forget hr tQi_x (ew_sp rfl (Nat.le_of_ble_eq_true rfl) (T_X1_cost_E d V g hg hr K a b s0 (H )))
abbrev mm_X1_weight : EM := (yX1_weight, cX1_weight, 4, (Option.some .long), [])
theorem me_X1_weight : e_mth mm_X1_weight 3 := ⟨rfl, q1284, q108, by decide +kernel, by decide⟩
def B_X1_weight_E (K : Int → Prop) (a : Int) (b : Int) (c : Int) (s0 : XS) : Prop :=
  ((a = b → K 10000000000000) ∧ (¬ a = b → (C_X1_isSame a b s0 (fun r2 => ((r2 = 0 → (C_X1_follow a b 4 s0 (fun r17 => ((r17 = 0 → K 10000000000000) ∧ (¬ r17 = 0 → ((c = 0 → ((inI (24 * a)) ∧ ((inI ((24 * a) + b)) ∧ ((0 ≤ ((24 * a) + b) ∧ ((24 * a) + b) < 576) ∧ (((s0.1.2 18 ((24 * a) + b)) = 1000000000 → K 10000000000000) ∧ (¬ (s0.1.2 18 ((24 * a) + b)) = 1000000000 → ((inI (24 * a)) ∧ ((inI ((24 * a) + b)) ∧ ((0 ≤ ((24 * a) + b) ∧ ((24 * a) + b) < 576) ∧ ((inL (100 * (s0.1.2 18 ((24 * a) + b)))) ∧ ((inL ((100 * (s0.1.2 18 ((24 * a) + b))) + 1)) ∧ K ((100 * (s0.1.2 18 ((24 * a) + b))) + 1)))))))))))) ∧ (¬ c = 0 → K 1))))))) ∧ (¬ r2 = 0 → ((c = 0 → ((inI (24 * a)) ∧ ((inI ((24 * a) + b)) ∧ ((0 ≤ ((24 * a) + b) ∧ ((24 * a) + b) < 576) ∧ (((s0.1.2 18 ((24 * a) + b)) = 1000000000 → K 10000000000000) ∧ (¬ (s0.1.2 18 ((24 * a) + b)) = 1000000000 → ((inI (24 * a)) ∧ ((inI ((24 * a) + b)) ∧ ((0 ≤ ((24 * a) + b) ∧ ((24 * a) + b) < 576) ∧ ((inL (100 * (s0.1.2 18 ((24 * a) + b)))) ∧ ((inL ((100 * (s0.1.2 18 ((24 * a) + b))) + 1)) ∧ K ((100 * (s0.1.2 18 ((24 * a) + b))) + 1)))))))))))) ∧ (¬ c = 0 → K 1))))))))
set_option maxHeartbeats 4000000 in
theorem T_X1_weight_E (d : Nat) (V : XV) (g : AH) (K : Int → Prop) (a : Int) (b : Int) (c : Int) (s0 : XS) (H : B_X1_weight_E K a b c s0) : EW mm_X1_weight (d + 4) 0 0 (cQl (xh V s0 g) K) 0 [(0, aR (some xT)), (1, aI a), (2, aI b), (3, aI c)] [] (xh V s0 g) := by
  refine ew_iload_n dX1_weight_0 rfl lm1 ?_
  refine ew_iload_n dX1_weight_1 rfl lm2 ?_
  refine ew_icmp_eq (tgt := 27) dX1_weight_2 (by decide) (fun c1 => ?_) (fun c1 => ?_)
  · replace H := H.1 c1
    refine ew_ldc2 (n := 10000000000000) dX1_weight_27 (inL_of rfl) q1285 ?_
    exact ew_ret (o := some (aL 10000000000000)) rfl ⟨_, rfl, rfl, H⟩ ⟨dX1_weight_30, rfl⟩
  · replace H := H.2 c1
    refine ew_aload_n dX1_weight_5 rfl lm0 ?_
    refine ew_iload_n dX1_weight_6 rfl lm1 ?_
    refine ew_iload_n dX1_weight_7 rfl lm2 ?_
    refine ew_callV (d := d + 3) (as := [aI a, aI b]) rfl dX1_weight_8 me_X1_isSame rfl (ci := 0) rfl rfl xh_x (Or.inl q1262) q1264 qs46 (Nat.le_of_ble_eq_true rfl) (Nat.zero_le _) (Nat.zero_le _) (S_X1_isSame (d := d + 0) H) (fun o h' hq4 _ => ?_) (fun E i h' q _ => (cQ_no q).elim)
    obtain ⟨r2, E5, rfl, H⟩ := hq4
    cases E5
    refine ew_if_ne (tgt := 31) dX1_weight_11 (by decide) (fun c6 => ?_) (fun c6 => ?_)
    · replace H := H.2 c6
      refine ew_iload_n dX1_weight_31 rfl lm3 ?_
      refine ew_if_eq (tgt := 39) dX1_weight_32 (by decide) (fun c7 => ?_) (fun c7 => ?_)
      · replace H := H.1 c7
        refine ew_aload_n dX1_weight_39 rfl lm0 ?_
        refine xw_get (v := aR (some (0, 2, 18))) dX1_weight_40 (e_fl.a q346) xf_18 rfl ?_
        refine ew_bipush dX1_weight_43 (inI_of rfl) (by decide) ?_
        refine ew_iload_n dX1_weight_45 rfl lm1 ?_
        obtain ⟨v8, H⟩ := H
        refine ew_imul dX1_weight_46 v8 ?_
        refine ew_iload_n dX1_weight_47 rfl lm2 ?_
        obtain ⟨v9, H⟩ := H
        refine ew_iadd dX1_weight_48 v9 ?_
        obtain ⟨v10, H⟩ := H
        refine xw_lald dX1_weight_49 rfl v10.1 v10.2 ?_
        refine ew_ldc2 (n := 1000000000) dX1_weight_50 (inL_of rfl) q1257 ?_
        refine ew_lcmp dX1_weight_53 ?_
        refine ew_if_ne (tgt := 63) dX1_weight_54 (by decide) (fun c11 => ?_) (fun c11 => ?_)
        · replace H := H.2 (fun z => c11 (jl_eq.mpr z))
          refine ew_ldc2 (n := 100) dX1_weight_63 (inL_of rfl) q1286 ?_
          refine ew_aload_n dX1_weight_66 rfl lm0 ?_
          refine xw_get (v := aR (some (0, 2, 18))) dX1_weight_67 (e_fl.a q346) xf_18 rfl ?_
          refine ew_bipush dX1_weight_70 (inI_of rfl) (by decide) ?_
          refine ew_iload_n dX1_weight_72 rfl lm1 ?_
          obtain ⟨v12, H⟩ := H
          refine ew_imul dX1_weight_73 v12 ?_
          refine ew_iload_n dX1_weight_74 rfl lm2 ?_
          obtain ⟨v13, H⟩ := H
          refine ew_iadd dX1_weight_75 v13 ?_
          obtain ⟨v14, H⟩ := H
          refine xw_lald dX1_weight_76 rfl v14.1 v14.2 ?_
          obtain ⟨v15, H⟩ := H
          refine ew_lmul dX1_weight_77 v15 ?_
          refine ew_lconst (v := 1) dX1_weight_78 (inL_of rfl) (by decide) ?_
          obtain ⟨v16, H⟩ := H
          refine ew_ladd dX1_weight_79 v16 ?_
          exact ew_ret (o := some (aL ((100 * (s0.1.2 18 ((24 * a) + b))) + 1))) rfl ⟨_, rfl, rfl, H⟩ ⟨dX1_weight_80, rfl⟩
        · replace H := H.1 (jl_eq.mp c11)
          refine ew_ldc2 (n := 10000000000000) dX1_weight_57 (inL_of rfl) q1285 ?_
          refine ew_goto (tgt := 80) dX1_weight_60 (by decide) ?_
          exact ew_ret (o := some (aL 10000000000000)) rfl ⟨_, rfl, rfl, H⟩ ⟨dX1_weight_80, rfl⟩
      · replace H := H.2 c7
        refine ew_lconst (v := 1) dX1_weight_35 (inL_of rfl) (by decide) ?_
        refine ew_goto (tgt := 80) dX1_weight_36 (by decide) ?_
        exact ew_ret (o := some (aL 1)) rfl ⟨_, rfl, rfl, H⟩ ⟨dX1_weight_80, rfl⟩
    · replace H := H.1 c6
      refine ew_aload_n dX1_weight_14 rfl lm0 ?_
      refine ew_aload_n dX1_weight_15 rfl lm0 ?_
      refine xw_get (v := aR (some (sI V 4 99))) dX1_weight_16 (e_fl.a q334) xf_6 rfl ?_
      refine ew_iload_n dX1_weight_19 rfl lm1 ?_
      refine ew_iload_n dX1_weight_20 rfl lm2 ?_
      refine ew_callV (d := d + 3) (as := [aR (some (sI V 4 99)), aI a, aI b]) rfl dX1_weight_21 me_X1_follow rfl (ci := 0) rfl rfl xh_x (Or.inl q1245) q1247 qs43 (Nat.le_of_ble_eq_true rfl) (Nat.zero_le _) (Nat.zero_le _) (S_X1_follow (d := d + 0) (by decide) H) (fun o h' hq19 _ => ?_) (fun E i h' q _ => (cQ_no q).elim)
      obtain ⟨r17, E20, rfl, H⟩ := hq19
      cases E20
      refine ew_if_ne (tgt := 31) dX1_weight_24 (by decide) (fun c21 => ?_) (fun c21 => ?_)
      · replace H := H.2 c21
        refine ew_iload_n dX1_weight_31 rfl lm3 ?_
        refine ew_if_eq (tgt := 39) dX1_weight_32 (by decide) (fun c22 => ?_) (fun c22 => ?_)
        · replace H := H.1 c22
          refine ew_aload_n dX1_weight_39 rfl lm0 ?_
          refine xw_get (v := aR (some (0, 2, 18))) dX1_weight_40 (e_fl.a q346) xf_18 rfl ?_
          refine ew_bipush dX1_weight_43 (inI_of rfl) (by decide) ?_
          refine ew_iload_n dX1_weight_45 rfl lm1 ?_
          obtain ⟨v23, H⟩ := H
          refine ew_imul dX1_weight_46 v23 ?_
          refine ew_iload_n dX1_weight_47 rfl lm2 ?_
          obtain ⟨v24, H⟩ := H
          refine ew_iadd dX1_weight_48 v24 ?_
          obtain ⟨v25, H⟩ := H
          refine xw_lald dX1_weight_49 rfl v25.1 v25.2 ?_
          refine ew_ldc2 (n := 1000000000) dX1_weight_50 (inL_of rfl) q1257 ?_
          refine ew_lcmp dX1_weight_53 ?_
          refine ew_if_ne (tgt := 63) dX1_weight_54 (by decide) (fun c26 => ?_) (fun c26 => ?_)
          · replace H := H.2 (fun z => c26 (jl_eq.mpr z))
            refine ew_ldc2 (n := 100) dX1_weight_63 (inL_of rfl) q1286 ?_
            refine ew_aload_n dX1_weight_66 rfl lm0 ?_
            refine xw_get (v := aR (some (0, 2, 18))) dX1_weight_67 (e_fl.a q346) xf_18 rfl ?_
            refine ew_bipush dX1_weight_70 (inI_of rfl) (by decide) ?_
            refine ew_iload_n dX1_weight_72 rfl lm1 ?_
            obtain ⟨v27, H⟩ := H
            refine ew_imul dX1_weight_73 v27 ?_
            refine ew_iload_n dX1_weight_74 rfl lm2 ?_
            obtain ⟨v28, H⟩ := H
            refine ew_iadd dX1_weight_75 v28 ?_
            obtain ⟨v29, H⟩ := H
            refine xw_lald dX1_weight_76 rfl v29.1 v29.2 ?_
            obtain ⟨v30, H⟩ := H
            refine ew_lmul dX1_weight_77 v30 ?_
            refine ew_lconst (v := 1) dX1_weight_78 (inL_of rfl) (by decide) ?_
            obtain ⟨v31, H⟩ := H
            refine ew_ladd dX1_weight_79 v31 ?_
            exact ew_ret (o := some (aL ((100 * (s0.1.2 18 ((24 * a) + b))) + 1))) rfl ⟨_, rfl, rfl, H⟩ ⟨dX1_weight_80, rfl⟩
          · replace H := H.1 (jl_eq.mp c26)
            refine ew_ldc2 (n := 10000000000000) dX1_weight_57 (inL_of rfl) q1285 ?_
            refine ew_goto (tgt := 80) dX1_weight_60 (by decide) ?_
            exact ew_ret (o := some (aL 10000000000000)) rfl ⟨_, rfl, rfl, H⟩ ⟨dX1_weight_80, rfl⟩
        · replace H := H.2 c22
          refine ew_lconst (v := 1) dX1_weight_35 (inL_of rfl) (by decide) ?_
          refine ew_goto (tgt := 80) dX1_weight_36 (by decide) ?_
          exact ew_ret (o := some (aL 1)) rfl ⟨_, rfl, rfl, H⟩ ⟨dX1_weight_80, rfl⟩
      · replace H := H.1 c21
        refine ew_ldc2 (n := 10000000000000) dX1_weight_27 (inL_of rfl) q1285 ?_
        exact ew_ret (o := some (aL 10000000000000)) rfl ⟨_, rfl, rfl, H⟩ ⟨dX1_weight_30, rfl⟩
def C_X1_weight (a : Int) (b : Int) (c : Int) (s0 : XS) (K : Int → Prop) : Prop := B_X1_weight_E K a b c s0
theorem S_X1_weight {d : Nat} {V : XV} {g : AH} {K : Int → Prop} {a : Int} {b : Int} {c : Int} {s0 : XS} (H : C_X1_weight a b c s0 K) : Sp mm_X1_weight (d + 4) 0 0 [aR (some xT), aI a, aI b, aI c] (xh V s0 g) (cQl (xh V s0 g) K) :=
  ew_sp rfl (Nat.le_of_ble_eq_true rfl) (T_X1_weight_E d V g K a b c s0 (H ))
abbrev mm_X1_next : EM := (yX1_next, cX1_next, 5, (Option.some .int), [])
theorem me_X1_next : e_mth mm_X1_next 3 := ⟨rfl, q1290, q108, by decide +kernel, by decide⟩
def B_X1_next_3 (X3 : Int → Int → Int → Int → Prop) (K : Int → Prop) (x1 : Int) (x2 : Int) (x3 : Int) (x4 : Int) (s0 : XS) : Prop :=
  (C_X1_weight x1 x4 x3 s0 (fun r1 => ((r1 = 10000000000000 → (inI (x4 + 1) ∧ X3 x1 x2 x3 (x4 + 1))) ∧ (¬ r1 = 10000000000000 → (C_X1_weight x1 x4 x3 s0 (fun r7 => ((inI (24 * x4)) ∧ ((inI ((24 * x4) + x2)) ∧ ((0 ≤ ((24 * x4) + x2) ∧ ((24 * x4) + x2) < 576) ∧ ((inL (r7 + (s0.1.2 19 ((24 * x4) + x2)))) ∧ ((inI (24 * x1)) ∧ ((inI ((24 * x1) + x2)) ∧ ((0 ≤ ((24 * x1) + x2) ∧ ((24 * x1) + x2) < 576) ∧ (((r7 + (s0.1.2 19 ((24 * x4) + x2))) = (s0.1.2 19 ((24 * x1) + x2)) → K x4) ∧ (¬ (r7 + (s0.1.2 19 ((24 * x4) + x2))) = (s0.1.2 19 ((24 * x1) + x2)) → (inI (x4 + 1) ∧ X3 x1 x2 x3 (x4 + 1)))))))))))))))))
def B_X1_next_E (X3 : Int → Int → Int → Int → Prop) (K : Int → Prop) (a : Int) (b : Int) (c : Int) (s0 : XS) : Prop :=
  X3 a b c 0
def W_X1_next_3 (d : Nat) (V : XV) (g : AH) (s0 : XS) (K : Int → Prop) (x1 : Int) (x2 : Int) (x3 : Int) (x4 : Int) : Prop := EW mm_X1_next (d + 5) 0 0 (cQ (xh V s0 g) K) 3 [(0, aR (some xT)), (1, aI x1), (2, aI x2), (3, aI x3), (4, aI x4)] [] (xh V s0 g)
set_option maxHeartbeats 4000000 in
theorem T_X1_next_3 (d : Nat) (V : XV) (g : AH) (K : Int → Prop) (x1 : Int) (x2 : Int) (x3 : Int) (x4 : Int) (s0 : XS) (H : B_X1_next_3 (W_X1_next_3 d V g s0 K) K x1 x2 x3 x4 s0) : EW mm_X1_next (d + 5) 0 0 (cQ (xh V s0 g) K) 3 [(0, aR (some xT)), (1, aI x1), (2, aI x2), (3, aI x3), (4, aI x4)] [] (xh V s0 g) := by
  refine ew_aload_n dX1_next_3 rfl lm0 ?_
  refine ew_iload_n dX1_next_4 rfl lm1 ?_
  refine ew_iload dX1_next_5 lm4 ?_
  refine ew_iload_n dX1_next_7 rfl lm3 ?_
  refine ew_callV (d := d + 4) (as := [aI x1, aI x4, aI x3]) rfl dX1_next_8 me_X1_weight rfl (ci := 0) rfl rfl xh_x (Or.inl q1281) q1283 qs49 (Nat.le_of_ble_eq_true rfl) (Nat.zero_le _) (Nat.zero_le _) (S_X1_weight (d := d + 0) H) (fun o h' hq3 _ => ?_) (fun E i h' q _ => (cQl_no q).elim)
  obtain ⟨r1, E4, rfl, H⟩ := hq3
  cases E4
  refine ew_ldc2 (n := 10000000000000) dX1_next_11 (inL_of rfl) q1285 ?_
  refine ew_lcmp dX1_next_14 ?_
  refine ew_if_eq (tgt := 54) dX1_next_15 (by decide) (fun c5 => ?_) (fun c5 => ?_)
  · replace H := H.1 (jl_eq.mp c5)
    obtain ⟨v6, H⟩ := H
    refine ew_iinc dX1_next_54 lm4 (by decide) v6 (lv' := [(4, aI (x4 + 1)), (0, aR (some xT)), (1, aI x1), (2, aI x2), (3, aI x3)]) rfl ?_
    refine ew_sub (List.forall_mem_cons.mpr ⟨lm1, (List.forall_mem_cons.mpr ⟨lm2, (List.forall_mem_cons.mpr ⟨lm3, (List.forall_mem_cons.mpr ⟨lm4, (List.forall_mem_cons.mpr ⟨lm0, e_nm⟩)⟩)⟩)⟩)⟩) ?_
    refine ew_goto (tgt := 3) dX1_next_57 (by decide) ?_
    exact ew_room (Nat.le_refl _) (Nat.zero_le _) (Nat.zero_le _) (ew_sub (List.forall_mem_cons.mpr ⟨lm0, (List.forall_mem_cons.mpr ⟨lm1, (List.forall_mem_cons.mpr ⟨lm2, (List.forall_mem_cons.mpr ⟨lm3, (List.forall_mem_cons.mpr ⟨lm4, e_nm⟩)⟩)⟩)⟩)⟩) H)
  · replace H := H.2 (fun z => c5 (jl_eq.mpr z))
    refine ew_aload_n dX1_next_18 rfl lm0 ?_
    refine ew_iload_n dX1_next_19 rfl lm1 ?_
    refine ew_iload dX1_next_20 lm4 ?_
    refine ew_iload_n dX1_next_22 rfl lm3 ?_
    refine ew_callV (d := d + 4) (as := [aI x1, aI x4, aI x3]) rfl dX1_next_23 me_X1_weight rfl (ci := 0) rfl rfl xh_x (Or.inl q1281) q1283 qs49 (Nat.le_of_ble_eq_true rfl) (Nat.zero_le _) (Nat.zero_le _) (S_X1_weight (d := d + 0) H) (fun o h' hq9 _ => ?_) (fun E i h' q _ => (cQl_no q).elim)
    obtain ⟨r7, E10, rfl, H⟩ := hq9
    cases E10
    refine ew_aload_n dX1_next_26 rfl lm0 ?_
    refine xw_get (v := aR (some (0, 2, 19))) dX1_next_27 (e_fl.a q347) xf_19 rfl ?_
    refine ew_bipush dX1_next_30 (inI_of rfl) (by decide) ?_
    refine ew_iload dX1_next_32 lm4 ?_
    obtain ⟨v11, H⟩ := H
    refine ew_imul dX1_next_34 v11 ?_
    refine ew_iload_n dX1_next_35 rfl lm2 ?_
    obtain ⟨v12, H⟩ := H
    refine ew_iadd dX1_next_36 v12 ?_
    obtain ⟨v13, H⟩ := H
    refine xw_lald dX1_next_37 rfl v13.1 v13.2 ?_
    obtain ⟨v14, H⟩ := H
    refine ew_ladd dX1_next_38 v14 ?_
    refine ew_aload_n dX1_next_39 rfl lm0 ?_
    refine xw_get (v := aR (some (0, 2, 19))) dX1_next_40 (e_fl.a q347) xf_19 rfl ?_
    refine ew_bipush dX1_next_43 (inI_of rfl) (by decide) ?_
    refine ew_iload_n dX1_next_45 rfl lm1 ?_
    obtain ⟨v15, H⟩ := H
    refine ew_imul dX1_next_46 v15 ?_
    refine ew_iload_n dX1_next_47 rfl lm2 ?_
    obtain ⟨v16, H⟩ := H
    refine ew_iadd dX1_next_48 v16 ?_
    obtain ⟨v17, H⟩ := H
    refine xw_lald dX1_next_49 rfl v17.1 v17.2 ?_
    refine ew_lcmp dX1_next_50 ?_
    refine ew_if_eq (tgt := 60) dX1_next_51 (by decide) (fun c18 => ?_) (fun c18 => ?_)
    · replace H := H.1 (jl_eq.mp c18)
      refine ew_iload dX1_next_60 lm4 ?_
      exact ew_ret (o := some (aI x4)) rfl ⟨_, rfl, rfl, H⟩ ⟨dX1_next_62, .int, rfl, Or.inl rfl, rfl⟩
    · replace H := H.2 (fun z => c18 (jl_eq.mpr z))
      obtain ⟨v19, H⟩ := H
      refine ew_iinc dX1_next_54 lm4 (by decide) v19 (lv' := [(4, aI (x4 + 1)), (0, aR (some xT)), (1, aI x1), (2, aI x2), (3, aI x3)]) rfl ?_
      refine ew_sub (List.forall_mem_cons.mpr ⟨lm1, (List.forall_mem_cons.mpr ⟨lm2, (List.forall_mem_cons.mpr ⟨lm3, (List.forall_mem_cons.mpr ⟨lm4, (List.forall_mem_cons.mpr ⟨lm0, e_nm⟩)⟩)⟩)⟩)⟩) ?_
      refine ew_goto (tgt := 3) dX1_next_57 (by decide) ?_
      exact ew_room (Nat.le_refl _) (Nat.zero_le _) (Nat.zero_le _) (ew_sub (List.forall_mem_cons.mpr ⟨lm0, (List.forall_mem_cons.mpr ⟨lm1, (List.forall_mem_cons.mpr ⟨lm2, (List.forall_mem_cons.mpr ⟨lm3, (List.forall_mem_cons.mpr ⟨lm4, e_nm⟩)⟩)⟩)⟩)⟩) H)
set_option maxHeartbeats 4000000 in
theorem T_X1_next_E (d : Nat) (V : XV) (g : AH) (K : Int → Prop) (a : Int) (b : Int) (c : Int) (s0 : XS) (H : B_X1_next_E (W_X1_next_3 d V g s0 K) K a b c s0) : EW mm_X1_next (d + 5) 0 0 (cQ (xh V s0 g) K) 0 [(0, aR (some xT)), (1, aI a), (2, aI b), (3, aI c)] [] (xh V s0 g) := by
  refine ew_iconst dX1_next_0 (inI_of rfl) ?_
  refine ew_istore dX1_next_1 (by decide) (lv' := [(4, aI 0), (0, aR (some xT)), (1, aI a), (2, aI b), (3, aI c)]) rfl ?_
  refine ew_sub (List.forall_mem_cons.mpr ⟨lm1, (List.forall_mem_cons.mpr ⟨lm2, (List.forall_mem_cons.mpr ⟨lm3, (List.forall_mem_cons.mpr ⟨lm4, (List.forall_mem_cons.mpr ⟨lm0, e_nm⟩)⟩)⟩)⟩)⟩) ?_
  exact ew_room (Nat.le_refl _) (Nat.zero_le _) (Nat.zero_le _) (ew_sub (List.forall_mem_cons.mpr ⟨lm0, (List.forall_mem_cons.mpr ⟨lm1, (List.forall_mem_cons.mpr ⟨lm2, (List.forall_mem_cons.mpr ⟨lm3, (List.forall_mem_cons.mpr ⟨lm4, e_nm⟩)⟩)⟩)⟩)⟩) H)
def C_X1_next (a : Int) (b : Int) (c : Int) (s0 : XS) (K : Int → Prop) : Prop := ∀ (X3 : Int → Int → Int → Int → Prop), (∀ (x1 : Int) (x2 : Int) (x3 : Int) (x4 : Int), B_X1_next_3 X3 K x1 x2 x3 x4 s0 → X3 x1 x2 x3 x4) → B_X1_next_E X3 K a b c s0
theorem S_X1_next {d : Nat} {V : XV} {g : AH} {K : Int → Prop} {a : Int} {b : Int} {c : Int} {s0 : XS} (H : C_X1_next a b c s0 K) : Sp mm_X1_next (d + 5) 0 0 [aR (some xT), aI a, aI b, aI c] (xh V s0 g) (cQ (xh V s0 g) K) :=
  ew_sp rfl (Nat.le_of_ble_eq_true rfl) (T_X1_next_E d V g K a b c s0 (H _ (fun x1 x2 x3 x4 H => T_X1_next_3 d V g K x1 x2 x3 x4 s0 H)))
abbrev mm_X1_way : EM := (yX1_way, cX1_way, 8, (Option.some .int), [])
theorem me_X1_way : e_mth mm_X1_way 3 := ⟨rfl, q1280, q108, by decide +kernel, by decide⟩
def B_X1_way_78 (X78 : Int → Int → Int → Int → Int → XS → Prop) (X90 : Int → Int → Int → Int → Int → Int → XS → Prop) (X148 : Int → Int → Int → Int → Int → XS → Prop) (X175 : Int → Int → Int → Int → Int → XS → Prop) (K : Int → XS → Prop) (x1 : Int) (x2 : Int) (x3 : Int) (x4 : Int) (x5 : Int) (s0 : XS) : Prop :=
  (C_X1_terms s0 (fun r1 => ((r1 ≤ x5 → X148 x1 x2 x3 x4 1 s0) ∧ (¬ r1 ≤ x5 → X90 x1 x2 x3 x4 x5 0 s0))))
def B_X1_way_90 (X78 : Int → Int → Int → Int → Int → XS → Prop) (X90 : Int → Int → Int → Int → Int → Int → XS → Prop) (X148 : Int → Int → Int → Int → Int → XS → Prop) (X175 : Int → Int → Int → Int → Int → XS → Prop) (K : Int → XS → Prop) (x1 : Int) (x2 : Int) (x3 : Int) (x4 : Int) (x5 : Int) (x6 : Int) (s0 : XS) : Prop :=
  (C_X1_terms s0 (fun r1 => ((r1 ≤ x6 → (inI (x5 + 1) ∧ X78 x1 x2 x3 x4 (x5 + 1) s0)) ∧ (¬ r1 ≤ x6 → ((inI (24 * x5)) ∧ ((inI ((24 * x5) + x6)) ∧ ((x5 = x6 → (((0 ≤ ((24 * x5) + x6) ∧ ((24 * x5) + x6) < 576)) ∧ ∀ s18 : XS, s18 = xa s0 19 ((24 * x5) + x6) 0 → (inI (x6 + 1) ∧ X90 x1 x2 x3 x4 x5 (x6 + 1) s18))) ∧ (¬ x5 = x6 → (C_X1_weight x5 x6 x4 s0 (fun r10 => (((0 ≤ ((24 * x5) + x6) ∧ ((24 * x5) + x6) < 576)) ∧ ∀ s14 : XS, s14 = xa s0 19 ((24 * x5) + x6) r10 → (inI (x6 + 1) ∧ X90 x1 x2 x3 x4 x5 (x6 + 1) s14))))))))))))
def B_X1_way_148 (X78 : Int → Int → Int → Int → Int → XS → Prop) (X90 : Int → Int → Int → Int → Int → Int → XS → Prop) (X148 : Int → Int → Int → Int → Int → XS → Prop) (X175 : Int → Int → Int → Int → Int → XS → Prop) (K : Int → XS → Prop) (x1 : Int) (x2 : Int) (x3 : Int) (x4 : Int) (x5 : Int) (s0 : XS) : Prop :=
  ((x5 = 0 → X175 x2 x3 x4 x1 0 s0) ∧ (¬ x5 = 0 → (C_X1_spreads 19 10000000000000 s0 (fun r2 s3 => X148 x1 x2 x3 x4 r2 s3))))
def B_X1_way_175 (X78 : Int → Int → Int → Int → Int → XS → Prop) (X90 : Int → Int → Int → Int → Int → Int → XS → Prop) (X148 : Int → Int → Int → Int → Int → XS → Prop) (X175 : Int → Int → Int → Int → Int → XS → Prop) (K : Int → XS → Prop) (x2 : Int) (x3 : Int) (x4 : Int) (x6 : Int) (x7 : Int) (s0 : XS) : Prop :=
  ((x3 ≤ x7 → (C_X1_fine x6 s0 (fun r2 s3 => K r2 s3))) ∧ (¬ x3 ≤ x7 → ((x6 = x2 → (C_X1_fine (-2) s0 (fun r12 s13 => K r12 s13))) ∧ (¬ x6 = x2 → (C_X1_next x6 x2 x4 s0 (fun r7 => (inI (x7 + 1) ∧ X175 x2 x3 x4 r7 (x7 + 1) s0)))))))
def B_X1_way_E (X78 : Int → Int → Int → Int → Int → XS → Prop) (X90 : Int → Int → Int → Int → Int → Int → XS → Prop) (X148 : Int → Int → Int → Int → Int → XS → Prop) (X175 : Int → Int → Int → Int → Int → XS → Prop) (K : Int → XS → Prop) (a : Int) (b : Int) (c : Int) (s0 : XS) : Prop :=
  (C_X1_isTerm 2 (iup (iup (fun _ => 0) 0 a) 1 b) s0 (fun r1 => ((r1 = 0 → (C_X1_refused 1 s0 (fun r6 s7 => K r6 s7))) ∧ (¬ r1 = 0 → ((0 ≤ c → (C_X3_areOne_G a b 4 s0 (fun r11 => ((r11 = 0 → (C_X1_refused 5 s0 (fun r24 s25 => K r24 s25))) ∧ (¬ r11 = 0 → (C_X1_laysCosts s0 (fun s17 => ((inI (24 * a)) ∧ ((inI ((24 * a) + b)) ∧ ((0 ≤ ((24 * a) + b) ∧ ((24 * a) + b) < 576) ∧ (((s17.1.2 17 ((24 * a) + b)) = 1000000000 → X78 a b c 1 0 s17) ∧ (¬ (s17.1.2 17 ((24 * a) + b)) = 1000000000 → X78 a b c 0 0 s17)))))))))))) ∧ (¬ 0 ≤ c → (C_X1_refused 1 s0 (fun r28 s29 => K r28 s29))))))))
def W_X1_way_78 (d : Nat) (V : XV) (g : AH) (K : Int → XS → Prop) (x1 : Int) (x2 : Int) (x3 : Int) (x4 : Int) (x5 : Int) (s0 : XS) : Prop := ∀ g1, eX g g1 → EW mm_X1_way (d + 6) 0 0 (tQi V g K) 78 [(0, aR (some xT)), (1, aI x1), (2, aI x2), (3, aI x3), (4, aI x4), (5, aI x5)] [] (xh V s0 g1)
def W_X1_way_90 (d : Nat) (V : XV) (g : AH) (K : Int → XS → Prop) (x1 : Int) (x2 : Int) (x3 : Int) (x4 : Int) (x5 : Int) (x6 : Int) (s0 : XS) : Prop := ∀ g1, eX g g1 → EW mm_X1_way (d + 6) 0 0 (tQi V g K) 90 [(0, aR (some xT)), (1, aI x1), (2, aI x2), (3, aI x3), (4, aI x4), (5, aI x5), (6, aI x6)] [] (xh V s0 g1)
def W_X1_way_148 (d : Nat) (V : XV) (g : AH) (K : Int → XS → Prop) (x1 : Int) (x2 : Int) (x3 : Int) (x4 : Int) (x5 : Int) (s0 : XS) : Prop := ∀ g1, eX g g1 → EW mm_X1_way (d + 6) 0 0 (tQi V g K) 148 [(0, aR (some xT)), (1, aI x1), (2, aI x2), (3, aI x3), (4, aI x4), (5, aI x5)] [] (xh V s0 g1)
def W_X1_way_175 (d : Nat) (V : XV) (g : AH) (K : Int → XS → Prop) (x2 : Int) (x3 : Int) (x4 : Int) (x6 : Int) (x7 : Int) (s0 : XS) : Prop := ∀ g1, eX g g1 → EW mm_X1_way (d + 6) 0 0 (tQi V g K) 175 [(0, aR (some xT)), (2, aI x2), (3, aI x3), (4, aI x4), (6, aI x6), (7, aI x7)] [] (xh V s0 g1)
set_option maxHeartbeats 4000000 in
theorem T_X1_way_78 (d : Nat) (V : XV) (g : AH) (hg : xf 6 g) (hr : xfree V g) (K : Int → XS → Prop) (x1 : Int) (x2 : Int) (x3 : Int) (x4 : Int) (x5 : Int) (s0 : XS) (g1 : AH) (hx : eX g g1) (H : B_X1_way_78 (W_X1_way_78 d V g K) (W_X1_way_90 d V g K) (W_X1_way_148 d V g K) (W_X1_way_175 d V g K) K x1 x2 x3 x4 x5 s0) : EW mm_X1_way (d + 6) 0 0 (tQi V g K) 78 [(0, aR (some xT)), (1, aI x1), (2, aI x2), (3, aI x3), (4, aI x4), (5, aI x5)] [] (xh V s0 g1) := by
  refine ew_iload dX1_way_78 lm5 ?_
  refine ew_aload_n dX1_way_80 rfl lm0 ?_
  refine ew_callV (d := d + 5) (as := []) rfl dX1_way_81 me_X1_terms rfl (ci := 0) rfl rfl xh_x (Or.inl q1048) q1050 qs25 (Nat.le_of_ble_eq_true rfl) (Nat.zero_le _) (Nat.zero_le _) (S_X1_terms (d := d + 4) H) (fun o h' hq3 _ => ?_) (fun E i h' q _ => (cQ_no q).elim)
  obtain ⟨r1, E4, rfl, H⟩ := hq3
  cases E4
  refine ew_icmp_ge (tgt := 145) dX1_way_84 (by decide) (fun c5 => ?_) (fun c5 => ?_)
  · replace H := H.1 c5
    refine ew_iconst dX1_way_145 (inI_of rfl) ?_
    refine ew_istore dX1_way_146 (by decide) (lv' := [(5, aI 1), (0, aR (some xT)), (1, aI x1), (2, aI x2), (3, aI x3), (4, aI x4)]) rfl ?_
    refine ew_sub (List.forall_mem_cons.mpr ⟨lm1, (List.forall_mem_cons.mpr ⟨lm2, (List.forall_mem_cons.mpr ⟨lm3, (List.forall_mem_cons.mpr ⟨lm4, (List.forall_mem_cons.mpr ⟨lm5, (List.forall_mem_cons.mpr ⟨lm0, e_nm⟩)⟩)⟩)⟩)⟩)⟩) ?_
    exact ew_room (Nat.le_refl _) (Nat.zero_le _) (Nat.zero_le _) (ew_sub (List.forall_mem_cons.mpr ⟨lm0, (List.forall_mem_cons.mpr ⟨lm1, (List.forall_mem_cons.mpr ⟨lm2, (List.forall_mem_cons.mpr ⟨lm3, (List.forall_mem_cons.mpr ⟨lm4, (List.forall_mem_cons.mpr ⟨lm5, e_nm⟩)⟩)⟩)⟩)⟩)⟩) (H _ hx))
  · replace H := H.2 c5
    refine ew_iconst dX1_way_87 (inI_of rfl) ?_
    refine ew_istore dX1_way_88 (by decide) (lv' := [(6, aI 0), (0, aR (some xT)), (1, aI x1), (2, aI x2), (3, aI x3), (4, aI x4), (5, aI x5)]) rfl ?_
    refine ew_sub (List.forall_mem_cons.mpr ⟨lm1, (List.forall_mem_cons.mpr ⟨lm2, (List.forall_mem_cons.mpr ⟨lm3, (List.forall_mem_cons.mpr ⟨lm4, (List.forall_mem_cons.mpr ⟨lm5, (List.forall_mem_cons.mpr ⟨lm6, (List.forall_mem_cons.mpr ⟨lm0, e_nm⟩)⟩)⟩)⟩)⟩)⟩)⟩) ?_
    exact ew_room (Nat.le_refl _) (Nat.zero_le _) (Nat.zero_le _) (ew_sub (List.forall_mem_cons.mpr ⟨lm0, (List.forall_mem_cons.mpr ⟨lm1, (List.forall_mem_cons.mpr ⟨lm2, (List.forall_mem_cons.mpr ⟨lm3, (List.forall_mem_cons.mpr ⟨lm4, (List.forall_mem_cons.mpr ⟨lm5, (List.forall_mem_cons.mpr ⟨lm6, e_nm⟩)⟩)⟩)⟩)⟩)⟩)⟩) (H _ hx))
set_option maxHeartbeats 4000000 in
theorem T_X1_way_90 (d : Nat) (V : XV) (g : AH) (hg : xf 6 g) (hr : xfree V g) (K : Int → XS → Prop) (x1 : Int) (x2 : Int) (x3 : Int) (x4 : Int) (x5 : Int) (x6 : Int) (s0 : XS) (g1 : AH) (hx : eX g g1) (H : B_X1_way_90 (W_X1_way_78 d V g K) (W_X1_way_90 d V g K) (W_X1_way_148 d V g K) (W_X1_way_175 d V g K) K x1 x2 x3 x4 x5 x6 s0) : EW mm_X1_way (d + 6) 0 0 (tQi V g K) 90 [(0, aR (some xT)), (1, aI x1), (2, aI x2), (3, aI x3), (4, aI x4), (5, aI x5), (6, aI x6)] [] (xh V s0 g1) := by
  refine ew_iload dX1_way_90 lm6 ?_
  refine ew_aload_n dX1_way_92 rfl lm0 ?_
  refine ew_callV (d := d + 5) (as := []) rfl dX1_way_93 me_X1_terms rfl (ci := 0) rfl rfl xh_x (Or.inl q1048) q1050 qs25 (Nat.le_of_ble_eq_true rfl) (Nat.zero_le _) (Nat.zero_le _) (S_X1_terms (d := d + 4) H) (fun o h' hq3 _ => ?_) (fun E i h' q _ => (cQ_no q).elim)
  obtain ⟨r1, E4, rfl, H⟩ := hq3
  cases E4
  refine ew_icmp_ge (tgt := 139) dX1_way_96 (by decide) (fun c5 => ?_) (fun c5 => ?_)
  · replace H := H.1 c5
    obtain ⟨v6, H⟩ := H
    refine ew_iinc dX1_way_139 lm5 (by decide) v6 (lv' := [(5, aI (x5 + 1)), (0, aR (some xT)), (1, aI x1), (2, aI x2), (3, aI x3), (4, aI x4), (6, aI x6)]) rfl ?_
    refine ew_sub (List.forall_mem_cons.mpr ⟨lm1, (List.forall_mem_cons.mpr ⟨lm2, (List.forall_mem_cons.mpr ⟨lm3, (List.forall_mem_cons.mpr ⟨lm4, (List.forall_mem_cons.mpr ⟨lm5, (List.forall_mem_cons.mpr ⟨lm0, (List.forall_mem_cons.mpr ⟨lm6, e_nm⟩)⟩)⟩)⟩)⟩)⟩)⟩) ?_
    refine ew_goto (tgt := 78) dX1_way_142 (by decide) ?_
    exact ew_room (Nat.le_refl _) (Nat.zero_le _) (Nat.zero_le _) (ew_sub (List.forall_mem_cons.mpr ⟨lm0, (List.forall_mem_cons.mpr ⟨lm1, (List.forall_mem_cons.mpr ⟨lm2, (List.forall_mem_cons.mpr ⟨lm3, (List.forall_mem_cons.mpr ⟨lm4, (List.forall_mem_cons.mpr ⟨lm5, e_nm⟩)⟩)⟩)⟩)⟩)⟩) (H _ hx))
  · replace H := H.2 c5
    refine ew_aload_n dX1_way_99 rfl lm0 ?_
    refine xw_get (v := aR (some (0, 2, 19))) dX1_way_100 (e_fl.a q347) xf_19 rfl ?_
    refine ew_bipush dX1_way_103 (inI_of rfl) (by decide) ?_
    refine ew_iload dX1_way_105 lm5 ?_
    obtain ⟨v7, H⟩ := H
    refine ew_imul dX1_way_107 v7 ?_
    refine ew_iload dX1_way_108 lm6 ?_
    obtain ⟨v8, H⟩ := H
    refine ew_iadd dX1_way_110 v8 ?_
    refine ew_iload dX1_way_111 lm5 ?_
    refine ew_iload dX1_way_113 lm6 ?_
    refine ew_icmp_ne (tgt := 122) dX1_way_115 (by decide) (fun c9 => ?_) (fun c9 => ?_)
    · replace H := H.2 c9
      refine ew_aload_n dX1_way_122 rfl lm0 ?_
      refine ew_iload dX1_way_123 lm5 ?_
      refine ew_iload dX1_way_125 lm6 ?_
      refine ew_iload dX1_way_127 lm4 ?_
      refine ew_callV (d := d + 5) (as := [aI x5, aI x6, aI x4]) rfl dX1_way_129 me_X1_weight rfl (ci := 0) rfl rfl xh_x (Or.inl q1281) q1283 qs49 (Nat.le_of_ble_eq_true rfl) (Nat.zero_le _) (Nat.zero_le _) (S_X1_weight (d := d + 1) H) (fun o h' hq12 _ => ?_) (fun E i h' q _ => (cQl_no q).elim)
      obtain ⟨r10, E13, rfl, H⟩ := hq12
      cases E13
      obtain ⟨v16, H⟩ := H
      refine xw_last dX1_way_132 (by decide) rfl rfl v16.1 v16.2 (fun s14 e15 => ?_)
      replace H := H s14 e15
      obtain ⟨v17, H⟩ := H
      refine ew_iinc dX1_way_133 lm6 (by decide) v17 (lv' := [(6, aI (x6 + 1)), (0, aR (some xT)), (1, aI x1), (2, aI x2), (3, aI x3), (4, aI x4), (5, aI x5)]) rfl ?_
      refine ew_sub (List.forall_mem_cons.mpr ⟨lm1, (List.forall_mem_cons.mpr ⟨lm2, (List.forall_mem_cons.mpr ⟨lm3, (List.forall_mem_cons.mpr ⟨lm4, (List.forall_mem_cons.mpr ⟨lm5, (List.forall_mem_cons.mpr ⟨lm6, (List.forall_mem_cons.mpr ⟨lm0, e_nm⟩)⟩)⟩)⟩)⟩)⟩)⟩) ?_
      refine ew_goto (tgt := 90) dX1_way_136 (by decide) ?_
      exact ew_room (Nat.le_refl _) (Nat.zero_le _) (Nat.zero_le _) (ew_sub (List.forall_mem_cons.mpr ⟨lm0, (List.forall_mem_cons.mpr ⟨lm1, (List.forall_mem_cons.mpr ⟨lm2, (List.forall_mem_cons.mpr ⟨lm3, (List.forall_mem_cons.mpr ⟨lm4, (List.forall_mem_cons.mpr ⟨lm5, (List.forall_mem_cons.mpr ⟨lm6, e_nm⟩)⟩)⟩)⟩)⟩)⟩)⟩) (H _ hx))
    · replace H := H.1 c9
      refine ew_lconst (v := 0) dX1_way_118 (inL_of rfl) (by decide) ?_
      refine ew_goto (tgt := 132) dX1_way_119 (by decide) ?_
      obtain ⟨v20, H⟩ := H
      refine xw_last dX1_way_132 (by decide) rfl rfl v20.1 v20.2 (fun s18 e19 => ?_)
      replace H := H s18 e19
      obtain ⟨v21, H⟩ := H
      refine ew_iinc dX1_way_133 lm6 (by decide) v21 (lv' := [(6, aI (x6 + 1)), (0, aR (some xT)), (1, aI x1), (2, aI x2), (3, aI x3), (4, aI x4), (5, aI x5)]) rfl ?_
      refine ew_sub (List.forall_mem_cons.mpr ⟨lm1, (List.forall_mem_cons.mpr ⟨lm2, (List.forall_mem_cons.mpr ⟨lm3, (List.forall_mem_cons.mpr ⟨lm4, (List.forall_mem_cons.mpr ⟨lm5, (List.forall_mem_cons.mpr ⟨lm6, (List.forall_mem_cons.mpr ⟨lm0, e_nm⟩)⟩)⟩)⟩)⟩)⟩)⟩) ?_
      refine ew_goto (tgt := 90) dX1_way_136 (by decide) ?_
      exact ew_room (Nat.le_refl _) (Nat.zero_le _) (Nat.zero_le _) (ew_sub (List.forall_mem_cons.mpr ⟨lm0, (List.forall_mem_cons.mpr ⟨lm1, (List.forall_mem_cons.mpr ⟨lm2, (List.forall_mem_cons.mpr ⟨lm3, (List.forall_mem_cons.mpr ⟨lm4, (List.forall_mem_cons.mpr ⟨lm5, (List.forall_mem_cons.mpr ⟨lm6, e_nm⟩)⟩)⟩)⟩)⟩)⟩)⟩) (H _ hx))
set_option maxHeartbeats 4000000 in
theorem T_X1_way_148 (d : Nat) (V : XV) (g : AH) (hg : xf 6 g) (hr : xfree V g) (K : Int → XS → Prop) (x1 : Int) (x2 : Int) (x3 : Int) (x4 : Int) (x5 : Int) (s0 : XS) (g1 : AH) (hx : eX g g1) (H : B_X1_way_148 (W_X1_way_78 d V g K) (W_X1_way_90 d V g K) (W_X1_way_148 d V g K) (W_X1_way_175 d V g K) K x1 x2 x3 x4 x5 s0) : EW mm_X1_way (d + 6) 0 0 (tQi V g K) 148 [(0, aR (some xT)), (1, aI x1), (2, aI x2), (3, aI x3), (4, aI x4), (5, aI x5)] [] (xh V s0 g1) := by
  refine ew_iload dX1_way_148 lm5 ?_
  refine ew_if_eq (tgt := 169) dX1_way_150 (by decide) (fun c1 => ?_) (fun c1 => ?_)
  · replace H := H.1 c1
    refine ew_iload_n dX1_way_169 rfl lm1 ?_
    refine ew_istore dX1_way_170 (by decide) (lv' := [(6, aI x1), (0, aR (some xT)), (1, aI x1), (2, aI x2), (3, aI x3), (4, aI x4), (5, aI x5)]) rfl ?_
    refine ew_sub (List.forall_mem_cons.mpr ⟨lm1, (List.forall_mem_cons.mpr ⟨lm2, (List.forall_mem_cons.mpr ⟨lm3, (List.forall_mem_cons.mpr ⟨lm4, (List.forall_mem_cons.mpr ⟨lm5, (List.forall_mem_cons.mpr ⟨lm6, (List.forall_mem_cons.mpr ⟨lm0, e_nm⟩)⟩)⟩)⟩)⟩)⟩)⟩) ?_
    refine ew_iconst dX1_way_172 (inI_of rfl) ?_
    refine ew_istore dX1_way_173 (by decide) (lv' := [(7, aI 0), (0, aR (some xT)), (1, aI x1), (2, aI x2), (3, aI x3), (4, aI x4), (5, aI x5), (6, aI x1)]) rfl ?_
    refine ew_sub (List.forall_mem_cons.mpr ⟨lm1, (List.forall_mem_cons.mpr ⟨lm2, (List.forall_mem_cons.mpr ⟨lm3, (List.forall_mem_cons.mpr ⟨lm4, (List.forall_mem_cons.mpr ⟨lm5, (List.forall_mem_cons.mpr ⟨lm6, (List.forall_mem_cons.mpr ⟨lm7, (List.forall_mem_cons.mpr ⟨lm0, e_nm⟩)⟩)⟩)⟩)⟩)⟩)⟩)⟩) ?_
    exact ew_room (Nat.le_refl _) (Nat.zero_le _) (Nat.zero_le _) (ew_sub (List.forall_mem_cons.mpr ⟨lm0, (List.forall_mem_cons.mpr ⟨lm2, (List.forall_mem_cons.mpr ⟨lm3, (List.forall_mem_cons.mpr ⟨lm4, (List.forall_mem_cons.mpr ⟨lm6, (List.forall_mem_cons.mpr ⟨lm7, e_nm⟩)⟩)⟩)⟩)⟩)⟩) (H _ hx))
  · replace H := H.2 c1
    refine ew_aload_n dX1_way_153 rfl lm0 ?_
    refine ew_aload_n dX1_way_154 rfl lm0 ?_
    refine xw_get (v := aR (some (0, 2, 19))) dX1_way_155 (e_fl.a q347) xf_19 rfl ?_
    refine ew_ldc2 (n := 10000000000000) dX1_way_158 (inL_of rfl) q1285 ?_
    refine ew_callV (d := d + 5) (as := [aR (some (0, 2, 19)), aL 10000000000000]) rfl dX1_way_161 me_X1_spreads rfl (ci := 0) rfl rfl xh_x (Or.inl q1273) q1275 qs48 (Nat.le_of_ble_eq_true rfl) (Nat.zero_le _) (Nat.zero_le _) (S_X1_spreads (d := d + 3) H) (fun o h' hq4 _ => ?_) (fun E i h' q _ => (xQi_no q).elim)
    obtain ⟨r2, s3, E5, rfl, H⟩ := hq4
    cases E5
    refine ew_istore dX1_way_164 (by decide) (lv' := [(5, aI r2), (0, aR (some xT)), (1, aI x1), (2, aI x2), (3, aI x3), (4, aI x4)]) rfl ?_
    refine ew_sub (List.forall_mem_cons.mpr ⟨lm1, (List.forall_mem_cons.mpr ⟨lm2, (List.forall_mem_cons.mpr ⟨lm3, (List.forall_mem_cons.mpr ⟨lm4, (List.forall_mem_cons.mpr ⟨lm5, (List.forall_mem_cons.mpr ⟨lm0, e_nm⟩)⟩)⟩)⟩)⟩)⟩) ?_
    refine ew_goto (tgt := 148) dX1_way_166 (by decide) ?_
    exact ew_room (Nat.le_refl _) (Nat.zero_le _) (Nat.zero_le _) (ew_sub (List.forall_mem_cons.mpr ⟨lm0, (List.forall_mem_cons.mpr ⟨lm1, (List.forall_mem_cons.mpr ⟨lm2, (List.forall_mem_cons.mpr ⟨lm3, (List.forall_mem_cons.mpr ⟨lm4, (List.forall_mem_cons.mpr ⟨lm5, e_nm⟩)⟩)⟩)⟩)⟩)⟩) (H _ hx))
set_option maxHeartbeats 4000000 in
theorem T_X1_way_175 (d : Nat) (V : XV) (g : AH) (hg : xf 6 g) (hr : xfree V g) (K : Int → XS → Prop) (x2 : Int) (x3 : Int) (x4 : Int) (x6 : Int) (x7 : Int) (s0 : XS) (g1 : AH) (hx : eX g g1) (H : B_X1_way_175 (W_X1_way_78 d V g K) (W_X1_way_90 d V g K) (W_X1_way_148 d V g K) (W_X1_way_175 d V g K) K x2 x3 x4 x6 x7 s0) : EW mm_X1_way (d + 6) 0 0 (tQi V g K) 175 [(0, aR (some xT)), (2, aI x2), (3, aI x3), (4, aI x4), (6, aI x6), (7, aI x7)] [] (xh V s0 g1) := by
  refine ew_iload dX1_way_175 lm5 ?_
  refine ew_iload_n dX1_way_177 rfl lm2 ?_
  refine ew_icmp_ge (tgt := 211) dX1_way_178 (by decide) (fun c1 => ?_) (fun c1 => ?_)
  · replace H := H.1 c1
    refine ew_aload_n dX1_way_211 rfl lm0 ?_
    refine ew_iload dX1_way_212 lm4 ?_
    refine ew_callV (d := d + 5) (as := [aI x6]) rfl dX1_way_214 me_X1_fine rfl (ci := 0) rfl rfl xh_x (Or.inl q1032) q1034 qs24 (Nat.le_of_ble_eq_true rfl) (Nat.zero_le _) (Nat.zero_le _) (S_X1_fine (d := d + 5) H) (fun o h' hq4 _ => ?_) (fun E i h' q _ => (xQi_no q).elim)
    obtain ⟨r2, s3, E5, rfl, H⟩ := hq4
    cases E5
    exact ew_ret (o := some (aI r2)) rfl ⟨_, _, _, rfl, rfl, hx, H⟩ ⟨dX1_way_217, .int, rfl, Or.inl rfl, rfl⟩
  · replace H := H.2 c1
    refine ew_iload dX1_way_181 lm4 ?_
    refine ew_iload_n dX1_way_183 rfl lm1 ?_
    refine ew_icmp_ne (tgt := 194) dX1_way_184 (by decide) (fun c6 => ?_) (fun c6 => ?_)
    · replace H := H.2 c6
      refine ew_aload_n dX1_way_194 rfl lm0 ?_
      refine ew_iload dX1_way_195 lm4 ?_
      refine ew_iload_n dX1_way_197 rfl lm1 ?_
      refine ew_iload dX1_way_198 lm3 ?_
      refine ew_callV (d := d + 5) (as := [aI x6, aI x2, aI x4]) rfl dX1_way_200 me_X1_next rfl (ci := 0) rfl rfl xh_x (Or.inl q1287) q1289 qs50 (Nat.le_of_ble_eq_true rfl) (Nat.zero_le _) (Nat.zero_le _) (S_X1_next (d := d + 0) H) (fun o h' hq9 _ => ?_) (fun E i h' q _ => (cQ_no q).elim)
      obtain ⟨r7, E10, rfl, H⟩ := hq9
      cases E10
      refine ew_istore dX1_way_203 (by decide) (lv' := [(6, aI r7), (0, aR (some xT)), (2, aI x2), (3, aI x3), (4, aI x4), (7, aI x7)]) rfl ?_
      refine ew_sub (List.forall_mem_cons.mpr ⟨lm1, (List.forall_mem_cons.mpr ⟨lm2, (List.forall_mem_cons.mpr ⟨lm3, (List.forall_mem_cons.mpr ⟨lm4, (List.forall_mem_cons.mpr ⟨lm0, (List.forall_mem_cons.mpr ⟨lm5, e_nm⟩)⟩)⟩)⟩)⟩)⟩) ?_
      obtain ⟨v11, H⟩ := H
      refine ew_iinc dX1_way_205 lm5 (by decide) v11 (lv' := [(7, aI (x7 + 1)), (0, aR (some xT)), (2, aI x2), (3, aI x3), (4, aI x4), (6, aI r7)]) rfl ?_
      refine ew_sub (List.forall_mem_cons.mpr ⟨lm1, (List.forall_mem_cons.mpr ⟨lm2, (List.forall_mem_cons.mpr ⟨lm3, (List.forall_mem_cons.mpr ⟨lm4, (List.forall_mem_cons.mpr ⟨lm5, (List.forall_mem_cons.mpr ⟨lm0, e_nm⟩)⟩)⟩)⟩)⟩)⟩) ?_
      refine ew_goto (tgt := 175) dX1_way_208 (by decide) ?_
      exact ew_room (Nat.le_refl _) (Nat.zero_le _) (Nat.zero_le _) (ew_sub (List.forall_mem_cons.mpr ⟨lm0, (List.forall_mem_cons.mpr ⟨lm1, (List.forall_mem_cons.mpr ⟨lm2, (List.forall_mem_cons.mpr ⟨lm3, (List.forall_mem_cons.mpr ⟨lm4, (List.forall_mem_cons.mpr ⟨lm5, e_nm⟩)⟩)⟩)⟩)⟩)⟩) (H _ hx))
    · replace H := H.1 c6
      refine ew_aload_n dX1_way_187 rfl lm0 ?_
      refine ew_bipush dX1_way_188 (inI_of rfl) (by decide) ?_
      refine ew_callV (d := d + 5) (as := [aI (-2)]) rfl dX1_way_190 me_X1_fine rfl (ci := 0) rfl rfl xh_x (Or.inl q1032) q1034 qs24 (Nat.le_of_ble_eq_true rfl) (Nat.zero_le _) (Nat.zero_le _) (S_X1_fine (d := d + 5) H) (fun o h' hq14 _ => ?_) (fun E i h' q _ => (xQi_no q).elim)
      obtain ⟨r12, s13, E15, rfl, H⟩ := hq14
      cases E15
      exact ew_ret (o := some (aI r12)) rfl ⟨_, _, _, rfl, rfl, hx, H⟩ ⟨dX1_way_193, .int, rfl, Or.inl rfl, rfl⟩
set_option maxHeartbeats 4000000 in
theorem T_X1_way_E (d : Nat) (V : XV) (g : AH) (hg : xf 6 g) (hr : xfree V g) (K : Int → XS → Prop) (a : Int) (b : Int) (c : Int) (s0 : XS) (H : B_X1_way_E (W_X1_way_78 d V g K) (W_X1_way_90 d V g K) (W_X1_way_148 d V g K) (W_X1_way_175 d V g K) K a b c s0) : EW mm_X1_way (d + 6) 1 2 (tQi V g K) 0 [(0, aR (some xT)), (1, aI a), (2, aI b), (3, aI c)] [] (xh V s0 g) := by
  refine ew_aload_n dX1_way_0 rfl lm0 ?_
  refine ew_iconst dX1_way_1 (inI_of rfl) ?_
  refine ew_newIB (t := 0) (N := 2) (i := (1, 6, 0)) dX1_way_2 rfl (by decide) q302 rfl (by decide) ((xh_g (xC_1 rfl)).trans (hg _ rfl (Nat.le_refl _))) (by decide) (Nat.le_of_ble_eq_true rfl) (Nat.le_of_ble_eq_true rfl) ?_
  rw [xh_upg (xC_1 rfl)]
  refine ew_dup dX1_way_4 rfl ?_
  refine ew_iconst dX1_way_5 (inI_of rfl) ?_
  refine ew_iload_n dX1_way_6 rfl lm1 ?_
  refine ew_iast dX1_way_7 ((xh_g (xC_1 rfl)).trans (hup_self _ _ _)) (by decide) (by decide) ?_
  rw [xh_upg (xC_1 rfl), hup_hup]
  refine ew_dup dX1_way_8 rfl ?_
  refine ew_iconst dX1_way_9 (inI_of rfl) ?_
  refine ew_iload_n dX1_way_10 rfl lm2 ?_
  refine ew_iast dX1_way_11 ((xh_g (xC_1 rfl)).trans (hup_self _ _ _)) (by decide) (by decide) ?_
  rw [xh_upg (xC_1 rfl), hup_hup]
  refine ew_callV (d := d + 5) (as := [aR (some (1, 6, 0))]) rfl dX1_way_12 me_X1_isTerm rfl (ci := 0) rfl rfl xh_x (Or.inl q1081) q1083 qs29 (Nat.le_of_ble_eq_true rfl) (Nat.zero_le _) (Nat.zero_le _) (S_X1_isTerm (d := d + 3) ((xh_g (xC_1 rfl)).trans (hup_self _ _ _)) (by decide) H) (fun o h' hq3 _ => ?_) (fun E i h' q _ => (cQ_no q).elim)
  obtain ⟨r1, E4, rfl, H⟩ := hq3
  cases E4
  refine ew_if_eq (tgt := 22) dX1_way_15 (by decide) (fun c5 => ?_) (fun c5 => ?_)
  · replace H := H.1 c5
    refine ew_aload_n dX1_way_22 rfl lm0 ?_
    refine ew_iconst dX1_way_23 (inI_of rfl) ?_
    refine ew_callV (d := d + 5) (as := [aI 1]) rfl dX1_way_24 me_X1_refused rfl (ci := 0) rfl rfl xh_x (Or.inl q406) q408 qs1 (Nat.le_of_ble_eq_true rfl) (Nat.zero_le _) (Nat.zero_le _) (S_X1_refused (d := d + 5) H) (fun o h' hq8 _ => ?_) (fun E i h' q _ => (xQi_no q).elim)
    obtain ⟨r6, s7, E9, rfl, H⟩ := hq8
    cases E9
    exact ew_ret (o := some (aI r6)) rfl ⟨_, _, _, rfl, rfl, (eX.hup eX.rf rfl (hg _ rfl (Nat.le_refl _))), H⟩ ⟨dX1_way_27, .int, rfl, Or.inl rfl, rfl⟩
  · replace H := H.2 c5
    refine ew_iload_n dX1_way_18 rfl lm3 ?_
    refine ew_if_ge (tgt := 28) dX1_way_19 (by decide) (fun c10 => ?_) (fun c10 => ?_)
    · replace H := H.1 c10
      refine ew_aload_n dX1_way_28 rfl lm0 ?_
      refine xw_get (v := aR (some (sI V 4 99))) dX1_way_29 (e_fl.a q334) xf_6 rfl ?_
      refine ew_iload_n dX1_way_32 rfl lm1 ?_
      refine ew_iload_n dX1_way_33 rfl lm2 ?_
      refine ew_callY (x := ⟨"ReasonCloser$Reasons", "areOne", "(II)Z"⟩) (d := d + 5) (as := [aI a, aI b]) rfl dX1_way_34 me_X3_areOne rfl (by decide) rfl q1085 q1086 (ysel5_4 (P := fun c => Cond.selects c _ _ ∈ lw_all) q1087) q981 (Or.inl q978) (by decide) (Nat.le_of_ble_eq_true rfl) (Nat.zero_le _) (Nat.zero_le _) (S_X3_areOne_G (d := d + 5) (by decide) H) (fun o h' hq13 _ => ?_) (fun E i h' q _ => (cQ_no q).elim)
      obtain ⟨r11, E14, rfl, H⟩ := hq13
      cases E14
      refine ew_if_ne (tgt := 46) dX1_way_37 (by decide) (fun c15 => ?_) (fun c15 => ?_)
      · replace H := H.2 c15
        refine ew_aload_n dX1_way_46 rfl lm0 ?_
        refine ew_callV (d := d + 5) (as := []) rfl dX1_way_47 me_X1_laysCosts rfl (ci := 0) rfl rfl xh_x (Or.inl q1253) q1255 qs44 (Nat.le_of_ble_eq_true rfl) (Nat.zero_le _) (Nat.zero_le _) (S_X1_laysCosts (d := d + 0) H) (fun o h' hq18 _ => ?_) (fun E i h' q _ => (xQv_no q).elim)
        obtain ⟨s17, E19, rfl, H⟩ := hq18
        cases E19
        refine ew_aload_n dX1_way_50 rfl lm0 ?_
        refine xw_get (v := aR (some (0, 2, 17))) dX1_way_51 (e_fl.a q345) xf_17 rfl ?_
        refine ew_bipush dX1_way_54 (inI_of rfl) (by decide) ?_
        refine ew_iload_n dX1_way_56 rfl lm1 ?_
        obtain ⟨v20, H⟩ := H
        refine ew_imul dX1_way_57 v20 ?_
        refine ew_iload_n dX1_way_58 rfl lm2 ?_
        obtain ⟨v21, H⟩ := H
        refine ew_iadd dX1_way_59 v21 ?_
        obtain ⟨v22, H⟩ := H
        refine xw_lald dX1_way_60 rfl v22.1 v22.2 ?_
        refine ew_ldc2 (n := 1000000000) dX1_way_61 (inL_of rfl) q1257 ?_
        refine ew_lcmp dX1_way_64 ?_
        refine ew_if_ne (tgt := 72) dX1_way_65 (by decide) (fun c23 => ?_) (fun c23 => ?_)
        · replace H := H.2 (fun z => c23 (jl_eq.mpr z))
          refine ew_iconst dX1_way_72 (inI_of rfl) ?_
          refine ew_istore dX1_way_73 (by decide) (lv' := [(4, aI 0), (0, aR (some xT)), (1, aI a), (2, aI b), (3, aI c)]) rfl ?_
          refine ew_sub (List.forall_mem_cons.mpr ⟨lm1, (List.forall_mem_cons.mpr ⟨lm2, (List.forall_mem_cons.mpr ⟨lm3, (List.forall_mem_cons.mpr ⟨lm4, (List.forall_mem_cons.mpr ⟨lm0, e_nm⟩)⟩)⟩)⟩)⟩) ?_
          refine ew_iconst dX1_way_75 (inI_of rfl) ?_
          refine ew_istore dX1_way_76 (by decide) (lv' := [(5, aI 0), (0, aR (some xT)), (1, aI a), (2, aI b), (3, aI c), (4, aI 0)]) rfl ?_
          refine ew_sub (List.forall_mem_cons.mpr ⟨lm1, (List.forall_mem_cons.mpr ⟨lm2, (List.forall_mem_cons.mpr ⟨lm3, (List.forall_mem_cons.mpr ⟨lm4, (List.forall_mem_cons.mpr ⟨lm5, (List.forall_mem_cons.mpr ⟨lm0, e_nm⟩)⟩)⟩)⟩)⟩)⟩) ?_
          exact ew_room (Nat.le_refl _) (Nat.zero_le _) (Nat.zero_le _) (ew_sub (List.forall_mem_cons.mpr ⟨lm0, (List.forall_mem_cons.mpr ⟨lm1, (List.forall_mem_cons.mpr ⟨lm2, (List.forall_mem_cons.mpr ⟨lm3, (List.forall_mem_cons.mpr ⟨lm4, (List.forall_mem_cons.mpr ⟨lm5, e_nm⟩)⟩)⟩)⟩)⟩)⟩) (H _ (eX.hup eX.rf rfl (hg _ rfl (Nat.le_refl _)))))
        · replace H := H.1 (jl_eq.mp c23)
          refine ew_iconst dX1_way_68 (inI_of rfl) ?_
          refine ew_goto (tgt := 73) dX1_way_69 (by decide) ?_
          refine ew_istore dX1_way_73 (by decide) (lv' := [(4, aI 1), (0, aR (some xT)), (1, aI a), (2, aI b), (3, aI c)]) rfl ?_
          refine ew_sub (List.forall_mem_cons.mpr ⟨lm1, (List.forall_mem_cons.mpr ⟨lm2, (List.forall_mem_cons.mpr ⟨lm3, (List.forall_mem_cons.mpr ⟨lm4, (List.forall_mem_cons.mpr ⟨lm0, e_nm⟩)⟩)⟩)⟩)⟩) ?_
          refine ew_iconst dX1_way_75 (inI_of rfl) ?_
          refine ew_istore dX1_way_76 (by decide) (lv' := [(5, aI 0), (0, aR (some xT)), (1, aI a), (2, aI b), (3, aI c), (4, aI 1)]) rfl ?_
          refine ew_sub (List.forall_mem_cons.mpr ⟨lm1, (List.forall_mem_cons.mpr ⟨lm2, (List.forall_mem_cons.mpr ⟨lm3, (List.forall_mem_cons.mpr ⟨lm4, (List.forall_mem_cons.mpr ⟨lm5, (List.forall_mem_cons.mpr ⟨lm0, e_nm⟩)⟩)⟩)⟩)⟩)⟩) ?_
          exact ew_room (Nat.le_refl _) (Nat.zero_le _) (Nat.zero_le _) (ew_sub (List.forall_mem_cons.mpr ⟨lm0, (List.forall_mem_cons.mpr ⟨lm1, (List.forall_mem_cons.mpr ⟨lm2, (List.forall_mem_cons.mpr ⟨lm3, (List.forall_mem_cons.mpr ⟨lm4, (List.forall_mem_cons.mpr ⟨lm5, e_nm⟩)⟩)⟩)⟩)⟩)⟩) (H _ (eX.hup eX.rf rfl (hg _ rfl (Nat.le_refl _)))))
      · replace H := H.1 c15
        refine ew_aload_n dX1_way_40 rfl lm0 ?_
        refine ew_iconst dX1_way_41 (inI_of rfl) ?_
        refine ew_callV (d := d + 5) (as := [aI 5]) rfl dX1_way_42 me_X1_refused rfl (ci := 0) rfl rfl xh_x (Or.inl q406) q408 qs1 (Nat.le_of_ble_eq_true rfl) (Nat.zero_le _) (Nat.zero_le _) (S_X1_refused (d := d + 5) H) (fun o h' hq26 _ => ?_) (fun E i h' q _ => (xQi_no q).elim)
        obtain ⟨r24, s25, E27, rfl, H⟩ := hq26
        cases E27
        exact ew_ret (o := some (aI r24)) rfl ⟨_, _, _, rfl, rfl, (eX.hup eX.rf rfl (hg _ rfl (Nat.le_refl _))), H⟩ ⟨dX1_way_45, .int, rfl, Or.inl rfl, rfl⟩
    · replace H := H.2 c10
      refine ew_aload_n dX1_way_22 rfl lm0 ?_
      refine ew_iconst dX1_way_23 (inI_of rfl) ?_
      refine ew_callV (d := d + 5) (as := [aI 1]) rfl dX1_way_24 me_X1_refused rfl (ci := 0) rfl rfl xh_x (Or.inl q406) q408 qs1 (Nat.le_of_ble_eq_true rfl) (Nat.zero_le _) (Nat.zero_le _) (S_X1_refused (d := d + 5) H) (fun o h' hq30 _ => ?_) (fun E i h' q _ => (xQi_no q).elim)
      obtain ⟨r28, s29, E31, rfl, H⟩ := hq30
      cases E31
      exact ew_ret (o := some (aI r28)) rfl ⟨_, _, _, rfl, rfl, (eX.hup eX.rf rfl (hg _ rfl (Nat.le_refl _))), H⟩ ⟨dX1_way_27, .int, rfl, Or.inl rfl, rfl⟩
def C_X1_way (a : Int) (b : Int) (c : Int) (s0 : XS) (K : Int → XS → Prop) : Prop := ∀ (X78 : Int → Int → Int → Int → Int → XS → Prop) (X90 : Int → Int → Int → Int → Int → Int → XS → Prop) (X148 : Int → Int → Int → Int → Int → XS → Prop) (X175 : Int → Int → Int → Int → Int → XS → Prop), (∀ (x1 : Int) (x2 : Int) (x3 : Int) (x4 : Int) (x5 : Int) (s0 : XS), B_X1_way_78 X78 X90 X148 X175 K x1 x2 x3 x4 x5 s0 → X78 x1 x2 x3 x4 x5 s0) → (∀ (x1 : Int) (x2 : Int) (x3 : Int) (x4 : Int) (x5 : Int) (x6 : Int) (s0 : XS), B_X1_way_90 X78 X90 X148 X175 K x1 x2 x3 x4 x5 x6 s0 → X90 x1 x2 x3 x4 x5 x6 s0) → (∀ (x1 : Int) (x2 : Int) (x3 : Int) (x4 : Int) (x5 : Int) (s0 : XS), B_X1_way_148 X78 X90 X148 X175 K x1 x2 x3 x4 x5 s0 → X148 x1 x2 x3 x4 x5 s0) → (∀ (x2 : Int) (x3 : Int) (x4 : Int) (x6 : Int) (x7 : Int) (s0 : XS), B_X1_way_175 X78 X90 X148 X175 K x2 x3 x4 x6 x7 s0 → X175 x2 x3 x4 x6 x7 s0) → B_X1_way_E X78 X90 X148 X175 K a b c s0
theorem S_X1_way {d : Nat} {V : XV} {g : AH} {K : Int → XS → Prop} {a : Int} {b : Int} {c : Int} {s0 : XS} (hg : xf 6 g) (hr : xfree V g) (H : C_X1_way a b c s0 K) : Sp mm_X1_way (d + 6) 1 2 [aR (some xT), aI a, aI b, aI c] (xh V s0 g) (xQi V g K) :=
  Sp.forget hr tQi_x (ew_sp rfl (Nat.le_of_ble_eq_true rfl) (T_X1_way_E d V g hg hr K a b c s0 (H _ _ _ _ (fun x1 x2 x3 x4 x5 s0 H g1 hx => T_X1_way_78 d V g hg hr K x1 x2 x3 x4 x5 s0 g1 hx H) (fun x1 x2 x3 x4 x5 x6 s0 H g1 hx => T_X1_way_90 d V g hg hr K x1 x2 x3 x4 x5 x6 s0 g1 hx H) (fun x1 x2 x3 x4 x5 s0 H g1 hx => T_X1_way_148 d V g hg hr K x1 x2 x3 x4 x5 s0 g1 hx H) (fun x2 x3 x4 x6 x7 s0 H g1 hx => T_X1_way_175 d V g hg hr K x2 x3 x4 x6 x7 s0 g1 hx H))))
