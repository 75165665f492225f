/-! ReasonCloser: methods as predicates, by program (gen/gxx.py) -/
set_option maxRecDepth 100000
abbrev mm_X3_areOne : EM := (yX3_areOne, cX3_areOne, 3, (Option.some .boolean), [])
theorem me_X3_areOne : e_mth mm_X3_areOne 2 := ⟨rfl, q982, q113, by decide +kernel, by decide⟩
def B_X3_areOne_G_E (K : Int → Prop) (a : Int) (b : Int) (j : Nat) (s0 : XS) : Prop :=
  ((0 ≤ a ∧ a < 24) ∧ ((0 ≤ b ∧ b < 24) ∧ ((((s0.2 j).2 0 a) = ((s0.2 j).2 0 b) → K 1) ∧ (¬ ((s0.2 j).2 0 a) = ((s0.2 j).2 0 b) → K 0))))
set_option maxHeartbeats 4000000 in
theorem T_X3_areOne_G_E (d : Nat) (V : XV) (g : AH) (j : Nat) (hj : j < 5) (K : Int → Prop) (a : Int) (b : Int) (s0 : XS) (H : B_X3_areOne_G_E K a b j s0) : EW mm_X3_areOne (d + 0) 0 0 (cQ (xh V s0 g) K) 0 [(0, aR (some (sI V j 99))), (1, aI a), (2, aI b)] [] (xh V s0 g) := by
  refine ew_aload_n dX3_areOne_0 rfl lm0 ?_
  refine yw_get (cs := [3, 4, 5]) (v := aR (some (sI V j 0))) dX3_areOne_1 hj (e_fl.a q258) yf_0 scl_G rfl ?_
  refine ew_iload_n dX3_areOne_4 rfl lm1 ?_
  obtain ⟨v1, H⟩ := H
  refine yw_iald dX3_areOne_5 hj rfl v1.1 v1.2 ?_
  refine ew_aload_n dX3_areOne_6 rfl lm0 ?_
  refine yw_get (cs := [3, 4, 5]) (v := aR (some (sI V j 0))) dX3_areOne_7 hj (e_fl.a q258) yf_0 scl_G rfl ?_
  refine ew_iload_n dX3_areOne_10 rfl lm2 ?_
  obtain ⟨v2, H⟩ := H
  refine yw_iald dX3_areOne_11 hj rfl v2.1 v2.2 ?_
  refine ew_icmp_ne (tgt := 19) dX3_areOne_12 (by decide) (fun c3 => ?_) (fun c3 => ?_)
  · replace H := H.2 c3
    refine ew_iconst dX3_areOne_19 (inI_of rfl) ?_
    exact ew_ret (o := some (aI 0)) rfl ⟨_, rfl, rfl, H⟩ ⟨dX3_areOne_20, .boolean, rfl, Or.inr (Or.inl rfl), by decide⟩
  · replace H := H.1 c3
    refine ew_iconst dX3_areOne_15 (inI_of rfl) ?_
    refine ew_goto (tgt := 20) dX3_areOne_16 (by decide) ?_
    exact ew_ret (o := some (aI 1)) rfl ⟨_, rfl, rfl, H⟩ ⟨dX3_areOne_20, .boolean, rfl, Or.inr (Or.inl rfl), by decide⟩
def C_X3_areOne_G (a : Int) (b : Int) (j : Nat) (s0 : XS) (K : Int → Prop) : Prop := B_X3_areOne_G_E K a b j s0
theorem S_X3_areOne_G {d : Nat} {V : XV} {g : AH} {j : Nat} {K : Int → Prop} {a : Int} {b : Int} {s0 : XS} (hj : j < 5) (H : C_X3_areOne_G a b j s0 K) : Sp mm_X3_areOne (d + 0) 0 0 [aR (some (sI V j 99)), aI a, aI b] (xh V s0 g) (cQ (xh V s0 g) K) :=
  ew_sp rfl (Nat.le_of_ble_eq_true rfl) (T_X3_areOne_G_E d V g j hj K a b s0 (H ))
abbrev mm_X3_groups : EM := (yX3_groups, cX3_groups, 3, (Option.some .int), [])
theorem me_X3_groups : e_mth mm_X3_groups 0 := ⟨rfl, q1061, q113, by decide +kernel, by decide⟩
def B_X3_groups_G_4 (X4 : Int → Int → Prop) (K : Int → Prop) (x1 : Int) (x2 : Int) (j : Nat) (s0 : XS) : Prop :=
  ((((s0.2 j).1 1) ≤ x2 → K x1) ∧ (¬ ((s0.2 j).1 1) ≤ x2 → ((0 ≤ x2 ∧ x2 < 24) ∧ ((((s0.2 j).2 0 x2) = x2 → ((inI (x1 + 1)) ∧ (inI (x2 + 1) ∧ X4 (x1 + 1) (x2 + 1)))) ∧ (¬ ((s0.2 j).2 0 x2) = x2 → ((inI (x1 + 0)) ∧ (inI (x2 + 1) ∧ X4 (x1 + 0) (x2 + 1))))))))
def B_X3_groups_G_E (X4 : Int → Int → Prop) (K : Int → Prop) (j : Nat) (s0 : XS) : Prop :=
  X4 0 0
def W_X3_groups_G_4 (d : Nat) (V : XV) (g : AH) (j : Nat) (s0 : XS) (K : Int → Prop) (x1 : Int) (x2 : Int) : Prop := EW mm_X3_groups (d + 0) 0 0 (cQ (xh V s0 g) K) 4 [(0, aR (some (sI V j 99))), (1, aI x1), (2, aI x2)] [] (xh V s0 g)
set_option maxHeartbeats 4000000 in
theorem T_X3_groups_G_4 (d : Nat) (V : XV) (g : AH) (j : Nat) (hj : j < 5) (K : Int → Prop) (x1 : Int) (x2 : Int) (s0 : XS) (H : B_X3_groups_G_4 (W_X3_groups_G_4 d V g j s0 K) K x1 x2 j s0) : EW mm_X3_groups (d + 0) 0 0 (cQ (xh V s0 g) K) 4 [(0, aR (some (sI V j 99))), (1, aI x1), (2, aI x2)] [] (xh V s0 g) := by
  refine ew_iload_n dX3_groups_4 rfl lm2 ?_
  refine ew_aload_n dX3_groups_5 rfl lm0 ?_
  refine yw_get (cs := [3, 4, 5]) (v := aI ((s0.2 j).1 1)) dX3_groups_6 hj (e_fl.a q266) yf_1 scl_G rfl ?_
  refine ew_icmp_ge (tgt := 36) dX3_groups_9 (by decide) (fun c1 => ?_) (fun c1 => ?_)
  · replace H := H.1 c1
    refine ew_iload_n dX3_groups_36 rfl lm1 ?_
    exact ew_ret (o := some (aI x1)) rfl ⟨_, rfl, rfl, H⟩ ⟨dX3_groups_37, .int, rfl, Or.inl rfl, rfl⟩
  · replace H := H.2 c1
    refine ew_iload_n dX3_groups_12 rfl lm1 ?_
    refine ew_aload_n dX3_groups_13 rfl lm0 ?_
    refine yw_get (cs := [3, 4, 5]) (v := aR (some (sI V j 0))) dX3_groups_14 hj (e_fl.a q258) yf_0 scl_G rfl ?_
    refine ew_iload_n dX3_groups_17 rfl lm2 ?_
    obtain ⟨v2, H⟩ := H
    refine yw_iald dX3_groups_18 hj rfl v2.1 v2.2 ?_
    refine ew_iload_n dX3_groups_19 rfl lm2 ?_
    refine ew_icmp_ne (tgt := 27) dX3_groups_20 (by decide) (fun c3 => ?_) (fun c3 => ?_)
    · replace H := H.2 c3
      refine ew_iconst dX3_groups_27 (inI_of rfl) ?_
      obtain ⟨v4, H⟩ := H
      refine ew_iadd dX3_groups_28 v4 ?_
      refine ew_istore_n dX3_groups_29 rfl (by decide) (lv' := [(1, aI (x1 + 0)), (0, aR (some (sI V j 99))), (2, aI x2)]) rfl ?_
      refine ew_sub (List.forall_mem_cons.mpr ⟨lm1, (List.forall_mem_cons.mpr ⟨lm0, (List.forall_mem_cons.mpr ⟨lm2, e_nm⟩)⟩)⟩) ?_
      obtain ⟨v5, H⟩ := H
      refine ew_iinc dX3_groups_30 lm2 (by decide) v5 (lv' := [(2, aI (x2 + 1)), (0, aR (some (sI V j 99))), (1, aI (x1 + 0))]) rfl ?_
      refine ew_sub (List.forall_mem_cons.mpr ⟨lm1, (List.forall_mem_cons.mpr ⟨lm2, (List.forall_mem_cons.mpr ⟨lm0, e_nm⟩)⟩)⟩) ?_
      refine ew_goto (tgt := 4) dX3_groups_33 (by decide) ?_
      exact ew_room (Nat.le_refl _) (Nat.zero_le _) (Nat.zero_le _) (ew_sub (List.forall_mem_cons.mpr ⟨lm0, (List.forall_mem_cons.mpr ⟨lm1, (List.forall_mem_cons.mpr ⟨lm2, e_nm⟩)⟩)⟩) H)
    · replace H := H.1 c3
      refine ew_iconst dX3_groups_23 (inI_of rfl) ?_
      refine ew_goto (tgt := 28) dX3_groups_24 (by decide) ?_
      obtain ⟨v6, H⟩ := H
      refine ew_iadd dX3_groups_28 v6 ?_
      refine ew_istore_n dX3_groups_29 rfl (by decide) (lv' := [(1, aI (x1 + 1)), (0, aR (some (sI V j 99))), (2, aI x2)]) rfl ?_
      refine ew_sub (List.forall_mem_cons.mpr ⟨lm1, (List.forall_mem_cons.mpr ⟨lm0, (List.forall_mem_cons.mpr ⟨lm2, e_nm⟩)⟩)⟩) ?_
      obtain ⟨v7, H⟩ := H
      refine ew_iinc dX3_groups_30 lm2 (by decide) v7 (lv' := [(2, aI (x2 + 1)), (0, aR (some (sI V j 99))), (1, aI (x1 + 1))]) rfl ?_
      refine ew_sub (List.forall_mem_cons.mpr ⟨lm1, (List.forall_mem_cons.mpr ⟨lm2, (List.forall_mem_cons.mpr ⟨lm0, e_nm⟩)⟩)⟩) ?_
      refine ew_goto (tgt := 4) dX3_groups_33 (by decide) ?_
      exact ew_room (Nat.le_refl _) (Nat.zero_le _) (Nat.zero_le _) (ew_sub (List.forall_mem_cons.mpr ⟨lm0, (List.forall_mem_cons.mpr ⟨lm1, (List.forall_mem_cons.mpr ⟨lm2, e_nm⟩)⟩)⟩) H)
set_option maxHeartbeats 4000000 in
theorem T_X3_groups_G_E (d : Nat) (V : XV) (g : AH) (j : Nat) (hj : j < 5) (K : Int → Prop) (s0 : XS) (H : B_X3_groups_G_E (W_X3_groups_G_4 d V g j s0 K) K j s0) : EW mm_X3_groups (d + 0) 0 0 (cQ (xh V s0 g) K) 0 [(0, aR (some (sI V j 99)))] [] (xh V s0 g) := by
  refine ew_iconst dX3_groups_0 (inI_of rfl) ?_
  refine ew_istore_n dX3_groups_1 rfl (by decide) (lv' := [(1, aI 0), (0, aR (some (sI V j 99)))]) rfl ?_
  refine ew_sub (List.forall_mem_cons.mpr ⟨lm1, (List.forall_mem_cons.mpr ⟨lm0, e_nm⟩)⟩) ?_
  refine ew_iconst dX3_groups_2 (inI_of rfl) ?_
  refine ew_istore_n dX3_groups_3 rfl (by decide) (lv' := [(2, aI 0), (0, aR (some (sI V j 99))), (1, aI 0)]) rfl ?_
  refine ew_sub (List.forall_mem_cons.mpr ⟨lm1, (List.forall_mem_cons.mpr ⟨lm2, (List.forall_mem_cons.mpr ⟨lm0, e_nm⟩)⟩)⟩) ?_
  exact ew_room (Nat.le_refl _) (Nat.zero_le _) (Nat.zero_le _) (ew_sub (List.forall_mem_cons.mpr ⟨lm0, (List.forall_mem_cons.mpr ⟨lm1, (List.forall_mem_cons.mpr ⟨lm2, e_nm⟩)⟩)⟩) H)
def C_X3_groups_G (j : Nat) (s0 : XS) (K : Int → Prop) : Prop := ∀ (X4 : Int → Int → Prop), (∀ (x1 : Int) (x2 : Int), B_X3_groups_G_4 X4 K x1 x2 j s0 → X4 x1 x2) → B_X3_groups_G_E X4 K j s0
theorem S_X3_groups_G {d : Nat} {V : XV} {g : AH} {j : Nat} {K : Int → Prop} {s0 : XS} (hj : j < 5) (H : C_X3_groups_G j s0 K) : Sp mm_X3_groups (d + 0) 0 0 [aR (some (sI V j 99))] (xh V s0 g) (cQ (xh V s0 g) K) :=
  ew_sp rfl (Nat.le_of_ble_eq_true rfl) (T_X3_groups_G_E d V g j hj K s0 (H _ (fun x1 x2 H => T_X3_groups_G_4 d V g j hj K x1 x2 s0 H)))
abbrev mm_X3_trailed : EM := (yX3_trailed, cX3_trailed, 1, (Option.some .int), [])
theorem me_X3_trailed : e_mth mm_X3_trailed 0 := ⟨rfl, q1312, q113, by decide +kernel, by decide⟩
def B_X3_trailed_N_E (K : Int → Prop) (s0 : XS) : Prop :=
  K ((s0.2 4).1 3)
set_option maxHeartbeats 4000000 in
theorem T_X3_trailed_N_E (d : Nat) (V : XV) (g : AH) (K : Int → Prop) (s0 : XS) (H : B_X3_trailed_N_E K s0) : EW mm_X3_trailed (d + 0) 0 0 (cQ (xh V s0 g) K) 0 [(0, aR (some (sI V 4 99)))] [] (xh V s0 g) := by
  refine ew_aload_n dX3_trailed_0 rfl lm0 ?_
  refine yw_get (cs := [3, 4, 5]) (v := aI ((s0.2 4).1 3)) dX3_trailed_1 (by decide) (e_fl.a q272) yf_3 (by decide) rfl ?_
  exact ew_ret (o := some (aI ((s0.2 4).1 3))) rfl ⟨_, rfl, rfl, H⟩ ⟨dX3_trailed_4, .int, rfl, Or.inl rfl, rfl⟩
def C_X3_trailed_N (s0 : XS) (K : Int → Prop) : Prop := B_X3_trailed_N_E K s0
theorem S_X3_trailed_N {d : Nat} {V : XV} {g : AH} {K : Int → Prop} {s0 : XS} (H : C_X3_trailed_N s0 K) : Sp mm_X3_trailed (d + 0) 0 0 [aR (some (sI V 4 99))] (xh V s0 g) (cQ (xh V s0 g) K) :=
  ew_sp rfl (Nat.le_of_ble_eq_true rfl) (T_X3_trailed_N_E d V g K s0 (H ))
abbrev mm_X5_row : EM := (yX5_row, cX5_row, 2, (Option.some (.array .int)), [])
theorem me_X5_row : e_mth mm_X5_row 1 := ⟨rfl, q1326, q115, by decide +kernel, by decide⟩
def B_X5_row_N_E (K : Nat → Prop) (a : Int) (s0 : XS) : Prop :=
  ((a = 0 → K 0) ∧ (¬ a = 0 → ((a = 1 → K 5) ∧ (¬ a = 1 → K 6))))
set_option maxHeartbeats 4000000 in
theorem T_X5_row_N_E (d : Nat) (V : XV) (g : AH) (K : Nat → Prop) (a : Int) (s0 : XS) (H : B_X5_row_N_E K a s0) : EW mm_X5_row (d + 0) 0 0 (cQa V 4 (xh V s0 g) K) 0 [(0, aR (some (sI V 4 99))), (1, aI a)] [] (xh V s0 g) := by
  refine ew_iload_n dX5_row_0 rfl lm1 ?_
  refine ew_if_ne (tgt := 11) dX5_row_1 (by decide) (fun c1 => ?_) (fun c1 => ?_)
  · replace H := H.2 c1
    refine ew_iload_n dX5_row_11 rfl lm1 ?_
    refine ew_iconst dX5_row_12 (inI_of rfl) ?_
    refine ew_icmp_ne (tgt := 23) dX5_row_13 (by decide) (fun c2 => ?_) (fun c2 => ?_)
    · replace H := H.2 c2
      refine ew_aload_n dX5_row_23 rfl lm0 ?_
      refine yw_get (cs := [5]) (v := aR (some (sI V 4 6))) dX5_row_24 (by decide) (e_fl.a q235) yf_6 (by decide) rfl ?_
      exact ew_ret (o := some (aR (some (sI V 4 6)))) rfl ⟨_, rfl, rfl, H⟩ ⟨dX5_row_27, _, rfl, Or.inr ⟨_, rfl⟩⟩
    · replace H := H.1 c2
      refine ew_aload_n dX5_row_16 rfl lm0 ?_
      refine yw_get (cs := [5]) (v := aR (some (sI V 4 5))) dX5_row_17 (by decide) (e_fl.a q231) yf_5 (by decide) rfl ?_
      refine ew_goto (tgt := 27) dX5_row_20 (by decide) ?_
      exact ew_ret (o := some (aR (some (sI V 4 5)))) rfl ⟨_, rfl, rfl, H⟩ ⟨dX5_row_27, _, rfl, Or.inr ⟨_, rfl⟩⟩
  · replace H := H.1 c1
    refine ew_aload_n dX5_row_4 rfl lm0 ?_
    refine yw_get (cs := [3, 4, 5]) (v := aR (some (sI V 4 0))) dX5_row_5 (by decide) (e_fl.b q256 q257) yf_0 (by decide) rfl ?_
    refine ew_goto (tgt := 27) dX5_row_8 (by decide) ?_
    exact ew_ret (o := some (aR (some (sI V 4 0)))) rfl ⟨_, rfl, rfl, H⟩ ⟨dX5_row_27, _, rfl, Or.inr ⟨_, rfl⟩⟩
def C_X5_row_N (a : Int) (s0 : XS) (K : Nat → Prop) : Prop := B_X5_row_N_E K a s0
theorem S_X5_row_N {d : Nat} {V : XV} {g : AH} {K : Nat → Prop} {a : Int} {s0 : XS} (H : C_X5_row_N a s0 K) : Sp mm_X5_row (d + 0) 0 0 [aR (some (sI V 4 99)), aI a] (xh V s0 g) (cQa V 4 (xh V s0 g) K) :=
  ew_sp rfl (Nat.le_of_ble_eq_true rfl) (T_X5_row_N_E d V g K a s0 (H ))
abbrev mm_X3_like : EM := (yX3_like, cX3_like, 3, (Option.none : Option Jvm.ClassFile.FieldType), [])
theorem me_X3_like : e_mth mm_X3_like 1 := ⟨rfl, q1123, q113, by decide +kernel, by decide⟩
def B_X3_like_V32_10 (X10 : Int → XS → Prop) (K : XS → Prop) (x2 : Int) (s0 : XS) : Prop :=
  ((((s0.2 3).1 1) ≤ x2 → K s0) ∧ (¬ ((s0.2 3).1 1) ≤ x2 → ((0 ≤ x2 ∧ x2 < 24) ∧ (((0 ≤ x2 ∧ x2 < 24)) ∧ ∀ s3 : XS, s3 = ya s0 3 0 x2 ((s0.2 2).2 0 x2) → (inI (x2 + 1) ∧ X10 (x2 + 1) s3)))))
def B_X3_like_V32_E (X10 : Int → XS → Prop) (K : XS → Prop) (s0 : XS) : Prop :=
  (∀ s1 : XS, s1 = ys s0 3 1 ((s0.2 2).1 1) → X10 0 s1)
def W_X3_like_V32_10 (d : Nat) (V : XV) (g : AH) (K : XS → Prop) (x2 : Int) (s0 : XS) : Prop := EW mm_X3_like (d + 0) 0 0 (xQv V g K) 10 [(0, aR (some (sI V 3 99))), (1, aR (some (sI V 2 99))), (2, aI x2)] [] (xh V s0 g)
set_option maxHeartbeats 4000000 in
theorem T_X3_like_V32_10 (d : Nat) (V : XV) (g : AH) (K : XS → Prop) (x2 : Int) (s0 : XS) (H : B_X3_like_V32_10 (W_X3_like_V32_10 d V g K) K x2 s0) : EW mm_X3_like (d + 0) 0 0 (xQv V g K) 10 [(0, aR (some (sI V 3 99))), (1, aR (some (sI V 2 99))), (2, aI x2)] [] (xh V s0 g) := by
  refine ew_iload_n dX3_like_10 rfl lm2 ?_
  refine ew_aload_n dX3_like_11 rfl lm0 ?_
  refine yw_get (cs := [3, 4, 5]) (v := aI ((s0.2 3).1 1)) dX3_like_12 (by decide) (e_fl.a q266) yf_1 (by decide) rfl ?_
  refine ew_icmp_ge (tgt := 36) dX3_like_15 (by decide) (fun c1 => ?_) (fun c1 => ?_)
  · replace H := H.1 c1
    exact ew_ret (o := none) rfl ⟨_, rfl, rfl, H⟩ ⟨rfl, dX3_like_36⟩
  · replace H := H.2 c1
    refine ew_aload_n dX3_like_18 rfl lm0 ?_
    refine yw_get (cs := [3, 4, 5]) (v := aR (some (sI V 3 0))) dX3_like_19 (by decide) (e_fl.a q258) yf_0 (by decide) rfl ?_
    refine ew_iload_n dX3_like_22 rfl lm2 ?_
    refine ew_aload_n dX3_like_23 rfl lm1 ?_
    refine yw_get (cs := [3, 4, 5]) (v := aR (some (sI V 2 0))) dX3_like_24 (by decide) (e_fl.a q258) yf_0 (by decide) rfl ?_
    refine ew_iload_n dX3_like_27 rfl lm2 ?_
    obtain ⟨v2, H⟩ := H
    refine yw_iald dX3_like_28 (by decide) rfl v2.1 v2.2 ?_
    obtain ⟨v5, H⟩ := H
    refine yw_iast dX3_like_29 (by decide) (by decide) rfl rfl v5.1 v5.2 (fun s3 e4 => ?_)
    replace H := H s3 e4
    obtain ⟨v6, H⟩ := H
    refine ew_iinc dX3_like_30 lm2 (by decide) v6 (lv' := [(2, aI (x2 + 1)), (0, aR (some (sI V 3 99))), (1, aR (some (sI V 2 99)))]) rfl ?_
    refine ew_sub (List.forall_mem_cons.mpr ⟨lm1, (List.forall_mem_cons.mpr ⟨lm2, (List.forall_mem_cons.mpr ⟨lm0, e_nm⟩)⟩)⟩) ?_
    refine ew_goto (tgt := 10) dX3_like_33 (by decide) ?_
    exact ew_room (Nat.le_refl _) (Nat.zero_le _) (Nat.zero_le _) (ew_sub (List.forall_mem_cons.mpr ⟨lm0, (List.forall_mem_cons.mpr ⟨lm1, (List.forall_mem_cons.mpr ⟨lm2, e_nm⟩)⟩)⟩) H)
set_option maxHeartbeats 4000000 in
theorem T_X3_like_V32_E (d : Nat) (V : XV) (g : AH) (K : XS → Prop) (s0 : XS) (H : B_X3_like_V32_E (W_X3_like_V32_10 d V g K) K s0) : EW mm_X3_like (d + 0) 0 0 (xQv V g K) 0 [(0, aR (some (sI V 3 99))), (1, aR (some (sI V 2 99)))] [] (xh V s0 g) := by
  refine ew_aload_n dX3_like_0 rfl lm0 ?_
  refine ew_aload_n dX3_like_1 rfl lm1 ?_
  refine yw_get (cs := [3, 4, 5]) (v := aI ((s0.2 2).1 1)) dX3_like_2 (by decide) (e_fl.a q266) yf_1 (by decide) rfl ?_
  refine yw_put (cs := [3, 4, 5]) dX3_like_5 (by decide) (e_fl.a q266) yf_1 (by decide) rfl (by decide +kernel) (fun s1 e2 => ?_)
  replace H := H s1 e2
  refine ew_iconst dX3_like_8 (inI_of rfl) ?_
  refine ew_istore_n dX3_like_9 rfl (by decide) (lv' := [(2, aI 0), (0, aR (some (sI V 3 99))), (1, aR (some (sI V 2 99)))]) rfl ?_
  refine ew_sub (List.forall_mem_cons.mpr ⟨lm1, (List.forall_mem_cons.mpr ⟨lm2, (List.forall_mem_cons.mpr ⟨lm0, e_nm⟩)⟩)⟩) ?_
  exact ew_room (Nat.le_refl _) (Nat.zero_le _) (Nat.zero_le _) (ew_sub (List.forall_mem_cons.mpr ⟨lm0, (List.forall_mem_cons.mpr ⟨lm1, (List.forall_mem_cons.mpr ⟨lm2, e_nm⟩)⟩)⟩) H)
def C_X3_like_V32 (s0 : XS) (K : XS → Prop) : Prop := ∀ (X10 : Int → XS → Prop), (∀ (x2 : Int) (s0 : XS), B_X3_like_V32_10 X10 K x2 s0 → X10 x2 s0) → B_X3_like_V32_E X10 K s0
theorem S_X3_like_V32 {d : Nat} {V : XV} {g : AH} {K : XS → Prop} {s0 : XS} (H : C_X3_like_V32 s0 K) : Sp mm_X3_like (d + 0) 0 0 [aR (some (sI V 3 99)), aR (some (sI V 2 99))] (xh V s0 g) (xQv V g K) :=
  ew_sp rfl (Nat.le_of_ble_eq_true rfl) (T_X3_like_V32_E d V g K s0 (H _ (fun x2 s0 H => T_X3_like_V32_10 d V g K x2 s0 H)))
def B_X3_like_V34_10 (X10 : Int → XS → Prop) (K : XS → Prop) (x2 : Int) (s0 : XS) : Prop :=
  ((((s0.2 3).1 1) ≤ x2 → K s0) ∧ (¬ ((s0.2 3).1 1) ≤ x2 → ((0 ≤ x2 ∧ x2 < 24) ∧ (((0 ≤ x2 ∧ x2 < 24)) ∧ ∀ s3 : XS, s3 = ya s0 3 0 x2 ((s0.2 4).2 0 x2) → (inI (x2 + 1) ∧ X10 (x2 + 1) s3)))))
def B_X3_like_V34_E (X10 : Int → XS → Prop) (K : XS → Prop) (s0 : XS) : Prop :=
  (∀ s1 : XS, s1 = ys s0 3 1 ((s0.2 4).1 1) → X10 0 s1)
def W_X3_like_V34_10 (d : Nat) (V : XV) (g : AH) (K : XS → Prop) (x2 : Int) (s0 : XS) : Prop := EW mm_X3_like (d + 0) 0 0 (xQv V g K) 10 [(0, aR (some (sI V 3 99))), (1, aR (some (sI V 4 99))), (2, aI x2)] [] (xh V s0 g)
set_option maxHeartbeats 4000000 in
theorem T_X3_like_V34_10 (d : Nat) (V : XV) (g : AH) (K : XS → Prop) (x2 : Int) (s0 : XS) (H : B_X3_like_V34_10 (W_X3_like_V34_10 d V g K) K x2 s0) : EW mm_X3_like (d + 0) 0 0 (xQv V g K) 10 [(0, aR (some (sI V 3 99))), (1, aR (some (sI V 4 99))), (2, aI x2)] [] (xh V s0 g) := by
  refine ew_iload_n dX3_like_10 rfl lm2 ?_
  refine ew_aload_n dX3_like_11 rfl lm0 ?_
  refine yw_get (cs := [3, 4, 5]) (v := aI ((s0.2 3).1 1)) dX3_like_12 (by decide) (e_fl.a q266) yf_1 (by decide) rfl ?_
  refine ew_icmp_ge (tgt := 36) dX3_like_15 (by decide) (fun c1 => ?_) (fun c1 => ?_)
  · replace H := H.1 c1
    exact ew_ret (o := none) rfl ⟨_, rfl, rfl, H⟩ ⟨rfl, dX3_like_36⟩
  · replace H := H.2 c1
    refine ew_aload_n dX3_like_18 rfl lm0 ?_
    refine yw_get (cs := [3, 4, 5]) (v := aR (some (sI V 3 0))) dX3_like_19 (by decide) (e_fl.a q258) yf_0 (by decide) rfl ?_
    refine ew_iload_n dX3_like_22 rfl lm2 ?_
    refine ew_aload_n dX3_like_23 rfl lm1 ?_
    refine yw_get (cs := [3, 4, 5]) (v := aR (some (sI V 4 0))) dX3_like_24 (by decide) (e_fl.a q258) yf_0 (by decide) rfl ?_
    refine ew_iload_n dX3_like_27 rfl lm2 ?_
    obtain ⟨v2, H⟩ := H
    refine yw_iald dX3_like_28 (by decide) rfl v2.1 v2.2 ?_
    obtain ⟨v5, H⟩ := H
    refine yw_iast dX3_like_29 (by decide) (by decide) rfl rfl v5.1 v5.2 (fun s3 e4 => ?_)
    replace H := H s3 e4
    obtain ⟨v6, H⟩ := H
    refine ew_iinc dX3_like_30 lm2 (by decide) v6 (lv' := [(2, aI (x2 + 1)), (0, aR (some (sI V 3 99))), (1, aR (some (sI V 4 99)))]) rfl ?_
    refine ew_sub (List.forall_mem_cons.mpr ⟨lm1, (List.forall_mem_cons.mpr ⟨lm2, (List.forall_mem_cons.mpr ⟨lm0, e_nm⟩)⟩)⟩) ?_
    refine ew_goto (tgt := 10) dX3_like_33 (by decide) ?_
    exact ew_room (Nat.le_refl _) (Nat.zero_le _) (Nat.zero_le _) (ew_sub (List.forall_mem_cons.mpr ⟨lm0, (List.forall_mem_cons.mpr ⟨lm1, (List.forall_mem_cons.mpr ⟨lm2, e_nm⟩)⟩)⟩) H)
set_option maxHeartbeats 4000000 in
theorem T_X3_like_V34_E (d : Nat) (V : XV) (g : AH) (K : XS → Prop) (s0 : XS) (H : B_X3_like_V34_E (W_X3_like_V34_10 d V g K) K s0) : EW mm_X3_like (d + 0) 0 0 (xQv V g K) 0 [(0, aR (some (sI V 3 99))), (1, aR (some (sI V 4 99)))] [] (xh V s0 g) := by
  refine ew_aload_n dX3_like_0 rfl lm0 ?_
  refine ew_aload_n dX3_like_1 rfl lm1 ?_
  refine yw_get (cs := [3, 4, 5]) (v := aI ((s0.2 4).1 1)) dX3_like_2 (by decide) (e_fl.a q266) yf_1 (by decide) rfl ?_
  refine yw_put (cs := [3, 4, 5]) dX3_like_5 (by decide) (e_fl.a q266) yf_1 (by decide) rfl (by decide +kernel) (fun s1 e2 => ?_)
  replace H := H s1 e2
  refine ew_iconst dX3_like_8 (inI_of rfl) ?_
  refine ew_istore_n dX3_like_9 rfl (by decide) (lv' := [(2, aI 0), (0, aR (some (sI V 3 99))), (1, aR (some (sI V 4 99)))]) rfl ?_
  refine ew_sub (List.forall_mem_cons.mpr ⟨lm1, (List.forall_mem_cons.mpr ⟨lm2, (List.forall_mem_cons.mpr ⟨lm0, e_nm⟩)⟩)⟩) ?_
  exact ew_room (Nat.le_refl _) (Nat.zero_le _) (Nat.zero_le _) (ew_sub (List.forall_mem_cons.mpr ⟨lm0, (List.forall_mem_cons.mpr ⟨lm1, (List.forall_mem_cons.mpr ⟨lm2, e_nm⟩)⟩)⟩) H)
def C_X3_like_V34 (s0 : XS) (K : XS → Prop) : Prop := ∀ (X10 : Int → XS → Prop), (∀ (x2 : Int) (s0 : XS), B_X3_like_V34_10 X10 K x2 s0 → X10 x2 s0) → B_X3_like_V34_E X10 K s0
theorem S_X3_like_V34 {d : Nat} {V : XV} {g : AH} {K : XS → Prop} {s0 : XS} (H : C_X3_like_V34 s0 K) : Sp mm_X3_like (d + 0) 0 0 [aR (some (sI V 3 99)), aR (some (sI V 4 99))] (xh V s0 g) (xQv V g K) :=
  ew_sp rfl (Nat.le_of_ble_eq_true rfl) (T_X3_like_V34_E d V g K s0 (H _ (fun x2 s0 H => T_X3_like_V34_10 d V g K x2 s0 H)))
def B_X3_like_V01_10 (X10 : Int → XS → Prop) (K : XS → Prop) (x2 : Int) (s0 : XS) : Prop :=
  ((((s0.2 0).1 1) ≤ x2 → K s0) ∧ (¬ ((s0.2 0).1 1) ≤ x2 → ((0 ≤ x2 ∧ x2 < 24) ∧ (((0 ≤ x2 ∧ x2 < 24)) ∧ ∀ s3 : XS, s3 = ya s0 0 0 x2 ((s0.2 1).2 0 x2) → (inI (x2 + 1) ∧ X10 (x2 + 1) s3)))))
def B_X3_like_V01_E (X10 : Int → XS → Prop) (K : XS → Prop) (s0 : XS) : Prop :=
  (∀ s1 : XS, s1 = ys s0 0 1 ((s0.2 1).1 1) → X10 0 s1)
def W_X3_like_V01_10 (d : Nat) (V : XV) (g : AH) (K : XS → Prop) (x2 : Int) (s0 : XS) : Prop := EW mm_X3_like (d + 0) 0 0 (xQv V g K) 10 [(0, aR (some (sI V 0 99))), (1, aR (some (sI V 1 99))), (2, aI x2)] [] (xh V s0 g)
set_option maxHeartbeats 4000000 in
theorem T_X3_like_V01_10 (d : Nat) (V : XV) (g : AH) (K : XS → Prop) (x2 : Int) (s0 : XS) (H : B_X3_like_V01_10 (W_X3_like_V01_10 d V g K) K x2 s0) : EW mm_X3_like (d + 0) 0 0 (xQv V g K) 10 [(0, aR (some (sI V 0 99))), (1, aR (some (sI V 1 99))), (2, aI x2)] [] (xh V s0 g) := by
  refine ew_iload_n dX3_like_10 rfl lm2 ?_
  refine ew_aload_n dX3_like_11 rfl lm0 ?_
  refine yw_get (cs := [3, 4, 5]) (v := aI ((s0.2 0).1 1)) dX3_like_12 (by decide) (e_fl.a q266) yf_1 (by decide) rfl ?_
  refine ew_icmp_ge (tgt := 36) dX3_like_15 (by decide) (fun c1 => ?_) (fun c1 => ?_)
  · replace H := H.1 c1
    exact ew_ret (o := none) rfl ⟨_, rfl, rfl, H⟩ ⟨rfl, dX3_like_36⟩
  · replace H := H.2 c1
    refine ew_aload_n dX3_like_18 rfl lm0 ?_
    refine yw_get (cs := [3, 4, 5]) (v := aR (some (sI V 0 0))) dX3_like_19 (by decide) (e_fl.a q258) yf_0 (by decide) rfl ?_
    refine ew_iload_n dX3_like_22 rfl lm2 ?_
    refine ew_aload_n dX3_like_23 rfl lm1 ?_
    refine yw_get (cs := [3, 4, 5]) (v := aR (some (sI V 1 0))) dX3_like_24 (by decide) (e_fl.a q258) yf_0 (by decide) rfl ?_
    refine ew_iload_n dX3_like_27 rfl lm2 ?_
    obtain ⟨v2, H⟩ := H
    refine yw_iald dX3_like_28 (by decide) rfl v2.1 v2.2 ?_
    obtain ⟨v5, H⟩ := H
    refine yw_iast dX3_like_29 (by decide) (by decide) rfl rfl v5.1 v5.2 (fun s3 e4 => ?_)
    replace H := H s3 e4
    obtain ⟨v6, H⟩ := H
    refine ew_iinc dX3_like_30 lm2 (by decide) v6 (lv' := [(2, aI (x2 + 1)), (0, aR (some (sI V 0 99))), (1, aR (some (sI V 1 99)))]) rfl ?_
    refine ew_sub (List.forall_mem_cons.mpr ⟨lm1, (List.forall_mem_cons.mpr ⟨lm2, (List.forall_mem_cons.mpr ⟨lm0, e_nm⟩)⟩)⟩) ?_
    refine ew_goto (tgt := 10) dX3_like_33 (by decide) ?_
    exact ew_room (Nat.le_refl _) (Nat.zero_le _) (Nat.zero_le _) (ew_sub (List.forall_mem_cons.mpr ⟨lm0, (List.forall_mem_cons.mpr ⟨lm1, (List.forall_mem_cons.mpr ⟨lm2, e_nm⟩)⟩)⟩) H)
set_option maxHeartbeats 4000000 in
theorem T_X3_like_V01_E (d : Nat) (V : XV) (g : AH) (K : XS → Prop) (s0 : XS) (H : B_X3_like_V01_E (W_X3_like_V01_10 d V g K) K s0) : EW mm_X3_like (d + 0) 0 0 (xQv V g K) 0 [(0, aR (some (sI V 0 99))), (1, aR (some (sI V 1 99)))] [] (xh V s0 g) := by
  refine ew_aload_n dX3_like_0 rfl lm0 ?_
  refine ew_aload_n dX3_like_1 rfl lm1 ?_
  refine yw_get (cs := [3, 4, 5]) (v := aI ((s0.2 1).1 1)) dX3_like_2 (by decide) (e_fl.a q266) yf_1 (by decide) rfl ?_
  refine yw_put (cs := [3, 4, 5]) dX3_like_5 (by decide) (e_fl.a q266) yf_1 (by decide) rfl (by decide +kernel) (fun s1 e2 => ?_)
  replace H := H s1 e2
  refine ew_iconst dX3_like_8 (inI_of rfl) ?_
  refine ew_istore_n dX3_like_9 rfl (by decide) (lv' := [(2, aI 0), (0, aR (some (sI V 0 99))), (1, aR (some (sI V 1 99)))]) rfl ?_
  refine ew_sub (List.forall_mem_cons.mpr ⟨lm1, (List.forall_mem_cons.mpr ⟨lm2, (List.forall_mem_cons.mpr ⟨lm0, e_nm⟩)⟩)⟩) ?_
  exact ew_room (Nat.le_refl _) (Nat.zero_le _) (Nat.zero_le _) (ew_sub (List.forall_mem_cons.mpr ⟨lm0, (List.forall_mem_cons.mpr ⟨lm1, (List.forall_mem_cons.mpr ⟨lm2, e_nm⟩)⟩)⟩) H)
def C_X3_like_V01 (s0 : XS) (K : XS → Prop) : Prop := ∀ (X10 : Int → XS → Prop), (∀ (x2 : Int) (s0 : XS), B_X3_like_V01_10 X10 K x2 s0 → X10 x2 s0) → B_X3_like_V01_E X10 K s0
theorem S_X3_like_V01 {d : Nat} {V : XV} {g : AH} {K : XS → Prop} {s0 : XS} (H : C_X3_like_V01 s0 K) : Sp mm_X3_like (d + 0) 0 0 [aR (some (sI V 0 99)), aR (some (sI V 1 99))] (xh V s0 g) (xQv V g K) :=
  ew_sp rfl (Nat.le_of_ble_eq_true rfl) (T_X3_like_V01_E d V g K s0 (H _ (fun x2 s0 H => T_X3_like_V01_10 d V g K x2 s0 H)))
abbrev mm_X3_puts : EM := (yX3_puts, cX3_puts, 6, (Option.none : Option Jvm.ClassFile.FieldType), [])
theorem me_X3_puts : e_mth mm_X3_puts 4 := ⟨rfl, q964, q113, by decide +kernel, by decide⟩
def B_X3_puts_Q_E (K : XS → Prop) (a : Int) (b : Int) (c : Int) (j : Nat) (s0 : XS) : Prop :=
  (((0 ≤ b ∧ b < 24)) ∧ ∀ s2 : XS, s2 = ya s0 j 0 b c → K s2)
set_option maxHeartbeats 4000000 in
theorem T_X3_puts_Q_E (d : Nat) (V : XV) (g : AH) (j : Nat) (hj : j < 4) (K : XS → Prop) (a : Int) (b : Int) (c : Int) (s0 : XS) (H : B_X3_puts_Q_E K a b c j s0) : EW mm_X3_puts (d + 0) 0 0 (xQv V g K) 0 [(0, aR (some (sI V j 99))), (1, aR (some (sI V j 0))), (2, aI a), (3, aI b), (4, aI c)] [] (xh V s0 g) := by
  refine ew_aload_n dX3_puts_0 rfl lm0 ?_
  refine yw_get (cs := [3, 4, 5]) (v := aR (some (tI V j ((s0.2 j).1 20).toNat))) dX3_puts_1 (Nat.lt_of_lt_of_le hj (by decide)) (e_fl.a q271) yf_2 scl_G rfl ?_
  refine tw_alen0 dX3_puts_4 hj ?_
  refine ew_if_le (tgt := 100) dX3_puts_5 (by decide) (fun _ => ?_) (fun c => False.elim (by revert c; decide))
  refine ew_aload_n dX3_puts_100 rfl lm1 ?_
  refine ew_iload_n dX3_puts_101 rfl lm3 ?_
  refine ew_iload dX3_puts_102 lm4 ?_
  obtain ⟨v4, H⟩ := H
  refine yw_iast dX3_puts_104 (Nat.lt_of_lt_of_le hj (by decide)) (by decide) rfl rfl v4.1 v4.2 (fun s2 e3 => ?_)
  replace H := H s2 e3
  exact ew_ret (o := none) rfl ⟨_, rfl, rfl, H⟩ ⟨rfl, dX3_puts_105⟩
def C_X3_puts_Q (a : Int) (b : Int) (c : Int) (j : Nat) (s0 : XS) (K : XS → Prop) : Prop := B_X3_puts_Q_E K a b c j s0
theorem S_X3_puts_Q {d : Nat} {V : XV} {g : AH} {j : Nat} {K : XS → Prop} {a : Int} {b : Int} {c : Int} {s0 : XS} (hj : j < 4) (H : C_X3_puts_Q a b c j s0 K) : Sp mm_X3_puts (d + 0) 0 0 [aR (some (sI V j 99)), aR (some (sI V j 0)), aI a, aI b, aI c] (xh V s0 g) (xQv V g K) :=
  ew_sp rfl (Nat.le_of_ble_eq_true rfl) (T_X3_puts_Q_E d V g j hj K a b c s0 (H ))
abbrev mm_X3_unites : EM := (yX3_unites, cX3_unites, 6, (Option.none : Option Jvm.ClassFile.FieldType), [])
theorem me_X3_unites : e_mth mm_X3_unites 2 := ⟨rfl, q1016, q113, by decide +kernel, by decide⟩
def B_X3_unites_Q_36 (X36 : Int → Int → Int → XS → Prop) (K : XS → Prop) (x3 : Int) (x4 : Int) (x5 : Int) (j : Nat) (s0 : XS) : Prop :=
  ((((s0.2 j).1 1) ≤ x5 → K s0) ∧ (¬ ((s0.2 j).1 1) ≤ x5 → ((0 ≤ x5 ∧ x5 < 24) ∧ ((((s0.2 j).2 0 x5) = x4 → (C_X3_puts_Q 0 x5 x3 j s0 (fun s6 => (inI (x5 + 1) ∧ X36 x3 x4 (x5 + 1) s6)))) ∧ (¬ ((s0.2 j).2 0 x5) = x4 → (inI (x5 + 1) ∧ X36 x3 x4 (x5 + 1) s0))))))
def B_X3_unites_Q_E (X36 : Int → Int → Int → XS → Prop) (K : XS → Prop) (a : Int) (b : Int) (j : Nat) (s0 : XS) : Prop :=
  ((0 ≤ a ∧ a < 24) ∧ ((0 ≤ b ∧ b < 24) ∧ ((0 ≤ a ∧ a < 24) ∧ ((0 ≤ b ∧ b < 24) ∧ X36 (jmin ((s0.2 j).2 0 a) ((s0.2 j).2 0 b)) (jmax ((s0.2 j).2 0 a) ((s0.2 j).2 0 b)) 0 s0))))
def W_X3_unites_Q_36 (d : Nat) (V : XV) (g : AH) (j : Nat) (K : XS → Prop) (x3 : Int) (x4 : Int) (x5 : Int) (s0 : XS) : Prop := EW mm_X3_unites (d + 1) 0 0 (xQv V g K) 36 [(0, aR (some (sI V j 99))), (3, aI x3), (4, aI x4), (5, aI x5)] [] (xh V s0 g)
set_option maxHeartbeats 4000000 in
theorem T_X3_unites_Q_36 (d : Nat) (V : XV) (g : AH) (j : Nat) (hj : j < 4) (K : XS → Prop) (x3 : Int) (x4 : Int) (x5 : Int) (s0 : XS) (H : B_X3_unites_Q_36 (W_X3_unites_Q_36 d V g j K) K x3 x4 x5 j s0) : EW mm_X3_unites (d + 1) 0 0 (xQv V g K) 36 [(0, aR (some (sI V j 99))), (3, aI x3), (4, aI x4), (5, aI x5)] [] (xh V s0 g) := by
  refine ew_iload dX3_unites_36 lm3 ?_
  refine ew_aload_n dX3_unites_38 rfl lm0 ?_
  refine yw_get (cs := [3, 4, 5]) (v := aI ((s0.2 j).1 1)) dX3_unites_39 (Nat.lt_of_lt_of_le hj (by decide)) (e_fl.a q266) yf_1 scl_G rfl ?_
  refine ew_icmp_ge (tgt := 75) dX3_unites_42 (by decide) (fun c1 => ?_) (fun c1 => ?_)
  · replace H := H.1 c1
    exact ew_ret (o := none) rfl ⟨_, rfl, rfl, H⟩ ⟨rfl, dX3_unites_75⟩
  · replace H := H.2 c1
    refine ew_aload_n dX3_unites_45 rfl lm0 ?_
    refine yw_get (cs := [3, 4, 5]) (v := aR (some (sI V j 0))) dX3_unites_46 (Nat.lt_of_lt_of_le hj (by decide)) (e_fl.a q258) yf_0 scl_G rfl ?_
    refine ew_iload dX3_unites_49 lm3 ?_
    obtain ⟨v2, H⟩ := H
    refine yw_iald dX3_unites_51 (Nat.lt_of_lt_of_le hj (by decide)) rfl v2.1 v2.2 ?_
    refine ew_iload dX3_unites_52 lm2 ?_
    refine ew_icmp_ne (tgt := 69) dX3_unites_54 (by decide) (fun c3 => ?_) (fun c3 => ?_)
    · replace H := H.2 c3
      obtain ⟨v4, H⟩ := H
      refine ew_iinc dX3_unites_69 lm3 (by decide) v4 (lv' := [(5, aI (x5 + 1)), (0, aR (some (sI V j 99))), (3, aI x3), (4, aI x4)]) rfl ?_
      refine ew_sub (List.forall_mem_cons.mpr ⟨lm1, (List.forall_mem_cons.mpr ⟨lm2, (List.forall_mem_cons.mpr ⟨lm3, (List.forall_mem_cons.mpr ⟨lm0, e_nm⟩)⟩)⟩)⟩) ?_
      refine ew_goto (tgt := 36) dX3_unites_72 (by decide) ?_
      exact ew_room (Nat.le_refl _) (Nat.zero_le _) (Nat.zero_le _) (ew_sub (List.forall_mem_cons.mpr ⟨lm0, (List.forall_mem_cons.mpr ⟨lm1, (List.forall_mem_cons.mpr ⟨lm2, (List.forall_mem_cons.mpr ⟨lm3, e_nm⟩)⟩)⟩)⟩) H)
    · replace H := H.1 c3
      refine ew_aload_n dX3_unites_57 rfl lm0 ?_
      refine ew_aload_n dX3_unites_58 rfl lm0 ?_
      refine yw_get (cs := [3, 4, 5]) (v := aR (some (sI V j 0))) dX3_unites_59 (Nat.lt_of_lt_of_le hj (by decide)) (e_fl.a q258) yf_0 scl_G rfl ?_
      refine ew_iconst dX3_unites_62 (inI_of rfl) ?_
      refine ew_iload dX3_unites_63 lm3 ?_
      refine ew_iload_n dX3_unites_65 rfl lm1 ?_
      refine ew_callY (x := ⟨"ReasonCloser$Groups", "puts", "([IIII)V"⟩) (d := d + 0) (as := [aR (some (sI V j 0)), aI 0, aI x5, aI x3]) rfl dX3_unites_66 me_X3_puts rfl (Nat.lt_of_lt_of_le hj (by decide)) rfl q1019 q1965 (yselG (Nat.lt_of_lt_of_le hj (by decide)) (P := fun c => Cond.selects c _ _ ∈ lw_all) q1967 q1966 q1968) q963 (Or.inl q960) (by decide) (Nat.le_of_ble_eq_true rfl) (Nat.zero_le _) (Nat.zero_le _) (S_X3_puts_Q (d := d + 0) hj H) (fun o h' hq7 _ => ?_) (fun E i h' q _ => (xQv_no q).elim)
      obtain ⟨s6, E8, rfl, H⟩ := hq7
      cases E8
      obtain ⟨v9, H⟩ := H
      refine ew_iinc dX3_unites_69 lm3 (by decide) v9 (lv' := [(5, aI (x5 + 1)), (0, aR (some (sI V j 99))), (3, aI x3), (4, aI x4)]) rfl ?_
      refine ew_sub (List.forall_mem_cons.mpr ⟨lm1, (List.forall_mem_cons.mpr ⟨lm2, (List.forall_mem_cons.mpr ⟨lm3, (List.forall_mem_cons.mpr ⟨lm0, e_nm⟩)⟩)⟩)⟩) ?_
      refine ew_goto (tgt := 36) dX3_unites_72 (by decide) ?_
      exact ew_room (Nat.le_refl _) (Nat.zero_le _) (Nat.zero_le _) (ew_sub (List.forall_mem_cons.mpr ⟨lm0, (List.forall_mem_cons.mpr ⟨lm1, (List.forall_mem_cons.mpr ⟨lm2, (List.forall_mem_cons.mpr ⟨lm3, e_nm⟩)⟩)⟩)⟩) H)
set_option maxHeartbeats 4000000 in
theorem T_X3_unites_Q_E (d : Nat) (V : XV) (g : AH) (j : Nat) (hj : j < 4) (K : XS → Prop) (a : Int) (b : Int) (s0 : XS) (H : B_X3_unites_Q_E (W_X3_unites_Q_36 d V g j K) K a b j s0) : EW mm_X3_unites (d + 1) 0 0 (xQv V g K) 0 [(0, aR (some (sI V j 99))), (1, aI a), (2, aI b)] [] (xh V s0 g) := by
  refine ew_aload_n dX3_unites_0 rfl lm0 ?_
  refine yw_get (cs := [3, 4, 5]) (v := aR (some (sI V j 0))) dX3_unites_1 (Nat.lt_of_lt_of_le hj (by decide)) (e_fl.a q258) yf_0 scl_G rfl ?_
  refine ew_iload_n dX3_unites_4 rfl lm1 ?_
  obtain ⟨v1, H⟩ := H
  refine yw_iald dX3_unites_5 (Nat.lt_of_lt_of_le hj (by decide)) rfl v1.1 v1.2 ?_
  refine ew_aload_n dX3_unites_6 rfl lm0 ?_
  refine yw_get (cs := [3, 4, 5]) (v := aR (some (sI V j 0))) dX3_unites_7 (Nat.lt_of_lt_of_le hj (by decide)) (e_fl.a q258) yf_0 scl_G rfl ?_
  refine ew_iload_n dX3_unites_10 rfl lm2 ?_
  obtain ⟨v2, H⟩ := H
  refine yw_iald dX3_unites_11 (Nat.lt_of_lt_of_le hj (by decide)) rfl v2.1 v2.2 ?_
  refine ew_min (d := d + 0) dX3_unites_12 q1017 (Nat.le_of_ble_eq_true rfl) ?_
  refine ew_istore_n dX3_unites_15 rfl (by decide) (lv' := [(3, aI (jmin ((s0.2 j).2 0 a) ((s0.2 j).2 0 b))), (0, aR (some (sI V j 99))), (1, aI a), (2, aI b)]) rfl ?_
  refine ew_sub (List.forall_mem_cons.mpr ⟨lm1, (List.forall_mem_cons.mpr ⟨lm2, (List.forall_mem_cons.mpr ⟨lm3, (List.forall_mem_cons.mpr ⟨lm0, e_nm⟩)⟩)⟩)⟩) ?_
  refine ew_aload_n dX3_unites_16 rfl lm0 ?_
  refine yw_get (cs := [3, 4, 5]) (v := aR (some (sI V j 0))) dX3_unites_17 (Nat.lt_of_lt_of_le hj (by decide)) (e_fl.a q258) yf_0 scl_G rfl ?_
  refine ew_iload_n dX3_unites_20 rfl lm1 ?_
  obtain ⟨v3, H⟩ := H
  refine yw_iald dX3_unites_21 (Nat.lt_of_lt_of_le hj (by decide)) rfl v3.1 v3.2 ?_
  refine ew_aload_n dX3_unites_22 rfl lm0 ?_
  refine yw_get (cs := [3, 4, 5]) (v := aR (some (sI V j 0))) dX3_unites_23 (Nat.lt_of_lt_of_le hj (by decide)) (e_fl.a q258) yf_0 scl_G rfl ?_
  refine ew_iload_n dX3_unites_26 rfl lm2 ?_
  obtain ⟨v4, H⟩ := H
  refine yw_iald dX3_unites_27 (Nat.lt_of_lt_of_le hj (by decide)) rfl v4.1 v4.2 ?_
  refine ew_max (d := d + 0) dX3_unites_28 q1018 (Nat.le_of_ble_eq_true rfl) ?_
  refine ew_istore dX3_unites_31 (by decide) (lv' := [(4, aI (jmax ((s0.2 j).2 0 a) ((s0.2 j).2 0 b))), (0, aR (some (sI V j 99))), (1, aI a), (2, aI b), (3, aI (jmin ((s0.2 j).2 0 a) ((s0.2 j).2 0 b)))]) rfl ?_
  refine ew_sub (List.forall_mem_cons.mpr ⟨lm1, (List.forall_mem_cons.mpr ⟨lm2, (List.forall_mem_cons.mpr ⟨lm3, (List.forall_mem_cons.mpr ⟨lm4, (List.forall_mem_cons.mpr ⟨lm0, e_nm⟩)⟩)⟩)⟩)⟩) ?_
  refine ew_iconst dX3_unites_33 (inI_of rfl) ?_
  refine ew_istore dX3_unites_34 (by decide) (lv' := [(5, aI 0), (0, aR (some (sI V j 99))), (1, aI a), (2, aI b), (3, aI (jmin ((s0.2 j).2 0 a) ((s0.2 j).2 0 b))), (4, aI (jmax ((s0.2 j).2 0 a) ((s0.2 j).2 0 b)))]) rfl ?_
  refine ew_sub (List.forall_mem_cons.mpr ⟨lm1, (List.forall_mem_cons.mpr ⟨lm2, (List.forall_mem_cons.mpr ⟨lm3, (List.forall_mem_cons.mpr ⟨lm4, (List.forall_mem_cons.mpr ⟨lm5, (List.forall_mem_cons.mpr ⟨lm0, e_nm⟩)⟩)⟩)⟩)⟩)⟩) ?_
  exact ew_room (Nat.le_refl _) (Nat.zero_le _) (Nat.zero_le _) (ew_sub (List.forall_mem_cons.mpr ⟨lm0, (List.forall_mem_cons.mpr ⟨lm3, (List.forall_mem_cons.mpr ⟨lm4, (List.forall_mem_cons.mpr ⟨lm5, e_nm⟩)⟩)⟩)⟩) H)
def C_X3_unites_Q (a : Int) (b : Int) (j : Nat) (s0 : XS) (K : XS → Prop) : Prop := ∀ (X36 : Int → Int → Int → XS → Prop), (∀ (x3 : Int) (x4 : Int) (x5 : Int) (s0 : XS), B_X3_unites_Q_36 X36 K x3 x4 x5 j s0 → X36 x3 x4 x5 s0) → B_X3_unites_Q_E X36 K a b j s0
theorem S_X3_unites_Q {d : Nat} {V : XV} {g : AH} {j : Nat} {K : XS → Prop} {a : Int} {b : Int} {s0 : XS} (hj : j < 4) (H : C_X3_unites_Q a b j s0 K) : Sp mm_X3_unites (d + 1) 0 0 [aR (some (sI V j 99)), aI a, aI b] (xh V s0 g) (xQv V g K) :=
  ew_sp rfl (Nat.le_of_ble_eq_true rfl) (T_X3_unites_Q_E d V g j hj K a b s0 (H _ (fun x3 x4 x5 s0 H => T_X3_unites_Q_36 d V g j hj K x3 x4 x5 s0 H)))
