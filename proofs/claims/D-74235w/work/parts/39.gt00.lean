/-! The reader: methods that throw, by program (gen/gxt.py) -/
set_option maxRecDepth 100000
def B_X2_function_R_2 (X2 : Int → Int → Prop) (K : Int → Prop) (x1 : Int) (x3 : Int) (s0 : MS) : Prop :=
  (((s0.1 30) ≤ x3 → K (-1)) ∧ (¬ (s0.1 30) ≤ x3 → (((0 ≤ x3 ∧ x3 < s0.1 30) ∧ rok s0 0) ∧ ((0 ≤ x3 ∧ x3 < s0.1 40) ∧ ((0 ≤ x3 ∧ x3 < s0.1 40) ∧ (((s0.2 30 x3) = x1 → K x3) ∧ (¬ (s0.2 30 x3) = x1 → (inI (x3 + 1) ∧ X2 x1 (x3 + 1)))))))))
def B_X2_function_R_E (X2 : Int → Int → Prop) (K : Int → Prop) (a : Int) (s0 : MS) : Prop :=
  X2 a 0
def W_X2_function_R_2 (d : Nat) (V : XV) (g : AH) (s0 : MS) (K : Int → Prop) (x1 : Int) (x3 : Int) : Prop := EW mm_X2_function (d + 3) 0 0 (cQ (rh V s0 g) K) 2 [(0, aR (some (bI V 1 0))), (1, aL x1), (3, aI x3)] [] (rh V s0 g)
set_option maxHeartbeats 4000000 in
theorem T_X2_function_R_2 (d : Nat) (V : XV) (g : AH) (K : Int → Prop) (x1 : Int) (x3 : Int) (s0 : MS) (H : B_X2_function_R_2 (W_X2_function_R_2 d V g s0 K) K x1 x3 s0) : EW mm_X2_function (d + 3) 0 0 (cQ (rh V s0 g) K) 2 [(0, aR (some (bI V 1 0))), (1, aL x1), (3, aI x3)] [] (rh V s0 g) := by
  refine ew_iload_n dX2_function_2 rfl lm2 ?_
  refine ew_aload_n dX2_function_3 rfl lm0 ?_
  refine rxw_book dX2_function_4 (e_fl.a q187) bf_0 ?_
  refine rlw_size (d := d + 2) (j := 0) dX2_function_7 (by decide) q686 (Nat.le_of_ble_eq_true rfl) ?_
  refine ew_icmp_ge (tgt := 44) dX2_function_12 (by decide) (fun c1 => ?_) (fun c1 => ?_)
  · replace H := H.1 c1
    refine ew_iconst dX2_function_44 (inI_of rfl) ?_
    exact ew_ret (o := some (aI (-1))) rfl ⟨_, rfl, rfl, H⟩ ⟨dX2_function_45, .int, rfl, Or.inl rfl, rfl⟩
  · replace H := H.2 c1
    refine ew_aload_n dX2_function_15 rfl lm0 ?_
    refine rxw_book dX2_function_16 (e_fl.a q187) bf_0 ?_
    refine ew_iload_n dX2_function_19 rfl lm2 ?_
    obtain ⟨v2, H⟩ := H
    refine rlw_g0 (d := d + 0) dX2_function_20 q688 (Nat.le_of_ble_eq_true rfl) v2.1 v2.2 ?_
    obtain ⟨v3, H⟩ := H
    refine rcf_cast (f := x3) dX2_function_25 q704 v3 ?_
    obtain ⟨v4, H⟩ := H
    refine rgf_0 (f := x3) dX2_function_28 (e_fl.c q717) ff_0 v4 ?_
    refine ew_lload_n dX2_function_31 rfl lm1 ?_
    refine ew_lcmp dX2_function_32 ?_
    refine ew_if_ne (tgt := 38) dX2_function_33 (by decide) (fun c5 => ?_) (fun c5 => ?_)
    · replace H := H.2 (fun z => c5 (jl_eq.mpr z))
      obtain ⟨v6, H⟩ := H
      refine ew_iinc dX2_function_38 lm2 (by decide) v6 (lv' := [(3, aI (x3 + 1)), (0, aR (some (bI V 1 0))), (1, aL x1)]) rfl ?_
      refine ew_sub (List.forall_mem_cons.mpr ⟨lm1, (List.forall_mem_cons.mpr ⟨lm2, (List.forall_mem_cons.mpr ⟨lm0, e_nm⟩)⟩)⟩) ?_
      refine ew_goto (tgt := 2) dX2_function_41 (by decide) ?_
      exact ew_room (Nat.le_refl _) (Nat.zero_le _) (Nat.zero_le _) (ew_sub (List.forall_mem_cons.mpr ⟨lm0, (List.forall_mem_cons.mpr ⟨lm1, (List.forall_mem_cons.mpr ⟨lm2, e_nm⟩)⟩)⟩) H)
    · replace H := H.1 (jl_eq.mp c5)
      refine ew_iload_n dX2_function_36 rfl lm2 ?_
      exact ew_ret (o := some (aI x3)) rfl ⟨_, rfl, rfl, H⟩ ⟨dX2_function_37, .int, rfl, Or.inl rfl, rfl⟩
set_option maxHeartbeats 4000000 in
theorem T_X2_function_R_E (d : Nat) (V : XV) (g : AH) (K : Int → Prop) (a : Int) (s0 : MS) (H : B_X2_function_R_E (W_X2_function_R_2 d V g s0 K) K a s0) : EW mm_X2_function (d + 3) 0 0 (cQ (rh V s0 g) K) 0 [(0, aR (some (bI V 1 0))), (1, aL a)] [] (rh V s0 g) := by
  refine ew_iconst dX2_function_0 (inI_of rfl) ?_
  refine ew_istore_n dX2_function_1 rfl (by decide) (lv' := [(3, aI 0), (0, aR (some (bI V 1 0))), (1, aL a)]) rfl ?_
  refine ew_sub (List.forall_mem_cons.mpr ⟨lm1, (List.forall_mem_cons.mpr ⟨lm2, (List.forall_mem_cons.mpr ⟨lm0, e_nm⟩)⟩)⟩) ?_
  exact ew_room (Nat.le_refl _) (Nat.zero_le _) (Nat.zero_le _) (ew_sub (List.forall_mem_cons.mpr ⟨lm0, (List.forall_mem_cons.mpr ⟨lm1, (List.forall_mem_cons.mpr ⟨lm2, e_nm⟩)⟩)⟩) H)
def C_X2_function_R (a : Int) (s0 : MS) (K : Int → Prop) : Prop := ∀ (X2 : Int → Int → Prop), (∀ (x1 : Int) (x3 : Int), B_X2_function_R_2 X2 K x1 x3 s0 → X2 x1 x3) → B_X2_function_R_E X2 K a s0
theorem S_X2_function_R {d : Nat} {V : XV} {g : AH} {K : Int → Prop} {a : Int} {s0 : MS} (H : C_X2_function_R a s0 K) : Sp mm_X2_function (d + 3) 0 0 [aR (some (bI V 1 0)), aL a] (rh V s0 g) (cQ (rh V s0 g) K) :=
  ew_sp rfl (Nat.le_of_ble_eq_true rfl) (T_X2_function_R_E d V g K a s0 (H _ (fun x1 x3 H => T_X2_function_R_2 d V g K x1 x3 s0 H)))
def B_X2_term_R_2 (X2 : Int → Int → Prop) (K : Int → Prop) (x1 : Int) (x3 : Int) (s0 : MS) : Prop :=
  (((s0.1 31) ≤ x3 → K (-1)) ∧ (¬ (s0.1 31) ≤ x3 → (((0 ≤ x3 ∧ x3 < s0.1 31) ∧ rok s0 1) ∧ ((0 ≤ x3 ∧ x3 < s0.1 41) ∧ ((0 ≤ x3 ∧ x3 < s0.1 41) ∧ (((s0.2 32 x3) = x1 → K x3) ∧ (¬ (s0.2 32 x3) = x1 → (inI (x3 + 1) ∧ X2 x1 (x3 + 1)))))))))
def B_X2_term_R_E (X2 : Int → Int → Prop) (K : Int → Prop) (a : Int) (s0 : MS) : Prop :=
  X2 a 0
def W_X2_term_R_2 (d : Nat) (V : XV) (g : AH) (s0 : MS) (K : Int → Prop) (x1 : Int) (x3 : Int) : Prop := EW mm_X2_term (d + 3) 0 0 (cQ (rh V s0 g) K) 2 [(0, aR (some (bI V 1 0))), (1, aL x1), (3, aI x3)] [] (rh V s0 g)
set_option maxHeartbeats 4000000 in
theorem T_X2_term_R_2 (d : Nat) (V : XV) (g : AH) (K : Int → Prop) (x1 : Int) (x3 : Int) (s0 : MS) (H : B_X2_term_R_2 (W_X2_term_R_2 d V g s0 K) K x1 x3 s0) : EW mm_X2_term (d + 3) 0 0 (cQ (rh V s0 g) K) 2 [(0, aR (some (bI V 1 0))), (1, aL x1), (3, aI x3)] [] (rh V s0 g) := by
  refine ew_iload_n dX2_term_2 rfl lm2 ?_
  refine ew_aload_n dX2_term_3 rfl lm0 ?_
  refine rxw_book dX2_term_4 (e_fl.a q190) bf_1 ?_
  refine rlw_size (d := d + 2) (j := 1) dX2_term_7 (by decide) q686 (Nat.le_of_ble_eq_true rfl) ?_
  refine ew_icmp_ge (tgt := 44) dX2_term_12 (by decide) (fun c1 => ?_) (fun c1 => ?_)
  · replace H := H.1 c1
    refine ew_iconst dX2_term_44 (inI_of rfl) ?_
    exact ew_ret (o := some (aI (-1))) rfl ⟨_, rfl, rfl, H⟩ ⟨dX2_term_45, .int, rfl, Or.inl rfl, rfl⟩
  · replace H := H.2 c1
    refine ew_aload_n dX2_term_15 rfl lm0 ?_
    refine rxw_book dX2_term_16 (e_fl.a q190) bf_1 ?_
    refine ew_iload_n dX2_term_19 rfl lm2 ?_
    obtain ⟨v2, H⟩ := H
    refine rlw_g1 (d := d + 0) dX2_term_20 q688 (Nat.le_of_ble_eq_true rfl) v2.1 v2.2 ?_
    obtain ⟨v3, H⟩ := H
    refine rcm_cast (f := x3) dX2_term_25 q709 v3 ?_
    obtain ⟨v4, H⟩ := H
    refine rgm_0 (f := x3) dX2_term_28 (e_fl.c q819) tf2_0 v4 ?_
    refine ew_lload_n dX2_term_31 rfl lm1 ?_
    refine ew_lcmp dX2_term_32 ?_
    refine ew_if_ne (tgt := 38) dX2_term_33 (by decide) (fun c5 => ?_) (fun c5 => ?_)
    · replace H := H.2 (fun z => c5 (jl_eq.mpr z))
      obtain ⟨v6, H⟩ := H
      refine ew_iinc dX2_term_38 lm2 (by decide) v6 (lv' := [(3, aI (x3 + 1)), (0, aR (some (bI V 1 0))), (1, aL x1)]) rfl ?_
      refine ew_sub (List.forall_mem_cons.mpr ⟨lm1, (List.forall_mem_cons.mpr ⟨lm2, (List.forall_mem_cons.mpr ⟨lm0, e_nm⟩)⟩)⟩) ?_
      refine ew_goto (tgt := 2) dX2_term_41 (by decide) ?_
      exact ew_room (Nat.le_refl _) (Nat.zero_le _) (Nat.zero_le _) (ew_sub (List.forall_mem_cons.mpr ⟨lm0, (List.forall_mem_cons.mpr ⟨lm1, (List.forall_mem_cons.mpr ⟨lm2, e_nm⟩)⟩)⟩) H)
    · replace H := H.1 (jl_eq.mp c5)
      refine ew_iload_n dX2_term_36 rfl lm2 ?_
      exact ew_ret (o := some (aI x3)) rfl ⟨_, rfl, rfl, H⟩ ⟨dX2_term_37, .int, rfl, Or.inl rfl, rfl⟩
set_option maxHeartbeats 4000000 in
theorem T_X2_term_R_E (d : Nat) (V : XV) (g : AH) (K : Int → Prop) (a : Int) (s0 : MS) (H : B_X2_term_R_E (W_X2_term_R_2 d V g s0 K) K a s0) : EW mm_X2_term (d + 3) 0 0 (cQ (rh V s0 g) K) 0 [(0, aR (some (bI V 1 0))), (1, aL a)] [] (rh V s0 g) := by
  refine ew_iconst dX2_term_0 (inI_of rfl) ?_
  refine ew_istore_n dX2_term_1 rfl (by decide) (lv' := [(3, aI 0), (0, aR (some (bI V 1 0))), (1, aL a)]) rfl ?_
  refine ew_sub (List.forall_mem_cons.mpr ⟨lm1, (List.forall_mem_cons.mpr ⟨lm2, (List.forall_mem_cons.mpr ⟨lm0, e_nm⟩)⟩)⟩) ?_
  exact ew_room (Nat.le_refl _) (Nat.zero_le _) (Nat.zero_le _) (ew_sub (List.forall_mem_cons.mpr ⟨lm0, (List.forall_mem_cons.mpr ⟨lm1, (List.forall_mem_cons.mpr ⟨lm2, e_nm⟩)⟩)⟩) H)
def C_X2_term_R (a : Int) (s0 : MS) (K : Int → Prop) : Prop := ∀ (X2 : Int → Int → Prop), (∀ (x1 : Int) (x3 : Int), B_X2_term_R_2 X2 K x1 x3 s0 → X2 x1 x3) → B_X2_term_R_E X2 K a s0
theorem S_X2_term_R {d : Nat} {V : XV} {g : AH} {K : Int → Prop} {a : Int} {s0 : MS} (H : C_X2_term_R a s0 K) : Sp mm_X2_term (d + 3) 0 0 [aR (some (bI V 1 0)), aL a] (rh V s0 g) (cQ (rh V s0 g) K) :=
  ew_sp rfl (Nat.le_of_ble_eq_true rfl) (T_X2_term_R_E d V g K a s0 (H _ (fun x1 x3 H => T_X2_term_R_2 d V g K x1 x3 s0 H)))
abbrev mm_X8_pass : EM := (yX8_pass, cX8_pass, 2, (Option.none : Option Jvm.ClassFile.FieldType), [])
theorem me_X8_pass : e_mth mm_X8_pass 1 := ⟨rfl, q793, q118, by decide +kernel, by decide⟩
def B_X8_pass_E (K : MS → Prop) (KX : Int → Int → Prop) (a : Int) (tp : Int → Int) (s0 : MS) : Prop :=
  (C_X8_isSign a tp s0 (fun r1 => ((r1 = 0 → KX 1 (s0.1 3)) ∧ (¬ r1 = 0 → (C_X8_go tp s0 (fun s8 => K s8))))))
set_option maxHeartbeats 4000000 in
theorem T_X8_pass_E (d : Nat) (V : XV) (g : AH) (tp : Int → Int) (hT : rtp tp g) (hf : g fI = none) (K : MS → Prop) (KX : Int → Int → Prop) (a : Int) (s0 : MS) (H : B_X8_pass_E K KX a tp s0) : EW mm_X8_pass (d + 5) 1 8 (rQv V g K KX) 0 [(0, aR (some rT)), (1, aI a)] [] (rh V s0 g) := by
  refine ew_aload_n dX8_pass_0 rfl lm0 ?_
  refine ew_aload_n dX8_pass_1 rfl lm0 ?_
  refine ew_iload_n dX8_pass_2 rfl lm1 ?_
  refine ew_callV (d := d + 4) (as := [aI a]) rfl dX8_pass_3 me_X8_isSign rfl (ci := 6) rfl rfl rh_T (Or.inl q794) q796 qs18 (Nat.le_of_ble_eq_true rfl) (Nat.zero_le _) (Nat.zero_le _) (S_X8_isSign (d := d + 3) hT H) (fun o h' hq3 _ => ?_) (fun E i h' q _ => (cQ_no q).elim)
  obtain ⟨r1, E4, rfl, H⟩ := hq3
  cases E4
  refine ew_iconst dX8_pass_6 (inI_of rfl) ?_
  refine rd_need (d := d + 0) (KX := KX) dX8_pass_7 q586 hf rfl (fun x h q => Or.inr q) (Nat.le_of_ble_eq_true rfl) (Nat.le_of_ble_eq_true rfl) (Nat.le_of_ble_eq_true rfl) H.1 (fun c12 => ?_)
  replace H := H.2 c12
  refine ew_aload_n dX8_pass_10 rfl lm0 ?_
  refine ew_callV (d := d + 4) (as := []) rfl dX8_pass_11 me_X8_go rfl (ci := 6) rfl rfl rh_T (Or.inl q447) q449 qs2 (Nat.le_of_ble_eq_true rfl) (Nat.zero_le _) (Nat.zero_le _) (S_X8_go (d := d + 0) hT H) (fun o h' hq9 _ => ?_) (fun E i h' q _ => (nQv_no q).elim)
  obtain ⟨s8, E10, rfl, H⟩ := hq9
  cases E10
  exact ew_ret (o := none) rfl (Or.inl ⟨_, rfl, rfl, H⟩) ⟨rfl, dX8_pass_14⟩
def C_X8_pass (a : Int) (tp : Int → Int) (s0 : MS) (K : MS → Prop) (KX : Int → Int → Prop) : Prop := B_X8_pass_E K KX a tp s0
theorem S_X8_pass {d : Nat} {V : XV} {g : AH} {tp : Int → Int} {K : MS → Prop} {KX : Int → Int → Prop} {a : Int} {s0 : MS} (hT : rtp tp g) (hf : g fI = none) (H : C_X8_pass a tp s0 K KX) : Sp mm_X8_pass (d + 5) 1 8 [aR (some rT), aI a] (rh V s0 g) (rQv V g K KX) :=
  ew_sp rfl (Nat.le_of_ble_eq_true rfl) (T_X8_pass_E d V g tp hT hf K KX a s0 (H ))
abbrev mm_X8_needName : EM := (yX8_needName, cX8_needName, 1, (Option.none : Option Jvm.ClassFile.FieldType), [])
theorem me_X8_needName : e_mth mm_X8_needName 0 := ⟨rfl, q680, q118, by decide +kernel, by decide⟩
def B_X8_needName_E (K : MS → Prop) (KX : Int → Int → Prop) (tp : Int → Int) (s0 : MS) : Prop :=
  (((s0.1 4) = 2 → (C_X8_isAny tp s0 (fun r3 => ((r3 = 0 → K s0) ∧ (¬ r3 = 0 → KX 1 (s0.1 3)))))) ∧ (¬ (s0.1 4) = 2 → KX 1 (s0.1 3)))
set_option maxHeartbeats 4000000 in
theorem T_X8_needName_E (d : Nat) (V : XV) (g : AH) (tp : Int → Int) (hT : rtp tp g) (hf : g fI = none) (K : MS → Prop) (KX : Int → Int → Prop) (s0 : MS) (H : B_X8_needName_E K KX tp s0) : EW mm_X8_needName (d + 6) 1 8 (rQv V g K KX) 0 [(0, aR (some rT))] [] (rh V s0 g) := by
  refine ew_aload_n dX8_needName_0 rfl lm0 ?_
  refine ew_aload_n dX8_needName_1 rfl lm0 ?_
  refine rd_get (v := aI (s0.1 4)) dX8_needName_2 (e_fl.a q422) rf_4 rfl ?_
  refine ew_iconst dX8_needName_5 (inI_of rfl) ?_
  refine ew_icmp_ne (tgt := 23) dX8_needName_6 (by decide) (fun c1 => ?_) (fun c1 => ?_)
  · replace H := H.2 c1
    refine ew_iconst dX8_needName_23 (inI_of rfl) ?_
    refine ew_iconst dX8_needName_24 (inI_of rfl) ?_
    exact rd_need (d := d + 1) (KX := KX) dX8_needName_25 q586 hf rfl (fun x h q => Or.inr q) (Nat.le_of_ble_eq_true rfl) (Nat.le_of_ble_eq_true rfl) (Nat.le_of_ble_eq_true rfl) (fun _ => H) (fun c => absurd rfl c)
  · replace H := H.1 c1
    refine ew_aload_n dX8_needName_9 rfl lm0 ?_
    refine ew_getsN dX8_needName_10 lm3 q555 ?_
    refine ew_callV (d := d + 5) (as := [aR (some (9, 16, 0))]) rfl dX8_needName_13 me_X8_isAny rfl (ci := 6) rfl rfl rh_T (Or.inl q557) q559 qs7 (Nat.le_of_ble_eq_true rfl) (Nat.zero_le _) (Nat.zero_le _) (S_X8_isAny (d := d + 0) hT H) (fun o h' hq5 _ => ?_) (fun E i h' q _ => (cQ_no q).elim)
    obtain ⟨r3, E6, rfl, H⟩ := hq5
    cases E6
    refine ew_if_ne (tgt := 23) dX8_needName_16 (by decide) (fun c8 => ?_) (fun c8 => ?_)
    · replace H := H.2 c8
      refine ew_iconst dX8_needName_23 (inI_of rfl) ?_
      refine ew_iconst dX8_needName_24 (inI_of rfl) ?_
      exact rd_need (d := d + 1) (KX := KX) dX8_needName_25 q586 hf rfl (fun x h q => Or.inr q) (Nat.le_of_ble_eq_true rfl) (Nat.le_of_ble_eq_true rfl) (Nat.le_of_ble_eq_true rfl) (fun _ => H) (fun c => absurd rfl c)
    · replace H := H.1 c8
      refine ew_iconst dX8_needName_19 (inI_of rfl) ?_
      refine ew_goto (tgt := 24) dX8_needName_20 (by decide) ?_
      refine ew_iconst dX8_needName_24 (inI_of rfl) ?_
      refine rd_need (d := d + 1) (KX := KX) dX8_needName_25 q586 hf rfl (fun x h q => Or.inr q) (Nat.le_of_ble_eq_true rfl) (Nat.le_of_ble_eq_true rfl) (Nat.le_of_ble_eq_true rfl) (fun c => absurd c (by decide)) (fun _ => ?_)
      exact ew_ret (o := none) rfl (Or.inl ⟨_, rfl, rfl, H⟩) ⟨rfl, dX8_needName_28⟩
def C_X8_needName (tp : Int → Int) (s0 : MS) (K : MS → Prop) (KX : Int → Int → Prop) : Prop := B_X8_needName_E K KX tp s0
theorem S_X8_needName {d : Nat} {V : XV} {g : AH} {tp : Int → Int} {K : MS → Prop} {KX : Int → Int → Prop} {s0 : MS} (hT : rtp tp g) (hf : g fI = none) (H : C_X8_needName tp s0 K KX) : Sp mm_X8_needName (d + 6) 1 8 [aR (some rT)] (rh V s0 g) (rQv V g K KX) :=
  ew_sp rfl (Nat.le_of_ble_eq_true rfl) (T_X8_needName_E d V g tp hT hf K KX s0 (H ))
abbrev mm_X8_fresh : EM := (yX8_fresh, cX8_fresh, 3, (Option.some .long), [])
theorem me_X8_fresh : e_mth mm_X8_fresh 0 := ⟨rfl, q676, q118, by decide +kernel, by decide⟩
def B_X8_fresh_E (K : Int → MS → Prop) (KX : Int → Int → Prop) (tp : Int → Int) (s0 : MS) : Prop :=
  (C_X8_needName tp s0 (fun s2 => (C_X2_function_R (s2.1 6) s2 (fun r6 => ((r6 = (-1) → (C_X2_term_R (s2.1 6) s2 (fun r13 => ((r13 = (-1) → (C_X8_go tp s2 (fun s22 => K (s2.1 6) s22))) ∧ (¬ r13 = (-1) → KX 3 (s2.1 3)))))) ∧ (¬ r6 = (-1) → KX 3 (s2.1 3)))))) KX)
set_option maxHeartbeats 4000000 in
theorem T_X8_fresh_E (d : Nat) (V : XV) (g : AH) (tp : Int → Int) (hT : rtp tp g) (hf : g fI = none) (K : Int → MS → Prop) (KX : Int → Int → Prop) (s0 : MS) (H : B_X8_fresh_E K KX tp s0) : EW mm_X8_fresh (d + 7) 2 16 (rQl V g K KX) 0 [(0, aR (some rT))] [] (rh V s0 g) := by
  refine ew_aload_n dX8_fresh_0 rfl lm0 ?_
  refine ew_callV (d := d + 6) (as := []) rfl dX8_fresh_1 me_X8_needName rfl (ci := 6) rfl rfl rh_T (Or.inl q677) q679 qs13 (Nat.le_of_ble_eq_true rfl) (Nat.le_of_ble_eq_true rfl) (Nat.le_of_ble_eq_true rfl) (S_X8_needName (d := d + 0) hT hf H) (fun o h' hq3 _ => ?_) (fun E i h' q _ => ex_out (Or.inr (rQv_x q)) rfl)
  obtain ⟨s2, E4, rfl, H⟩ := rQv_n hq3
  cases E4
  refine ew_aload_n dX8_fresh_4 rfl lm0 ?_
  refine ew_aload_n dX8_fresh_5 rfl lm0 ?_
  refine rd_get (v := aR (some (bI V 1 0))) dX8_fresh_6 (e_fl.a q419) rf_1 rfl ?_
  refine ew_aload_n dX8_fresh_9 rfl lm0 ?_
  refine rd_get (v := aL (s2.1 6)) dX8_fresh_10 (e_fl.a q424) rf_6 rfl ?_
  refine ew_callV (d := d + 6) (as := [aL (s2.1 6)]) rfl dX8_fresh_13 me_X2_function rfl (ci := 2) rfl rfl (rxh_of (rxC_b (by decide))) (Or.inl q681) q682 q683 (Nat.le_of_ble_eq_true rfl) (Nat.zero_le _) (Nat.zero_le _) (S_X2_function_R (d := d + 3) H) (fun o h' hq8 _ => ?_) (fun E i h' q _ => (cQ_no q).elim)
  obtain ⟨r6, E9, rfl, H⟩ := hq8
  cases E9
  refine ew_iconst dX8_fresh_16 (inI_of rfl) ?_
  refine ew_icmp_ne (tgt := 39) dX8_fresh_17 (by decide) (fun c11 => ?_) (fun c11 => ?_)
  · replace H := H.2 c11
    refine ew_iconst dX8_fresh_39 (inI_of rfl) ?_
    refine ew_iconst dX8_fresh_40 (inI_of rfl) ?_
    exact rd_need (d := d + 2) (KX := KX) dX8_fresh_41 q586 hf rfl (fun x h q => Or.inr q) (Nat.le_of_ble_eq_true rfl) (Nat.le_of_ble_eq_true rfl) (Nat.le_of_ble_eq_true rfl) (fun _ => H) (fun c => absurd rfl c)
  · replace H := H.1 c11
    refine ew_aload_n dX8_fresh_20 rfl lm0 ?_
    refine rd_get (v := aR (some (bI V 1 0))) dX8_fresh_21 (e_fl.a q419) rf_1 rfl ?_
    refine ew_aload_n dX8_fresh_24 rfl lm0 ?_
    refine rd_get (v := aL (s2.1 6)) dX8_fresh_25 (e_fl.a q424) rf_6 rfl ?_
    refine ew_callV (d := d + 6) (as := [aL (s2.1 6)]) rfl dX8_fresh_28 me_X2_term rfl (ci := 2) rfl rfl (rxh_of (rxC_b (by decide))) (Or.inl q705) q706 q707 (Nat.le_of_ble_eq_true rfl) (Nat.zero_le _) (Nat.zero_le _) (S_X2_term_R (d := d + 3) H) (fun o h' hq15 _ => ?_) (fun E i h' q _ => (cQ_no q).elim)
    obtain ⟨r13, E16, rfl, H⟩ := hq15
    cases E16
    refine ew_iconst dX8_fresh_31 (inI_of rfl) ?_
    refine ew_icmp_ne (tgt := 39) dX8_fresh_32 (by decide) (fun c18 => ?_) (fun c18 => ?_)
    · replace H := H.2 c18
      refine ew_iconst dX8_fresh_39 (inI_of rfl) ?_
      refine ew_iconst dX8_fresh_40 (inI_of rfl) ?_
      exact rd_need (d := d + 2) (KX := KX) dX8_fresh_41 q586 hf rfl (fun x h q => Or.inr q) (Nat.le_of_ble_eq_true rfl) (Nat.le_of_ble_eq_true rfl) (Nat.le_of_ble_eq_true rfl) (fun _ => H) (fun c => absurd rfl c)
    · replace H := H.1 c18
      refine ew_iconst dX8_fresh_35 (inI_of rfl) ?_
      refine ew_goto (tgt := 40) dX8_fresh_36 (by decide) ?_
      refine ew_iconst dX8_fresh_40 (inI_of rfl) ?_
      refine rd_need (d := d + 2) (KX := KX) dX8_fresh_41 q586 hf rfl (fun x h q => Or.inr q) (Nat.le_of_ble_eq_true rfl) (Nat.le_of_ble_eq_true rfl) (Nat.le_of_ble_eq_true rfl) (fun c => absurd c (by decide)) (fun _ => ?_)
      refine ew_aload_n dX8_fresh_44 rfl lm0 ?_
      refine rd_get (v := aL (s2.1 6)) dX8_fresh_45 (e_fl.a q424) rf_6 rfl ?_
      refine ew_lstore_n dX8_fresh_48 rfl (by decide) (lv' := [(1, aL (s2.1 6)), (0, aR (some rT))]) rfl ?_
      refine ew_sub (List.forall_mem_cons.mpr ⟨lm1, (List.forall_mem_cons.mpr ⟨lm0, e_nm⟩)⟩) ?_
      refine ew_aload_n dX8_fresh_49 rfl lm0 ?_
      refine ew_callV (d := d + 6) (as := []) rfl dX8_fresh_50 me_X8_go rfl (ci := 6) rfl rfl rh_T (Or.inl q447) q449 qs2 (Nat.le_of_ble_eq_true rfl) (Nat.zero_le _) (Nat.zero_le _) (S_X8_go (d := d + 2) hT H) (fun o h' hq23 _ => ?_) (fun E i h' q _ => (nQv_no q).elim)
      obtain ⟨s22, E24, rfl, H⟩ := hq23
      cases E24
      refine ew_lload_n dX8_fresh_53 rfl lm1 ?_
      exact ew_ret (o := some (aL (s2.1 6))) rfl (Or.inl ⟨_, _, rfl, rfl, H⟩) ⟨dX8_fresh_54, rfl⟩
def C_X8_fresh (tp : Int → Int) (s0 : MS) (K : Int → MS → Prop) (KX : Int → Int → Prop) : Prop := B_X8_fresh_E K KX tp s0
theorem S_X8_fresh {d : Nat} {V : XV} {g : AH} {tp : Int → Int} {K : Int → MS → Prop} {KX : Int → Int → Prop} {s0 : MS} (hT : rtp tp g) (hf : g fI = none) (H : C_X8_fresh tp s0 K KX) : Sp mm_X8_fresh (d + 7) 2 16 [aR (some rT)] (rh V s0 g) (rQl V g K KX) :=
  ew_sp rfl (Nat.le_of_ble_eq_true rfl) (T_X8_fresh_E d V g tp hT hf K KX s0 (H ))
abbrev mm_X8_function : EM := (yX8_function, cX8_function, 2, (Option.some .int), [])
theorem me_X8_function : e_mth mm_X8_function 0 := ⟨rfl, q801, q118, by decide +kernel, by decide⟩
def B_X8_function_E (K : Int → MS → Prop) (KX : Int → Int → Prop) (tp : Int → Int) (s0 : MS) : Prop :=
  (C_X8_needName tp s0 (fun s2 => (C_X2_function_R (s2.1 6) s2 (fun r6 => ((r6 = (-1) → KX 3 (s2.1 3)) ∧ (¬ r6 = (-1) → (C_X8_go tp s2 (fun s15 => K r6 s15))))))) KX)
set_option maxHeartbeats 4000000 in
theorem T_X8_function_E (d : Nat) (V : XV) (g : AH) (tp : Int → Int) (hT : rtp tp g) (hf : g fI = none) (K : Int → MS → Prop) (KX : Int → Int → Prop) (s0 : MS) (H : B_X8_function_E K KX tp s0) : EW mm_X8_function (d + 7) 2 16 (rQi V g K KX) 0 [(0, aR (some rT))] [] (rh V s0 g) := by
  refine ew_aload_n dX8_function_0 rfl lm0 ?_
  refine ew_callV (d := d + 6) (as := []) rfl dX8_function_1 me_X8_needName rfl (ci := 6) rfl rfl rh_T (Or.inl q677) q679 qs13 (Nat.le_of_ble_eq_true rfl) (Nat.le_of_ble_eq_true rfl) (Nat.le_of_ble_eq_true rfl) (S_X8_needName (d := d + 0) hT hf H) (fun o h' hq3 _ => ?_) (fun E i h' q _ => ex_out (Or.inr (rQv_x q)) rfl)
  obtain ⟨s2, E4, rfl, H⟩ := rQv_n hq3
  cases E4
  refine ew_aload_n dX8_function_4 rfl lm0 ?_
  refine rd_get (v := aR (some (bI V 1 0))) dX8_function_5 (e_fl.a q419) rf_1 rfl ?_
  refine ew_aload_n dX8_function_8 rfl lm0 ?_
  refine rd_get (v := aL (s2.1 6)) dX8_function_9 (e_fl.a q424) rf_6 rfl ?_
  refine ew_callV (d := d + 6) (as := [aL (s2.1 6)]) rfl dX8_function_12 me_X2_function rfl (ci := 2) rfl rfl (rxh_of (rxC_b (by decide))) (Or.inl q681) q682 q683 (Nat.le_of_ble_eq_true rfl) (Nat.zero_le _) (Nat.zero_le _) (S_X2_function_R (d := d + 3) H) (fun o h' hq8 _ => ?_) (fun E i h' q _ => (cQ_no q).elim)
  obtain ⟨r6, E9, rfl, H⟩ := hq8
  cases E9
  refine ew_istore_n dX8_function_15 rfl (by decide) (lv' := [(1, aI r6), (0, aR (some rT))]) rfl ?_
  refine ew_sub (List.forall_mem_cons.mpr ⟨lm1, (List.forall_mem_cons.mpr ⟨lm0, e_nm⟩)⟩) ?_
  refine ew_aload_n dX8_function_16 rfl lm0 ?_
  refine ew_iload_n dX8_function_17 rfl lm1 ?_
  refine ew_iconst dX8_function_18 (inI_of rfl) ?_
  refine ew_icmp_eq (tgt := 26) dX8_function_19 (by decide) (fun c11 => ?_) (fun c11 => ?_)
  · replace H := H.1 c11
    refine ew_iconst dX8_function_26 (inI_of rfl) ?_
    refine ew_iconst dX8_function_27 (inI_of rfl) ?_
    exact rd_need (d := d + 2) (KX := KX) dX8_function_28 q586 hf rfl (fun x h q => Or.inr q) (Nat.le_of_ble_eq_true rfl) (Nat.le_of_ble_eq_true rfl) (Nat.le_of_ble_eq_true rfl) (fun _ => H) (fun c => absurd rfl c)
  · replace H := H.2 c11
    refine ew_iconst dX8_function_22 (inI_of rfl) ?_
    refine ew_goto (tgt := 27) dX8_function_23 (by decide) ?_
    refine ew_iconst dX8_function_27 (inI_of rfl) ?_
    refine rd_need (d := d + 2) (KX := KX) dX8_function_28 q586 hf rfl (fun x h q => Or.inr q) (Nat.le_of_ble_eq_true rfl) (Nat.le_of_ble_eq_true rfl) (Nat.le_of_ble_eq_true rfl) (fun c => absurd c (by decide)) (fun _ => ?_)
    refine ew_aload_n dX8_function_31 rfl lm0 ?_
    refine ew_callV (d := d + 6) (as := []) rfl dX8_function_32 me_X8_go rfl (ci := 6) rfl rfl rh_T (Or.inl q447) q449 qs2 (Nat.le_of_ble_eq_true rfl) (Nat.zero_le _) (Nat.zero_le _) (S_X8_go (d := d + 2) hT H) (fun o h' hq16 _ => ?_) (fun E i h' q _ => (nQv_no q).elim)
    obtain ⟨s15, E17, rfl, H⟩ := hq16
    cases E17
    refine ew_iload_n dX8_function_35 rfl lm1 ?_
    exact ew_ret (o := some (aI r6)) rfl (Or.inl ⟨_, _, rfl, rfl, H⟩) ⟨dX8_function_36, .int, rfl, Or.inl rfl, rfl⟩
def C_X8_function (tp : Int → Int) (s0 : MS) (K : Int → MS → Prop) (KX : Int → Int → Prop) : Prop := B_X8_function_E K KX tp s0
theorem S_X8_function {d : Nat} {V : XV} {g : AH} {tp : Int → Int} {K : Int → MS → Prop} {KX : Int → Int → Prop} {s0 : MS} (hT : rtp tp g) (hf : g fI = none) (H : C_X8_function tp s0 K KX) : Sp mm_X8_function (d + 7) 2 16 [aR (some rT)] (rh V s0 g) (rQi V g K KX) :=
  ew_sp rfl (Nat.le_of_ble_eq_true rfl) (T_X8_function_E d V g tp hT hf K KX s0 (H ))
abbrev mm_X8_term : EM := (yX8_term, cX8_term, 2, (Option.some .int), [])
theorem me_X8_term : e_mth mm_X8_term 0 := ⟨rfl, q813, q118, by decide +kernel, by decide⟩
def B_X8_term_E (K : Int → MS → Prop) (KX : Int → Int → Prop) (tp : Int → Int) (s0 : MS) : Prop :=
  (C_X8_needName tp s0 (fun s2 => (C_X2_term_R (s2.1 6) s2 (fun r6 => ((r6 = (-1) → KX 3 (s2.1 3)) ∧ (¬ r6 = (-1) → (C_X8_go tp s2 (fun s15 => K r6 s15))))))) KX)
set_option maxHeartbeats 4000000 in
theorem T_X8_term_E (d : Nat) (V : XV) (g : AH) (tp : Int → Int) (hT : rtp tp g) (hf : g fI = none) (K : Int → MS → Prop) (KX : Int → Int → Prop) (s0 : MS) (H : B_X8_term_E K KX tp s0) : EW mm_X8_term (d + 7) 2 16 (rQi V g K KX) 0 [(0, aR (some rT))] [] (rh V s0 g) := by
  refine ew_aload_n dX8_term_0 rfl lm0 ?_
  refine ew_callV (d := d + 6) (as := []) rfl dX8_term_1 me_X8_needName rfl (ci := 6) rfl rfl rh_T (Or.inl q677) q679 qs13 (Nat.le_of_ble_eq_true rfl) (Nat.le_of_ble_eq_true rfl) (Nat.le_of_ble_eq_true rfl) (S_X8_needName (d := d + 0) hT hf H) (fun o h' hq3 _ => ?_) (fun E i h' q _ => ex_out (Or.inr (rQv_x q)) rfl)
  obtain ⟨s2, E4, rfl, H⟩ := rQv_n hq3
  cases E4
  refine ew_aload_n dX8_term_4 rfl lm0 ?_
  refine rd_get (v := aR (some (bI V 1 0))) dX8_term_5 (e_fl.a q419) rf_1 rfl ?_
  refine ew_aload_n dX8_term_8 rfl lm0 ?_
  refine rd_get (v := aL (s2.1 6)) dX8_term_9 (e_fl.a q424) rf_6 rfl ?_
  refine ew_callV (d := d + 6) (as := [aL (s2.1 6)]) rfl dX8_term_12 me_X2_term rfl (ci := 2) rfl rfl (rxh_of (rxC_b (by decide))) (Or.inl q705) q706 q707 (Nat.le_of_ble_eq_true rfl) (Nat.zero_le _) (Nat.zero_le _) (S_X2_term_R (d := d + 3) H) (fun o h' hq8 _ => ?_) (fun E i h' q _ => (cQ_no q).elim)
  obtain ⟨r6, E9, rfl, H⟩ := hq8
  cases E9
  refine ew_istore_n dX8_term_15 rfl (by decide) (lv' := [(1, aI r6), (0, aR (some rT))]) rfl ?_
  refine ew_sub (List.forall_mem_cons.mpr ⟨lm1, (List.forall_mem_cons.mpr ⟨lm0, e_nm⟩)⟩) ?_
  refine ew_aload_n dX8_term_16 rfl lm0 ?_
  refine ew_iload_n dX8_term_17 rfl lm1 ?_
  refine ew_iconst dX8_term_18 (inI_of rfl) ?_
  refine ew_icmp_eq (tgt := 26) dX8_term_19 (by decide) (fun c11 => ?_) (fun c11 => ?_)
  · replace H := H.1 c11
    refine ew_iconst dX8_term_26 (inI_of rfl) ?_
    refine ew_iconst dX8_term_27 (inI_of rfl) ?_
    exact rd_need (d := d + 2) (KX := KX) dX8_term_28 q586 hf rfl (fun x h q => Or.inr q) (Nat.le_of_ble_eq_true rfl) (Nat.le_of_ble_eq_true rfl) (Nat.le_of_ble_eq_true rfl) (fun _ => H) (fun c => absurd rfl c)
  · replace H := H.2 c11
    refine ew_iconst dX8_term_22 (inI_of rfl) ?_
    refine ew_goto (tgt := 27) dX8_term_23 (by decide) ?_
    refine ew_iconst dX8_term_27 (inI_of rfl) ?_
    refine rd_need (d := d + 2) (KX := KX) dX8_term_28 q586 hf rfl (fun x h q => Or.inr q) (Nat.le_of_ble_eq_true rfl) (Nat.le_of_ble_eq_true rfl) (Nat.le_of_ble_eq_true rfl) (fun c => absurd c (by decide)) (fun _ => ?_)
    refine ew_aload_n dX8_term_31 rfl lm0 ?_
    refine ew_callV (d := d + 6) (as := []) rfl dX8_term_32 me_X8_go rfl (ci := 6) rfl rfl rh_T (Or.inl q447) q449 qs2 (Nat.le_of_ble_eq_true rfl) (Nat.zero_le _) (Nat.zero_le _) (S_X8_go (d := d + 2) hT H) (fun o h' hq16 _ => ?_) (fun E i h' q _ => (nQv_no q).elim)
    obtain ⟨s15, E17, rfl, H⟩ := hq16
    cases E17
    refine ew_iload_n dX8_term_35 rfl lm1 ?_
    exact ew_ret (o := some (aI r6)) rfl (Or.inl ⟨_, _, rfl, rfl, H⟩) ⟨dX8_term_36, .int, rfl, Or.inl rfl, rfl⟩
def C_X8_term (tp : Int → Int) (s0 : MS) (K : Int → MS → Prop) (KX : Int → Int → Prop) : Prop := B_X8_term_E K KX tp s0
theorem S_X8_term {d : Nat} {V : XV} {g : AH} {tp : Int → Int} {K : Int → MS → Prop} {KX : Int → Int → Prop} {s0 : MS} (hT : rtp tp g) (hf : g fI = none) (H : C_X8_term tp s0 K KX) : Sp mm_X8_term (d + 7) 2 16 [aR (some rT)] (rh V s0 g) (rQi V g K KX) :=
  ew_sp rfl (Nat.le_of_ble_eq_true rfl) (T_X8_term_E d V g tp hT hf K KX s0 (H ))
abbrev mm_X8_begin : EM := (yX8_begin, cX8_begin, 3, (Option.none : Option Jvm.ClassFile.FieldType), [])
theorem me_X8_begin : e_mth mm_X8_begin 2 := ⟨rfl, q662, q118, by decide +kernel, by decide⟩
def B_X8_begin_0_E (K : MS → Prop) (KX : Int → Int → Prop) (a : Int) (tp : Int → Int) (s0 : MS) : Prop :=
  ((a ≤ (s0.1 30) → KX 4 (s0.1 3)) ∧ (¬ a ≤ (s0.1 30) → (C_X8_go tp s0 (fun s5 => K s5))))
set_option maxHeartbeats 4000000 in
theorem T_X8_begin_0_E (d : Nat) (V : XV) (g : AH) (tp : Int → Int) (hT : rtp tp g) (hf : g fI = none) (K : MS → Prop) (KX : Int → Int → Prop) (a : Int) (s0 : MS) (H : B_X8_begin_0_E K KX a tp s0) : EW mm_X8_begin (d + 5) 1 8 (rQv V g K KX) 0 [(0, aR (some rT)), (1, aR (some (bI V 2 0))), (2, aI a)] [] (rh V s0 g) := by
  refine ew_aload_n dX8_begin_0 rfl lm0 ?_
  refine ew_aload_n dX8_begin_1 rfl lm1 ?_
  refine rlw_size (d := d + 4) (j := 0) dX8_begin_2 (by decide) q664 (Nat.le_of_ble_eq_true rfl) ?_
  refine ew_iload_n dX8_begin_7 rfl lm2 ?_
  refine ew_icmp_ge (tgt := 15) dX8_begin_8 (by decide) (fun c1 => ?_) (fun c1 => ?_)
  · replace H := H.1 c1
    refine ew_iconst dX8_begin_15 (inI_of rfl) ?_
    refine ew_iconst dX8_begin_16 (inI_of rfl) ?_
    exact rd_need (d := d + 0) (KX := KX) dX8_begin_17 q586 hf rfl (fun x h q => Or.inr q) (Nat.le_of_ble_eq_true rfl) (Nat.le_of_ble_eq_true rfl) (Nat.le_of_ble_eq_true rfl) (fun _ => H) (fun c => absurd rfl c)
  · replace H := H.2 c1
    refine ew_iconst dX8_begin_11 (inI_of rfl) ?_
    refine ew_goto (tgt := 16) dX8_begin_12 (by decide) ?_
    refine ew_iconst dX8_begin_16 (inI_of rfl) ?_
    refine rd_need (d := d + 0) (KX := KX) dX8_begin_17 q586 hf rfl (fun x h q => Or.inr q) (Nat.le_of_ble_eq_true rfl) (Nat.le_of_ble_eq_true rfl) (Nat.le_of_ble_eq_true rfl) (fun c => absurd c (by decide)) (fun _ => ?_)
    refine ew_aload_n dX8_begin_20 rfl lm0 ?_
    refine ew_callV (d := d + 4) (as := []) rfl dX8_begin_21 me_X8_go rfl (ci := 6) rfl rfl rh_T (Or.inl q447) q449 qs2 (Nat.le_of_ble_eq_true rfl) (Nat.zero_le _) (Nat.zero_le _) (S_X8_go (d := d + 0) hT H) (fun o h' hq6 _ => ?_) (fun E i h' q _ => (nQv_no q).elim)
    obtain ⟨s5, E7, rfl, H⟩ := hq6
    cases E7
    exact ew_ret (o := none) rfl (Or.inl ⟨_, rfl, rfl, H⟩) ⟨rfl, dX8_begin_24⟩
def C_X8_begin_0 (a : Int) (tp : Int → Int) (s0 : MS) (K : MS → Prop) (KX : Int → Int → Prop) : Prop := B_X8_begin_0_E K KX a tp s0
theorem S_X8_begin_0 {d : Nat} {V : XV} {g : AH} {tp : Int → Int} {K : MS → Prop} {KX : Int → Int → Prop} {a : Int} {s0 : MS} (hT : rtp tp g) (hf : g fI = none) (H : C_X8_begin_0 a tp s0 K KX) : Sp mm_X8_begin (d + 5) 1 8 [aR (some rT), aR (some (bI V 2 0)), aI a] (rh V s0 g) (rQv V g K KX) :=
  ew_sp rfl (Nat.le_of_ble_eq_true rfl) (T_X8_begin_0_E d V g tp hT hf K KX a s0 (H ))
def B_X8_begin_1_E (K : MS → Prop) (KX : Int → Int → Prop) (a : Int) (tp : Int → Int) (s0 : MS) : Prop :=
  ((a ≤ (s0.1 31) → KX 4 (s0.1 3)) ∧ (¬ a ≤ (s0.1 31) → (C_X8_go tp s0 (fun s5 => K s5))))
set_option maxHeartbeats 4000000 in
theorem T_X8_begin_1_E (d : Nat) (V : XV) (g : AH) (tp : Int → Int) (hT : rtp tp g) (hf : g fI = none) (K : MS → Prop) (KX : Int → Int → Prop) (a : Int) (s0 : MS) (H : B_X8_begin_1_E K KX a tp s0) : EW mm_X8_begin (d + 5) 1 8 (rQv V g K KX) 0 [(0, aR (some rT)), (1, aR (some (bI V 2 1))), (2, aI a)] [] (rh V s0 g) := by
  refine ew_aload_n dX8_begin_0 rfl lm0 ?_
  refine ew_aload_n dX8_begin_1 rfl lm1 ?_
  refine rlw_size (d := d + 4) (j := 1) dX8_begin_2 (by decide) q664 (Nat.le_of_ble_eq_true rfl) ?_
  refine ew_iload_n dX8_begin_7 rfl lm2 ?_
  refine ew_icmp_ge (tgt := 15) dX8_begin_8 (by decide) (fun c1 => ?_) (fun c1 => ?_)
  · replace H := H.1 c1
    refine ew_iconst dX8_begin_15 (inI_of rfl) ?_
    refine ew_iconst dX8_begin_16 (inI_of rfl) ?_
    exact rd_need (d := d + 0) (KX := KX) dX8_begin_17 q586 hf rfl (fun x h q => Or.inr q) (Nat.le_of_ble_eq_true rfl) (Nat.le_of_ble_eq_true rfl) (Nat.le_of_ble_eq_true rfl) (fun _ => H) (fun c => absurd rfl c)
  · replace H := H.2 c1
    refine ew_iconst dX8_begin_11 (inI_of rfl) ?_
    refine ew_goto (tgt := 16) dX8_begin_12 (by decide) ?_
    refine ew_iconst dX8_begin_16 (inI_of rfl) ?_
    refine rd_need (d := d + 0) (KX := KX) dX8_begin_17 q586 hf rfl (fun x h q => Or.inr q) (Nat.le_of_ble_eq_true rfl) (Nat.le_of_ble_eq_true rfl) (Nat.le_of_ble_eq_true rfl) (fun c => absurd c (by decide)) (fun _ => ?_)
    refine ew_aload_n dX8_begin_20 rfl lm0 ?_
    refine ew_callV (d := d + 4) (as := []) rfl dX8_begin_21 me_X8_go rfl (ci := 6) rfl rfl rh_T (Or.inl q447) q449 qs2 (Nat.le_of_ble_eq_true rfl) (Nat.zero_le _) (Nat.zero_le _) (S_X8_go (d := d + 0) hT H) (fun o h' hq6 _ => ?_) (fun E i h' q _ => (nQv_no q).elim)
    obtain ⟨s5, E7, rfl, H⟩ := hq6
    cases E7
    exact ew_ret (o := none) rfl (Or.inl ⟨_, rfl, rfl, H⟩) ⟨rfl, dX8_begin_24⟩
def C_X8_begin_1 (a : Int) (tp : Int → Int) (s0 : MS) (K : MS → Prop) (KX : Int → Int → Prop) : Prop := B_X8_begin_1_E K KX a tp s0
theorem S_X8_begin_1 {d : Nat} {V : XV} {g : AH} {tp : Int → Int} {K : MS → Prop} {KX : Int → Int → Prop} {a : Int} {s0 : MS} (hT : rtp tp g) (hf : g fI = none) (H : C_X8_begin_1 a tp s0 K KX) : Sp mm_X8_begin (d + 5) 1 8 [aR (some rT), aR (some (bI V 2 1)), aI a] (rh V s0 g) (rQv V g K KX) :=
  ew_sp rfl (Nat.le_of_ble_eq_true rfl) (T_X8_begin_1_E d V g tp hT hf K KX a s0 (H ))
