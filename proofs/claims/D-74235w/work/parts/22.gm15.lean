set_option maxRecDepth 100000
abbrev mm_laysCosts : EM := (yX7_laysCosts, cX7_laysCosts, 3, none, [])
theorem me_laysCosts : e_mth mm_laysCosts 0 := ⟨rfl, q1861, q117, by decide +kernel, by decide⟩
def B_laysCosts_2 (X2 : Int → MS → Prop) (X12 : Int → Int → MS → Prop) (X56 : Int → MS → Prop) (K : MS → Prop) (x1 : Int) (s0 : MS) : Prop :=
  (((s0.1 27) ≤ x1 → X56 1 s0) ∧ (¬ (s0.1 27) ≤ x1 → X12 x1 0 s0))
def B_laysCosts_12 (X2 : Int → MS → Prop) (X12 : Int → Int → MS → Prop) (X56 : Int → MS → Prop) (K : MS → Prop) (x1 : Int) (x2 : Int) (s0 : MS) : Prop :=
  (((s0.1 27) ≤ x2 → (inI (x1 + 1) ∧ X2 (x1 + 1) s0)) ∧ (¬ (s0.1 27) ≤ x2 → (C_pair x1 x2 s0 (fun r6 s3 => ((x1 = x2 → ((0 ≤ r6 ∧ r6 < 576) ∧ ∀ s12 : MS, s12 = ma s3 49 r6 0 → (inI (x2 + 1) ∧ X12 x1 (x2 + 1) s12))) ∧ (¬ x1 = x2 → ((0 ≤ r6 ∧ r6 < 576) ∧ ∀ s8 : MS, s8 = ma s3 49 r6 4000000000 → (inI (x2 + 1) ∧ X12 x1 (x2 + 1) s8))))))))
def B_laysCosts_56 (X2 : Int → MS → Prop) (X12 : Int → Int → MS → Prop) (X56 : Int → MS → Prop) (K : MS → Prop) (x1 : Int) (s0 : MS) : Prop :=
  ((x1 = 0 → K s0) ∧ (¬ x1 = 0 → (C_lessens s0 (fun r5 s2 => X56 r5 s2))))
def B_laysCosts_E (X2 : Int → MS → Prop) (X12 : Int → Int → MS → Prop) (X56 : Int → MS → Prop) (K : MS → Prop)  (s0 : MS) : Prop :=
  X2 0 s0
def W_laysCosts_2 (d : Nat) (g : AH) (K : MS → Prop) (x1 : Int) (s0 : MS) : Prop := EW mm_laysCosts (d + 3) 0 0 (mQ g K) 2 [(0, aR (some mT)), (1, aI x1)] [] (mh s0 g)
def W_laysCosts_12 (d : Nat) (g : AH) (K : MS → Prop) (x1 : Int) (x2 : Int) (s0 : MS) : Prop := EW mm_laysCosts (d + 3) 0 0 (mQ g K) 12 [(0, aR (some mT)), (1, aI x1), (2, aI x2)] [] (mh s0 g)
def W_laysCosts_56 (d : Nat) (g : AH) (K : MS → Prop) (x1 : Int) (s0 : MS) : Prop := EW mm_laysCosts (d + 3) 0 0 (mQ g K) 56 [(0, aR (some mT)), (1, aI x1)] [] (mh s0 g)
set_option maxHeartbeats 4000000 in
theorem T_laysCosts_2 (d : Nat) (g : AH) (K : MS → Prop) (x1 : Int) (s0 : MS) (H : B_laysCosts_2 (W_laysCosts_2 d g K) (W_laysCosts_12 d g K) (W_laysCosts_56 d g K) K x1 s0) : EW mm_laysCosts (d + 3) 0 0 (mQ g K) 2 [(0, aR (some mT)), (1, aI x1)] [] (mh s0 g) := by
  refine ew_iload_n dX7_laysCosts_2 rfl lm1 ?_
  refine ew_aload_n dX7_laysCosts_3 rfl lm0 ?_
  refine mw_gI dX7_laysCosts_4 (e_fl.a q1433) mf_27 rfl ?_
  refine ew_icmp_ge (tgt := 54) dX7_laysCosts_7 (by decide) (fun c1 => ?_) (fun c1 => ?_)
  · replace H := H.1 c1
    refine ew_iconst dX7_laysCosts_54 (inI_of rfl) ?_
    refine ew_istore_n dX7_laysCosts_55 rfl (by decide) (lv' := [(1, aI 1), (0, aR (some mT))]) rfl ?_
    refine ew_sub (List.forall_mem_cons.mpr ⟨lm1, (List.forall_mem_cons.mpr ⟨lm0, e_nm⟩)⟩) ?_
    exact ew_sub (List.forall_mem_cons.mpr ⟨lm0, (List.forall_mem_cons.mpr ⟨lm1, e_nm⟩)⟩) H
  · replace H := H.2 c1
    refine ew_iconst dX7_laysCosts_10 (inI_of rfl) ?_
    refine ew_istore_n dX7_laysCosts_11 rfl (by decide) (lv' := [(2, aI 0), (0, aR (some mT)), (1, aI x1)]) rfl ?_
    refine ew_sub (List.forall_mem_cons.mpr ⟨lm1, (List.forall_mem_cons.mpr ⟨lm2, (List.forall_mem_cons.mpr ⟨lm0, e_nm⟩)⟩)⟩) ?_
    exact ew_sub (List.forall_mem_cons.mpr ⟨lm0, (List.forall_mem_cons.mpr ⟨lm1, (List.forall_mem_cons.mpr ⟨lm2, e_nm⟩)⟩)⟩) H
set_option maxHeartbeats 4000000 in
theorem T_laysCosts_12 (d : Nat) (g : AH) (K : MS → Prop) (x1 : Int) (x2 : Int) (s0 : MS) (H : B_laysCosts_12 (W_laysCosts_2 d g K) (W_laysCosts_12 d g K) (W_laysCosts_56 d g K) K x1 x2 s0) : EW mm_laysCosts (d + 3) 0 0 (mQ g K) 12 [(0, aR (some mT)), (1, aI x1), (2, aI x2)] [] (mh s0 g) := by
  refine ew_iload_n dX7_laysCosts_12 rfl lm2 ?_
  refine ew_aload_n dX7_laysCosts_13 rfl lm0 ?_
  refine mw_gI dX7_laysCosts_14 (e_fl.a q1433) mf_27 rfl ?_
  refine ew_icmp_ge (tgt := 48) dX7_laysCosts_17 (by decide) (fun c1 => ?_) (fun c1 => ?_)
  · replace H := H.1 c1
    obtain ⟨v2, H⟩ := H
    refine ew_iinc dX7_laysCosts_48 lm1 (by decide) v2 (lv' := [(1, aI (x1 + 1)), (0, aR (some mT)), (2, aI x2)]) rfl ?_
    refine ew_sub (List.forall_mem_cons.mpr ⟨lm1, (List.forall_mem_cons.mpr ⟨lm0, (List.forall_mem_cons.mpr ⟨lm2, e_nm⟩)⟩)⟩) ?_
    refine ew_goto (tgt := 2) dX7_laysCosts_51 (by decide) ?_
    exact ew_sub (List.forall_mem_cons.mpr ⟨lm0, (List.forall_mem_cons.mpr ⟨lm1, e_nm⟩)⟩) H
  · replace H := H.2 c1
    refine ew_aload_n dX7_laysCosts_20 rfl lm0 ?_
    refine mw_gA dX7_laysCosts_21 (e_fl.a q1455) mf_49 rfl ?_
    refine ew_iload_n dX7_laysCosts_24 rfl lm1 ?_
    refine ew_iload_n dX7_laysCosts_25 rfl lm2 ?_
    refine ew_callS (d := d + 2) (as := [aI x1, aI x2]) rfl dX7_laysCosts_26 me_pair rfl (Or.inl q1862) q1863 (Nat.le_of_ble_eq_true rfl) (Nat.le_refl 0) (Nat.le_refl 0) (S_pair (d := d + 2) H) (fun o h' hq4 _ => ?_) (fun E i h' q _ => (mQi_no q).elim)
    obtain ⟨r6, s3, E5, rfl, H⟩ := hq4
    cases E5
    refine ew_iload_n dX7_laysCosts_29 rfl lm1 ?_
    refine ew_iload_n dX7_laysCosts_30 rfl lm2 ?_
    refine ew_icmp_ne (tgt := 38) dX7_laysCosts_31 (by decide) (fun c7 => ?_) (fun c7 => ?_)
    · replace H := H.2 c7
      refine ew_ldc2 (n := 4000000000) dX7_laysCosts_38 (inL_of rfl) q1865 ?_
      obtain ⟨v10, H⟩ := H
      refine mw_last dX7_laysCosts_41 rfl v10.1 v10.2 (fun s8 e9 => ?_)
      replace H := H s8 e9
      obtain ⟨v11, H⟩ := H
      refine ew_iinc dX7_laysCosts_42 lm2 (by decide) v11 (lv' := [(2, aI (x2 + 1)), (0, aR (some mT)), (1, aI x1)]) rfl ?_
      refine ew_sub (List.forall_mem_cons.mpr ⟨lm1, (List.forall_mem_cons.mpr ⟨lm2, (List.forall_mem_cons.mpr ⟨lm0, e_nm⟩)⟩)⟩) ?_
      refine ew_goto (tgt := 12) dX7_laysCosts_45 (by decide) ?_
      exact ew_sub (List.forall_mem_cons.mpr ⟨lm0, (List.forall_mem_cons.mpr ⟨lm1, (List.forall_mem_cons.mpr ⟨lm2, e_nm⟩)⟩)⟩) H
    · replace H := H.1 c7
      refine ew_lconst (v := 0) dX7_laysCosts_34 (inL_of rfl) (by decide) ?_
      refine ew_goto (tgt := 41) dX7_laysCosts_35 (by decide) ?_
      obtain ⟨v14, H⟩ := H
      refine mw_last dX7_laysCosts_41 rfl v14.1 v14.2 (fun s12 e13 => ?_)
      replace H := H s12 e13
      obtain ⟨v15, H⟩ := H
      refine ew_iinc dX7_laysCosts_42 lm2 (by decide) v15 (lv' := [(2, aI (x2 + 1)), (0, aR (some mT)), (1, aI x1)]) rfl ?_
      refine ew_sub (List.forall_mem_cons.mpr ⟨lm1, (List.forall_mem_cons.mpr ⟨lm2, (List.forall_mem_cons.mpr ⟨lm0, e_nm⟩)⟩)⟩) ?_
      refine ew_goto (tgt := 12) dX7_laysCosts_45 (by decide) ?_
      exact ew_sub (List.forall_mem_cons.mpr ⟨lm0, (List.forall_mem_cons.mpr ⟨lm1, (List.forall_mem_cons.mpr ⟨lm2, e_nm⟩)⟩)⟩) H
set_option maxHeartbeats 4000000 in
theorem T_laysCosts_56 (d : Nat) (g : AH) (K : MS → Prop) (x1 : Int) (s0 : MS) (H : B_laysCosts_56 (W_laysCosts_2 d g K) (W_laysCosts_12 d g K) (W_laysCosts_56 d g K) K x1 s0) : EW mm_laysCosts (d + 3) 0 0 (mQ g K) 56 [(0, aR (some mT)), (1, aI x1)] [] (mh s0 g) := by
  refine ew_iload_n dX7_laysCosts_56 rfl lm1 ?_
  refine ew_if_eq (tgt := 68) dX7_laysCosts_57 (by decide) (fun c1 => ?_) (fun c1 => ?_)
  · replace H := H.1 c1
    exact ew_ret (o := none) rfl ⟨_, rfl, rfl, H⟩ ⟨rfl, dX7_laysCosts_68⟩
  · replace H := H.2 c1
    refine ew_aload_n dX7_laysCosts_60 rfl lm0 ?_
    refine ew_callV (d := d + 2) (as := []) rfl dX7_laysCosts_61 me_lessens rfl (ci := 1) rfl rfl (mh_o _ _) (Or.inl q1866) q1868 qs97 (Nat.le_of_ble_eq_true rfl) (Nat.le_refl 0) (Nat.le_refl 0) (S_lessens (d := d + 0) H) (fun o h' hq3 _ => ?_) (fun E i h' q _ => (mQi_no q).elim)
    obtain ⟨r5, s2, E4, rfl, H⟩ := hq3
    cases E4
    refine ew_istore_n dX7_laysCosts_64 rfl (by decide) (lv' := [(1, aI r5), (0, aR (some mT))]) rfl ?_
    refine ew_sub (List.forall_mem_cons.mpr ⟨lm1, (List.forall_mem_cons.mpr ⟨lm0, e_nm⟩)⟩) ?_
    refine ew_goto (tgt := 56) dX7_laysCosts_65 (by decide) ?_
    exact ew_sub (List.forall_mem_cons.mpr ⟨lm0, (List.forall_mem_cons.mpr ⟨lm1, e_nm⟩)⟩) H
set_option maxHeartbeats 4000000 in
theorem T_laysCosts_E (d : Nat) (g : AH) (K : MS → Prop)  (s0 : MS) (H : B_laysCosts_E (W_laysCosts_2 d g K) (W_laysCosts_12 d g K) (W_laysCosts_56 d g K) K  s0) : EW mm_laysCosts (d + 3) 0 0 (mQ g K) 0 [(0, aR (some mT))] [] (mh s0 g) := by
  refine ew_iconst dX7_laysCosts_0 (inI_of rfl) ?_
  refine ew_istore_n dX7_laysCosts_1 rfl (by decide) (lv' := [(1, aI 0), (0, aR (some mT))]) rfl ?_
  refine ew_sub (List.forall_mem_cons.mpr ⟨lm1, (List.forall_mem_cons.mpr ⟨lm0, e_nm⟩)⟩) ?_
  exact ew_sub (List.forall_mem_cons.mpr ⟨lm0, (List.forall_mem_cons.mpr ⟨lm1, e_nm⟩)⟩) H
def C_laysCosts  (s0 : MS) (K : MS → Prop) : Prop := ∀ (X2 : Int → MS → Prop) (X12 : Int → Int → MS → Prop) (X56 : Int → MS → Prop), (∀ (x1 : Int) (s0 : MS), B_laysCosts_2 X2 X12 X56 K x1 s0 → X2 x1 s0) → (∀ (x1 : Int) (x2 : Int) (s0 : MS), B_laysCosts_12 X2 X12 X56 K x1 x2 s0 → X12 x1 x2 s0) → (∀ (x1 : Int) (s0 : MS), B_laysCosts_56 X2 X12 X56 K x1 s0 → X56 x1 s0) → B_laysCosts_E X2 X12 X56 K  s0
theorem S_laysCosts {d : Nat} {g : AH} {K : MS → Prop}  {s0 : MS} (H : C_laysCosts  s0 K) : Sp mm_laysCosts (d + 3) 0 0 [aR (some mT)] (mh s0 g) (mQ g K) :=
  ew_sp rfl (Nat.le_of_ble_eq_true rfl) (T_laysCosts_E d g K  s0 (H _ _ _ (fun x1 s0 H => T_laysCosts_2 d g K x1 s0 H) (fun x1 x2 s0 H => T_laysCosts_12 d g K x1 x2 s0 H) (fun x1 s0 H => T_laysCosts_56 d g K x1 s0 H)))
abbrev mm_cost : EM := (yX7_cost, cX7_cost, 3, some .int, [])
theorem me_cost : e_mth mm_cost 2 := ⟨rfl, q1857, q117, by decide +kernel, by decide⟩
def B_cost_E  (K : Int → MS → Prop) (a : Int) (b : Int) (s0 : MS) : Prop :=
  (C_whyNotOne a b s0 (fun r4 s1 => (C_isRefused r4 s1 (fun r8 s5 => ((r8 = 0 → (C_laysCosts s5 (fun s10 => (C_pair a b s10 (fun r16 s13 => ((0 ≤ r16 ∧ r16 < 576) ∧ ((inI (s13.2 49 r16)) ∧ K (s13.2 49 r16) s13))))))) ∧ (¬ r8 = 0 → K (-1) s5))))))
set_option maxHeartbeats 4000000 in
theorem T_cost_E (d : Nat) (g : AH) (K : Int → MS → Prop) (a : Int) (b : Int) (s0 : MS) (H : B_cost_E  K a b s0) : EW mm_cost (d + 4) 0 0 (mQi g K) 0 [(0, aR (some mT)), (1, aI a), (2, aI b)] [] (mh s0 g) := by
  refine ew_aload_n dX7_cost_0 rfl lm0 ?_
  refine ew_aload_n dX7_cost_1 rfl lm0 ?_
  refine ew_iload_n dX7_cost_2 rfl lm1 ?_
  refine ew_iload_n dX7_cost_3 rfl lm2 ?_
  refine ew_callV (d := d + 3) (as := [aI a, aI b]) rfl dX7_cost_4 me_whyNotOne rfl (ci := 1) rfl rfl (mh_o _ _) (Or.inl q1815) q1817 qs95 (Nat.le_of_ble_eq_true rfl) (Nat.le_refl 0) (Nat.le_refl 0) (S_whyNotOne (d := d + 1) H) (fun o h' hq2 _ => ?_) (fun E i h' q _ => (mQi_no q).elim)
  obtain ⟨r4, s1, E3, rfl, H⟩ := hq2
  cases E3
  refine ew_callV (d := d + 3) (as := [aI r4]) rfl dX7_cost_7 me_isRefused rfl (ci := 1) rfl rfl (mh_o _ _) (Or.inl q1594) q1596 qs56 (Nat.le_of_ble_eq_true rfl) (Nat.le_refl 0) (Nat.le_refl 0) (S_isRefused (d := d + 3) H) (fun o h' hq6 _ => ?_) (fun E i h' q _ => (mQi_no q).elim)
  obtain ⟨r8, s5, E7, rfl, H⟩ := hq6
  cases E7
  refine ew_if_eq (tgt := 15) dX7_cost_10 (by decide) (fun c9 => ?_) (fun c9 => ?_)
  · replace H := H.1 c9
    refine ew_aload_n dX7_cost_15 rfl lm0 ?_
    refine ew_callV (d := d + 3) (as := []) rfl dX7_cost_16 me_laysCosts rfl (ci := 1) rfl rfl (mh_o _ _) (Or.inl q1858) q1860 qs96 (Nat.le_of_ble_eq_true rfl) (Nat.le_refl 0) (Nat.le_refl 0) (S_laysCosts (d := d + 0) H) (fun o h' hq11 _ => ?_) (fun E i h' q _ => (mQ_no q).elim)
    obtain ⟨s10, E12, rfl, H⟩ := hq11
    cases E12
    refine ew_aload_n dX7_cost_19 rfl lm0 ?_
    refine mw_gA dX7_cost_20 (e_fl.a q1455) mf_49 rfl ?_
    refine ew_iload_n dX7_cost_23 rfl lm1 ?_
    refine ew_iload_n dX7_cost_24 rfl lm2 ?_
    refine ew_callS (d := d + 3) (as := [aI a, aI b]) rfl dX7_cost_25 me_pair rfl (Or.inl q1862) q1863 (Nat.le_of_ble_eq_true rfl) (Nat.le_refl 0) (Nat.le_refl 0) (S_pair (d := d + 3) H) (fun o h' hq14 _ => ?_) (fun E i h' q _ => (mQi_no q).elim)
    obtain ⟨r16, s13, E15, rfl, H⟩ := hq14
    cases E15
    obtain ⟨v17, H⟩ := H
    refine mw_lald dX7_cost_28 rfl v17.1 v17.2 ?_
    obtain ⟨v18, H⟩ := H
    refine ew_l2i dX7_cost_29 v18 ?_
    exact ew_ret (o := some (aI (s13.2 49 r16))) rfl ⟨_, _, rfl, rfl, H⟩ ⟨dX7_cost_30, .int, rfl, Or.inl rfl, rfl⟩
  · replace H := H.2 c9
    refine ew_iconst dX7_cost_13 (inI_of rfl) ?_
    exact ew_ret (o := some (aI (-1))) rfl ⟨_, _, rfl, rfl, H⟩ ⟨dX7_cost_14, .int, rfl, Or.inl rfl, rfl⟩
def C_cost (a : Int) (b : Int) (s0 : MS) (K : Int → MS → Prop) : Prop := B_cost_E  K a b s0
theorem S_cost {d : Nat} {g : AH} {K : Int → MS → Prop} {a : Int} {b : Int} {s0 : MS} (H : C_cost a b s0 K) : Sp mm_cost (d + 4) 0 0 [aR (some mT), aI a, aI b] (mh s0 g) (mQi g K) :=
  ew_sp rfl (Nat.le_of_ble_eq_true rfl) (T_cost_E d g K a b s0 (H  ))
abbrev mm_isNext : EM := (yX7_isNext, cX7_isNext, 8, some .boolean, [])
theorem me_isNext : e_mth mm_isNext 3 := ⟨rfl, q1889, q117, by decide +kernel, by decide⟩
def B_isNext_E  (K : Int → MS → Prop) (a : Int) (b : Int) (c : Int) (s0 : MS) : Prop :=
  (C_pair a b s0 (fun r4 s1 => ((0 ≤ r4 ∧ r4 < 576) ∧ (C_pair b c s1 (fun r9 s6 => ((0 ≤ r9 ∧ r9 < 576) ∧ ((a = b → K 0 s6) ∧ (¬ a = b → ((4000000000 ≤ (s1.2 50 r4) → K 0 s6) ∧ (¬ 4000000000 ≤ (s1.2 50 r4) → ((4000000000 ≤ (s6.2 49 r9) → K 0 s6) ∧ (¬ 4000000000 ≤ (s6.2 49 r9) → (((s6.1 52) = 0 → ((inL ((s1.2 50 r4) + (s6.2 49 r9))) ∧ (C_pair a c s6 (fun r19 s16 => ((0 ≤ r19 ∧ r19 < 576) ∧ ((((s1.2 50 r4) + (s6.2 49 r9)) = (s16.2 49 r19) → K 1 s16) ∧ (¬ ((s1.2 50 r4) + (s6.2 49 r9)) = (s16.2 49 r19) → K 0 s16))))))) ∧ (¬ (s6.1 52) = 0 → K 1 s6))))))))))))))
set_option maxHeartbeats 4000000 in
theorem T_isNext_E (d : Nat) (g : AH) (K : Int → MS → Prop) (a : Int) (b : Int) (c : Int) (s0 : MS) (H : B_isNext_E  K a b c s0) : EW mm_isNext (d + 1) 0 0 (mQi g K) 0 [(0, aR (some mT)), (1, aI a), (2, aI b), (3, aI c)] [] (mh s0 g) := by
  refine ew_aload_n dX7_isNext_0 rfl lm0 ?_
  refine mw_gA dX7_isNext_1 (e_fl.a q1456) mf_50 rfl ?_
  refine ew_iload_n dX7_isNext_4 rfl lm1 ?_
  refine ew_iload_n dX7_isNext_5 rfl lm2 ?_
  refine ew_callS (d := d + 0) (as := [aI a, aI b]) rfl dX7_isNext_6 me_pair rfl (Or.inl q1862) q1863 (Nat.le_of_ble_eq_true rfl) (Nat.le_refl 0) (Nat.le_refl 0) (S_pair (d := d + 0) H) (fun o h' hq2 _ => ?_) (fun E i h' q _ => (mQi_no q).elim)
  obtain ⟨r4, s1, E3, rfl, H⟩ := hq2
  cases E3
  obtain ⟨v5, H⟩ := H
  refine mw_lald dX7_isNext_9 rfl v5.1 v5.2 ?_
  refine ew_lstore dX7_isNext_10 (by decide) (lv' := [(4, aL (s1.2 50 r4)), (0, aR (some mT)), (1, aI a), (2, aI b), (3, aI c)]) rfl ?_
  refine ew_sub (List.forall_mem_cons.mpr ⟨lm1, (List.forall_mem_cons.mpr ⟨lm2, (List.forall_mem_cons.mpr ⟨lm3, (List.forall_mem_cons.mpr ⟨lm4, (List.forall_mem_cons.mpr ⟨lm0, e_nm⟩)⟩)⟩)⟩)⟩) ?_
  refine ew_aload_n dX7_isNext_12 rfl lm0 ?_
  refine mw_gA dX7_isNext_13 (e_fl.a q1455) mf_49 rfl ?_
  refine ew_iload_n dX7_isNext_16 rfl lm2 ?_
  refine ew_iload_n dX7_isNext_17 rfl lm3 ?_
  refine ew_callS (d := d + 0) (as := [aI b, aI c]) rfl dX7_isNext_18 me_pair rfl (Or.inl q1862) q1863 (Nat.le_of_ble_eq_true rfl) (Nat.le_refl 0) (Nat.le_refl 0) (S_pair (d := d + 0) H) (fun o h' hq7 _ => ?_) (fun E i h' q _ => (mQi_no q).elim)
  obtain ⟨r9, s6, E8, rfl, H⟩ := hq7
  cases E8
  obtain ⟨v10, H⟩ := H
  refine mw_lald dX7_isNext_21 rfl v10.1 v10.2 ?_
  refine ew_lstore dX7_isNext_22 (by decide) (lv' := [(6, aL (s6.2 49 r9)), (0, aR (some mT)), (1, aI a), (2, aI b), (3, aI c), (4, aL (s1.2 50 r4))]) rfl ?_
  refine ew_sub (List.forall_mem_cons.mpr ⟨lm1, (List.forall_mem_cons.mpr ⟨lm2, (List.forall_mem_cons.mpr ⟨lm3, (List.forall_mem_cons.mpr ⟨lm4, (List.forall_mem_cons.mpr ⟨lm5, (List.forall_mem_cons.mpr ⟨lm0, e_nm⟩)⟩)⟩)⟩)⟩)⟩) ?_
  refine ew_iload_n dX7_isNext_24 rfl lm1 ?_
  refine ew_iload_n dX7_isNext_25 rfl lm2 ?_
  refine ew_icmp_eq (tgt := 77) dX7_isNext_26 (by decide) (fun c11 => ?_) (fun c11 => ?_)
  · replace H := H.1 c11
    refine ew_iconst dX7_isNext_77 (inI_of rfl) ?_
    exact ew_ret (o := some (aI 0)) rfl ⟨_, _, rfl, rfl, H⟩ ⟨dX7_isNext_78, .boolean, rfl, Or.inr (Or.inl rfl), by decide⟩
  · replace H := H.2 c11
    refine ew_lload dX7_isNext_29 lm4 ?_
    refine ew_ldc2 (n := 4000000000) dX7_isNext_31 (inL_of rfl) q1865 ?_
    refine ew_lcmp dX7_isNext_34 ?_
    refine ew_if_ge (tgt := 77) dX7_isNext_35 (by decide) (fun c12 => ?_) (fun c12 => ?_)
    · replace H := H.1 (jl_ge.mp c12)
      refine ew_iconst dX7_isNext_77 (inI_of rfl) ?_
      exact ew_ret (o := some (aI 0)) rfl ⟨_, _, rfl, rfl, H⟩ ⟨dX7_isNext_78, .boolean, rfl, Or.inr (Or.inl rfl), by decide⟩
    · replace H := H.2 (fun z => c12 (jl_ge.mpr z))
      refine ew_lload dX7_isNext_38 lm5 ?_
      refine ew_ldc2 (n := 4000000000) dX7_isNext_40 (inL_of rfl) q1865 ?_
      refine ew_lcmp dX7_isNext_43 ?_
      refine ew_if_ge (tgt := 77) dX7_isNext_44 (by decide) (fun c13 => ?_) (fun c13 => ?_)
      · replace H := H.1 (jl_ge.mp c13)
        refine ew_iconst dX7_isNext_77 (inI_of rfl) ?_
        exact ew_ret (o := some (aI 0)) rfl ⟨_, _, rfl, rfl, H⟩ ⟨dX7_isNext_78, .boolean, rfl, Or.inr (Or.inl rfl), by decide⟩
      · replace H := H.2 (fun z => c13 (jl_ge.mpr z))
        refine ew_aload_n dX7_isNext_47 rfl lm0 ?_
        refine mw_gI dX7_isNext_48 (e_fl.a q1458) mf_52 rfl ?_
        refine ew_if_ne (tgt := 73) dX7_isNext_51 (by decide) (fun c14 => ?_) (fun c14 => ?_)
        · replace H := H.2 c14
          refine ew_iconst dX7_isNext_73 (inI_of rfl) ?_
          refine ew_goto (tgt := 78) dX7_isNext_74 (by decide) ?_
          exact ew_ret (o := some (aI 1)) rfl ⟨_, _, rfl, rfl, H⟩ ⟨dX7_isNext_78, .boolean, rfl, Or.inr (Or.inl rfl), by decide⟩
        · replace H := H.1 c14
          refine ew_lload dX7_isNext_54 lm4 ?_
          refine ew_lload dX7_isNext_56 lm5 ?_
          obtain ⟨v15, H⟩ := H
          refine ew_ladd dX7_isNext_58 v15 ?_
          refine ew_aload_n dX7_isNext_59 rfl lm0 ?_
          refine mw_gA dX7_isNext_60 (e_fl.a q1455) mf_49 rfl ?_
          refine ew_iload_n dX7_isNext_63 rfl lm1 ?_
          refine ew_iload_n dX7_isNext_64 rfl lm3 ?_
          refine ew_callS (d := d + 0) (as := [aI a, aI c]) rfl dX7_isNext_65 me_pair rfl (Or.inl q1862) q1863 (Nat.le_of_ble_eq_true rfl) (Nat.le_refl 0) (Nat.le_refl 0) (S_pair (d := d + 0) H) (fun o h' hq17 _ => ?_) (fun E i h' q _ => (mQi_no q).elim)
          obtain ⟨r19, s16, E18, rfl, H⟩ := hq17
          cases E18
          obtain ⟨v20, H⟩ := H
          refine mw_lald dX7_isNext_68 rfl v20.1 v20.2 ?_
          refine ew_lcmp dX7_isNext_69 ?_
          refine ew_if_ne (tgt := 77) dX7_isNext_70 (by decide) (fun c21 => ?_) (fun c21 => ?_)
          · replace H := H.2 (fun z => c21 (jl_eq.mpr z))
            refine ew_iconst dX7_isNext_77 (inI_of rfl) ?_
            exact ew_ret (o := some (aI 0)) rfl ⟨_, _, rfl, rfl, H⟩ ⟨dX7_isNext_78, .boolean, rfl, Or.inr (Or.inl rfl), by decide⟩
          · replace H := H.1 (jl_eq.mp c21)
            refine ew_iconst dX7_isNext_73 (inI_of rfl) ?_
            refine ew_goto (tgt := 78) dX7_isNext_74 (by decide) ?_
            exact ew_ret (o := some (aI 1)) rfl ⟨_, _, rfl, rfl, H⟩ ⟨dX7_isNext_78, .boolean, rfl, Or.inr (Or.inl rfl), by decide⟩
def C_isNext (a : Int) (b : Int) (c : Int) (s0 : MS) (K : Int → MS → Prop) : Prop := B_isNext_E  K a b c s0
theorem S_isNext {d : Nat} {g : AH} {K : Int → MS → Prop} {a : Int} {b : Int} {c : Int} {s0 : MS} (H : C_isNext a b c s0 K) : Sp mm_isNext (d + 1) 0 0 [aR (some mT), aI a, aI b, aI c] (mh s0 g) (mQi g K) :=
  ew_sp rfl (Nat.le_of_ble_eq_true rfl) (T_isNext_E d g K a b c s0 (H  ))
abbrev mm_laysHops : EM := (yX7_laysHops, cX7_laysHops, 5, none, [])
theorem me_laysHops : e_mth mm_laysHops 1 := ⟨rfl, q1885, q117, by decide +kernel, by decide⟩
def B_laysHops_2 (X2 : Int → Int → MS → Prop) (X35 : Int → Int → MS → Prop) (X45 : Int → Int → Int → MS → Prop) (X56 : Int → Int → Int → Int → MS → Prop) (K : MS → Prop) (x1 : Int) (x2 : Int) (s0 : MS) : Prop :=
  (((s0.1 27) ≤ x2 → X35 x1 0 s0) ∧ (¬ (s0.1 27) ≤ x2 → ((x2 = x1 → ((0 ≤ x2 ∧ x2 < 24) ∧ ∀ s7 : MS, s7 = ma s0 51 x2 0 → (inI (x2 + 1) ∧ X2 x1 (x2 + 1) s7))) ∧ (¬ x2 = x1 → ((0 ≤ x2 ∧ x2 < 24) ∧ ∀ s3 : MS, s3 = ma s0 51 x2 24 → (inI (x2 + 1) ∧ X2 x1 (x2 + 1) s3))))))
def B_laysHops_35 (X2 : Int → Int → MS → Prop) (X35 : Int → Int → MS → Prop) (X45 : Int → Int → Int → MS → Prop) (X56 : Int → Int → Int → Int → MS → Prop) (K : MS → Prop) (x1 : Int) (x2 : Int) (s0 : MS) : Prop :=
  (((s0.1 27) ≤ x2 → K s0) ∧ (¬ (s0.1 27) ≤ x2 → X45 x1 x2 0 s0))
def B_laysHops_45 (X2 : Int → Int → MS → Prop) (X35 : Int → Int → MS → Prop) (X45 : Int → Int → Int → MS → Prop) (X56 : Int → Int → Int → Int → MS → Prop) (K : MS → Prop) (x1 : Int) (x2 : Int) (x3 : Int) (s0 : MS) : Prop :=
  (((s0.1 27) ≤ x3 → (inI (x2 + 1) ∧ X35 x1 (x2 + 1) s0)) ∧ (¬ (s0.1 27) ≤ x3 → X56 x1 x2 x3 0 s0))
def B_laysHops_56 (X2 : Int → Int → MS → Prop) (X35 : Int → Int → MS → Prop) (X45 : Int → Int → Int → MS → Prop) (X56 : Int → Int → Int → Int → MS → Prop) (K : MS → Prop) (x1 : Int) (x2 : Int) (x3 : Int) (x4 : Int) (s0 : MS) : Prop :=
  (((s0.1 27) ≤ x4 → (inI (x3 + 1) ∧ X45 x1 x2 (x3 + 1) s0)) ∧ (¬ (s0.1 27) ≤ x4 → ((0 ≤ x4 ∧ x4 < 24) ∧ ((inI ((s0.2 51 x4) + 1)) ∧ ((0 ≤ x3 ∧ x3 < 24) ∧ (((s0.2 51 x3) ≤ ((s0.2 51 x4) + 1) → (inI (x4 + 1) ∧ X56 x1 x2 x3 (x4 + 1) s0)) ∧ (¬ (s0.2 51 x3) ≤ ((s0.2 51 x4) + 1) → (C_isNext x3 x4 x1 s0 (fun r11 s8 => ((r11 = 0 → (inI (x4 + 1) ∧ X56 x1 x2 x3 (x4 + 1) s8)) ∧ (¬ r11 = 0 → ((0 ≤ x4 ∧ x4 < 24) ∧ ((inI ((s8.2 51 x4) + 1)) ∧ ((0 ≤ x3 ∧ x3 < 24) ∧ ∀ s16 : MS, s16 = ma s8 51 x3 ((s8.2 51 x4) + 1) → (inI (x4 + 1) ∧ X56 x1 x2 x3 (x4 + 1) s16)))))))))))))))
def B_laysHops_E (X2 : Int → Int → MS → Prop) (X35 : Int → Int → MS → Prop) (X45 : Int → Int → Int → MS → Prop) (X56 : Int → Int → Int → Int → MS → Prop) (K : MS → Prop) (a : Int) (s0 : MS) : Prop :=
  X2 a 0 s0
def W_laysHops_2 (d : Nat) (g : AH) (K : MS → Prop) (x1 : Int) (x2 : Int) (s0 : MS) : Prop := EW mm_laysHops (d + 2) 0 0 (mQ g K) 2 [(0, aR (some mT)), (1, aI x1), (2, aI x2)] [] (mh s0 g)
def W_laysHops_35 (d : Nat) (g : AH) (K : MS → Prop) (x1 : Int) (x2 : Int) (s0 : MS) : Prop := EW mm_laysHops (d + 2) 0 0 (mQ g K) 35 [(0, aR (some mT)), (1, aI x1), (2, aI x2)] [] (mh s0 g)
def W_laysHops_45 (d : Nat) (g : AH) (K : MS → Prop) (x1 : Int) (x2 : Int) (x3 : Int) (s0 : MS) : Prop := EW mm_laysHops (d + 2) 0 0 (mQ g K) 45 [(0, aR (some mT)), (1, aI x1), (2, aI x2), (3, aI x3)] [] (mh s0 g)
def W_laysHops_56 (d : Nat) (g : AH) (K : MS → Prop) (x1 : Int) (x2 : Int) (x3 : Int) (x4 : Int) (s0 : MS) : Prop := EW mm_laysHops (d + 2) 0 0 (mQ g K) 56 [(0, aR (some mT)), (1, aI x1), (2, aI x2), (3, aI x3), (4, aI x4)] [] (mh s0 g)
set_option maxHeartbeats 4000000 in
theorem T_laysHops_2 (d : Nat) (g : AH) (K : MS → Prop) (x1 : Int) (x2 : Int) (s0 : MS) (H : B_laysHops_2 (W_laysHops_2 d g K) (W_laysHops_35 d g K) (W_laysHops_45 d g K) (W_laysHops_56 d g K) K x1 x2 s0) : EW mm_laysHops (d + 2) 0 0 (mQ g K) 2 [(0, aR (some mT)), (1, aI x1), (2, aI x2)] [] (mh s0 g) := by
  refine ew_iload_n dX7_laysHops_2 rfl lm2 ?_
  refine ew_aload_n dX7_laysHops_3 rfl lm0 ?_
  refine mw_gI dX7_laysHops_4 (e_fl.a q1433) mf_27 rfl ?_
  refine ew_icmp_ge (tgt := 33) dX7_laysHops_7 (by decide) (fun c1 => ?_) (fun c1 => ?_)
  · replace H := H.1 c1
    refine ew_iconst dX7_laysHops_33 (inI_of rfl) ?_
    refine ew_istore_n dX7_laysHops_34 rfl (by decide) (lv' := [(2, aI 0), (0, aR (some mT)), (1, aI x1)]) rfl ?_
    refine ew_sub (List.forall_mem_cons.mpr ⟨lm1, (List.forall_mem_cons.mpr ⟨lm2, (List.forall_mem_cons.mpr ⟨lm0, e_nm⟩)⟩)⟩) ?_
    exact ew_sub (List.forall_mem_cons.mpr ⟨lm0, (List.forall_mem_cons.mpr ⟨lm1, (List.forall_mem_cons.mpr ⟨lm2, e_nm⟩)⟩)⟩) H
  · replace H := H.2 c1
    refine ew_aload_n dX7_laysHops_10 rfl lm0 ?_
    refine mw_gA dX7_laysHops_11 (e_fl.a q1457) mf_51 rfl ?_
    refine ew_iload_n dX7_laysHops_14 rfl lm2 ?_
    refine ew_iload_n dX7_laysHops_15 rfl lm2 ?_
    refine ew_iload_n dX7_laysHops_16 rfl lm1 ?_
    refine ew_icmp_ne (tgt := 24) dX7_laysHops_17 (by decide) (fun c2 => ?_) (fun c2 => ?_)
    · replace H := H.2 c2
      refine ew_bipush dX7_laysHops_24 (inI_of rfl) (by decide) ?_
      obtain ⟨v5, H⟩ := H
      refine mw_iast dX7_laysHops_26 rfl v5.1 v5.2 (fun s3 e4 => ?_)
      replace H := H s3 e4
      obtain ⟨v6, H⟩ := H
      refine ew_iinc dX7_laysHops_27 lm2 (by decide) v6 (lv' := [(2, aI (x2 + 1)), (0, aR (some mT)), (1, aI x1)]) rfl ?_
      refine ew_sub (List.forall_mem_cons.mpr ⟨lm1, (List.forall_mem_cons.mpr ⟨lm2, (List.forall_mem_cons.mpr ⟨lm0, e_nm⟩)⟩)⟩) ?_
      refine ew_goto (tgt := 2) dX7_laysHops_30 (by decide) ?_
      exact ew_sub (List.forall_mem_cons.mpr ⟨lm0, (List.forall_mem_cons.mpr ⟨lm1, (List.forall_mem_cons.mpr ⟨lm2, e_nm⟩)⟩)⟩) H
    · replace H := H.1 c2
      refine ew_iconst dX7_laysHops_20 (inI_of rfl) ?_
      refine ew_goto (tgt := 26) dX7_laysHops_21 (by decide) ?_
      obtain ⟨v9, H⟩ := H
      refine mw_iast dX7_laysHops_26 rfl v9.1 v9.2 (fun s7 e8 => ?_)
      replace H := H s7 e8
      obtain ⟨v10, H⟩ := H
      refine ew_iinc dX7_laysHops_27 lm2 (by decide) v10 (lv' := [(2, aI (x2 + 1)), (0, aR (some mT)), (1, aI x1)]) rfl ?_
      refine ew_sub (List.forall_mem_cons.mpr ⟨lm1, (List.forall_mem_cons.mpr ⟨lm2, (List.forall_mem_cons.mpr ⟨lm0, e_nm⟩)⟩)⟩) ?_
      refine ew_goto (tgt := 2) dX7_laysHops_30 (by decide) ?_
      exact ew_sub (List.forall_mem_cons.mpr ⟨lm0, (List.forall_mem_cons.mpr ⟨lm1, (List.forall_mem_cons.mpr ⟨lm2, e_nm⟩)⟩)⟩) H
set_option maxHeartbeats 4000000 in
theorem T_laysHops_35 (d : Nat) (g : AH) (K : MS → Prop) (x1 : Int) (x2 : Int) (s0 : MS) (H : B_laysHops_35 (W_laysHops_2 d g K) (W_laysHops_35 d g K) (W_laysHops_45 d g K) (W_laysHops_56 d g K) K x1 x2 s0) : EW mm_laysHops (d + 2) 0 0 (mQ g K) 35 [(0, aR (some mT)), (1, aI x1), (2, aI x2)] [] (mh s0 g) := by
  refine ew_iload_n dX7_laysHops_35 rfl lm2 ?_
  refine ew_aload_n dX7_laysHops_36 rfl lm0 ?_
  refine mw_gI dX7_laysHops_37 (e_fl.a q1433) mf_27 rfl ?_
  refine ew_icmp_ge (tgt := 127) dX7_laysHops_40 (by decide) (fun c1 => ?_) (fun c1 => ?_)
  · replace H := H.1 c1
    exact ew_ret (o := none) rfl ⟨_, rfl, rfl, H⟩ ⟨rfl, dX7_laysHops_127⟩
  · replace H := H.2 c1
    refine ew_iconst dX7_laysHops_43 (inI_of rfl) ?_
    refine ew_istore_n dX7_laysHops_44 rfl (by decide) (lv' := [(3, aI 0), (0, aR (some mT)), (1, aI x1), (2, aI x2)]) rfl ?_
    refine ew_sub (List.forall_mem_cons.mpr ⟨lm1, (List.forall_mem_cons.mpr ⟨lm2, (List.forall_mem_cons.mpr ⟨lm3, (List.forall_mem_cons.mpr ⟨lm0, e_nm⟩)⟩)⟩)⟩) ?_
    exact ew_sub (List.forall_mem_cons.mpr ⟨lm0, (List.forall_mem_cons.mpr ⟨lm1, (List.forall_mem_cons.mpr ⟨lm2, (List.forall_mem_cons.mpr ⟨lm3, e_nm⟩)⟩)⟩)⟩) H
set_option maxHeartbeats 4000000 in
theorem T_laysHops_45 (d : Nat) (g : AH) (K : MS → Prop) (x1 : Int) (x2 : Int) (x3 : Int) (s0 : MS) (H : B_laysHops_45 (W_laysHops_2 d g K) (W_laysHops_35 d g K) (W_laysHops_45 d g K) (W_laysHops_56 d g K) K x1 x2 x3 s0) : EW mm_laysHops (d + 2) 0 0 (mQ g K) 45 [(0, aR (some mT)), (1, aI x1), (2, aI x2), (3, aI x3)] [] (mh s0 g) := by
  refine ew_iload_n dX7_laysHops_45 rfl lm3 ?_
  refine ew_aload_n dX7_laysHops_46 rfl lm0 ?_
  refine mw_gI dX7_laysHops_47 (e_fl.a q1433) mf_27 rfl ?_
  refine ew_icmp_ge (tgt := 121) dX7_laysHops_50 (by decide) (fun c1 => ?_) (fun c1 => ?_)
  · replace H := H.1 c1
    obtain ⟨v2, H⟩ := H
    refine ew_iinc dX7_laysHops_121 lm2 (by decide) v2 (lv' := [(2, aI (x2 + 1)), (0, aR (some mT)), (1, aI x1), (3, aI x3)]) rfl ?_
    refine ew_sub (List.forall_mem_cons.mpr ⟨lm1, (List.forall_mem_cons.mpr ⟨lm2, (List.forall_mem_cons.mpr ⟨lm0, (List.forall_mem_cons.mpr ⟨lm3, e_nm⟩)⟩)⟩)⟩) ?_
    refine ew_goto (tgt := 35) dX7_laysHops_124 (by decide) ?_
    exact ew_sub (List.forall_mem_cons.mpr ⟨lm0, (List.forall_mem_cons.mpr ⟨lm1, (List.forall_mem_cons.mpr ⟨lm2, e_nm⟩)⟩)⟩) H
  · replace H := H.2 c1
    refine ew_iconst dX7_laysHops_53 (inI_of rfl) ?_
    refine ew_istore dX7_laysHops_54 (by decide) (lv' := [(4, aI 0), (0, aR (some mT)), (1, aI x1), (2, aI x2), (3, aI x3)]) rfl ?_
    refine ew_sub (List.forall_mem_cons.mpr ⟨lm1, (List.forall_mem_cons.mpr ⟨lm2, (List.forall_mem_cons.mpr ⟨lm3, (List.forall_mem_cons.mpr ⟨lm4, (List.forall_mem_cons.mpr ⟨lm0, e_nm⟩)⟩)⟩)⟩)⟩) ?_
    exact ew_sub (List.forall_mem_cons.mpr ⟨lm0, (List.forall_mem_cons.mpr ⟨lm1, (List.forall_mem_cons.mpr ⟨lm2, (List.forall_mem_cons.mpr ⟨lm3, (List.forall_mem_cons.mpr ⟨lm4, e_nm⟩)⟩)⟩)⟩)⟩) H
set_option maxHeartbeats 4000000 in
theorem T_laysHops_56 (d : Nat) (g : AH) (K : MS → Prop) (x1 : Int) (x2 : Int) (x3 : Int) (x4 : Int) (s0 : MS) (H : B_laysHops_56 (W_laysHops_2 d g K) (W_laysHops_35 d g K) (W_laysHops_45 d g K) (W_laysHops_56 d g K) K x1 x2 x3 x4 s0) : EW mm_laysHops (d + 2) 0 0 (mQ g K) 56 [(0, aR (some mT)), (1, aI x1), (2, aI x2), (3, aI x3), (4, aI x4)] [] (mh s0 g) := by
  refine ew_iload dX7_laysHops_56 lm4 ?_
  refine ew_aload_n dX7_laysHops_58 rfl lm0 ?_
  refine mw_gI dX7_laysHops_59 (e_fl.a q1433) mf_27 rfl ?_
  refine ew_icmp_ge (tgt := 115) dX7_laysHops_62 (by decide) (fun c1 => ?_) (fun c1 => ?_)
  · replace H := H.1 c1
    obtain ⟨v2, H⟩ := H
    refine ew_iinc dX7_laysHops_115 lm3 (by decide) v2 (lv' := [(3, aI (x3 + 1)), (0, aR (some mT)), (1, aI x1), (2, aI x2), (4, aI x4)]) rfl ?_
    refine ew_sub (List.forall_mem_cons.mpr ⟨lm1, (List.forall_mem_cons.mpr ⟨lm2, (List.forall_mem_cons.mpr ⟨lm3, (List.forall_mem_cons.mpr ⟨lm0, (List.forall_mem_cons.mpr ⟨lm4, e_nm⟩)⟩)⟩)⟩)⟩) ?_
    refine ew_goto (tgt := 45) dX7_laysHops_118 (by decide) ?_
    exact ew_sub (List.forall_mem_cons.mpr ⟨lm0, (List.forall_mem_cons.mpr ⟨lm1, (List.forall_mem_cons.mpr ⟨lm2, (List.forall_mem_cons.mpr ⟨lm3, e_nm⟩)⟩)⟩)⟩) H
  · replace H := H.2 c1
    refine ew_aload_n dX7_laysHops_65 rfl lm0 ?_
    refine mw_gA dX7_laysHops_66 (e_fl.a q1457) mf_51 rfl ?_
    refine ew_iload dX7_laysHops_69 lm4 ?_
    obtain ⟨v3, H⟩ := H
    refine mw_iald dX7_laysHops_71 rfl v3.1 v3.2 ?_
    refine ew_iconst dX7_laysHops_72 (inI_of rfl) ?_
    obtain ⟨v4, H⟩ := H
    refine ew_iadd dX7_laysHops_73 v4 ?_
    refine ew_aload_n dX7_laysHops_74 rfl lm0 ?_
    refine mw_gA dX7_laysHops_75 (e_fl.a q1457) mf_51 rfl ?_
    refine ew_iload_n dX7_laysHops_78 rfl lm3 ?_
    obtain ⟨v5, H⟩ := H
    refine mw_iald dX7_laysHops_79 rfl v5.1 v5.2 ?_
    refine ew_icmp_ge (tgt := 109) dX7_laysHops_80 (by decide) (fun c6 => ?_) (fun c6 => ?_)
    · replace H := H.1 c6
      obtain ⟨v7, H⟩ := H
      refine ew_iinc dX7_laysHops_109 lm4 (by decide) v7 (lv' := [(4, aI (x4 + 1)), (0, aR (some mT)), (1, aI x1), (2, aI x2), (3, aI x3)]) rfl ?_
      refine ew_sub (List.forall_mem_cons.mpr ⟨lm1, (List.forall_mem_cons.mpr ⟨lm2, (List.forall_mem_cons.mpr ⟨lm3, (List.forall_mem_cons.mpr ⟨lm4, (List.forall_mem_cons.mpr ⟨lm0, e_nm⟩)⟩)⟩)⟩)⟩) ?_
      refine ew_goto (tgt := 56) dX7_laysHops_112 (by decide) ?_
      exact ew_sub (List.forall_mem_cons.mpr ⟨lm0, (List.forall_mem_cons.mpr ⟨lm1, (List.forall_mem_cons.mpr ⟨lm2, (List.forall_mem_cons.mpr ⟨lm3, (List.forall_mem_cons.mpr ⟨lm4, e_nm⟩)⟩)⟩)⟩)⟩) H
    · replace H := H.2 c6
      refine ew_aload_n dX7_laysHops_83 rfl lm0 ?_
      refine ew_iload_n dX7_laysHops_84 rfl lm3 ?_
      refine ew_iload dX7_laysHops_85 lm4 ?_
      refine ew_iload_n dX7_laysHops_87 rfl lm1 ?_
      refine ew_callV (d := d + 1) (as := [aI x3, aI x4, aI x1]) rfl dX7_laysHops_88 me_isNext rfl (ci := 1) rfl rfl (mh_o _ _) (Or.inl q1886) q1888 qs100 (Nat.le_of_ble_eq_true rfl) (Nat.le_refl 0) (Nat.le_refl 0) (S_isNext (d := d + 0) H) (fun o h' hq9 _ => ?_) (fun E i h' q _ => (mQi_no q).elim)
      obtain ⟨r11, s8, E10, rfl, H⟩ := hq9
      cases E10
      refine ew_if_eq (tgt := 109) dX7_laysHops_91 (by decide) (fun c12 => ?_) (fun c12 => ?_)
      · replace H := H.1 c12
        obtain ⟨v13, H⟩ := H
        refine ew_iinc dX7_laysHops_109 lm4 (by decide) v13 (lv' := [(4, aI (x4 + 1)), (0, aR (some mT)), (1, aI x1), (2, aI x2), (3, aI x3)]) rfl ?_
        refine ew_sub (List.forall_mem_cons.mpr ⟨lm1, (List.forall_mem_cons.mpr ⟨lm2, (List.forall_mem_cons.mpr ⟨lm3, (List.forall_mem_cons.mpr ⟨lm4, (List.forall_mem_cons.mpr ⟨lm0, e_nm⟩)⟩)⟩)⟩)⟩) ?_
        refine ew_goto (tgt := 56) dX7_laysHops_112 (by decide) ?_
        exact ew_sub (List.forall_mem_cons.mpr ⟨lm0, (List.forall_mem_cons.mpr ⟨lm1, (List.forall_mem_cons.mpr ⟨lm2, (List.forall_mem_cons.mpr ⟨lm3, (List.forall_mem_cons.mpr ⟨lm4, e_nm⟩)⟩)⟩)⟩)⟩) H
      · replace H := H.2 c12
        refine ew_aload_n dX7_laysHops_94 rfl lm0 ?_
        refine mw_gA dX7_laysHops_95 (e_fl.a q1457) mf_51 rfl ?_
        refine ew_iload_n dX7_laysHops_98 rfl lm3 ?_
        refine ew_aload_n dX7_laysHops_99 rfl lm0 ?_
        refine mw_gA dX7_laysHops_100 (e_fl.a q1457) mf_51 rfl ?_
        refine ew_iload dX7_laysHops_103 lm4 ?_
        obtain ⟨v14, H⟩ := H
        refine mw_iald dX7_laysHops_105 rfl v14.1 v14.2 ?_
        refine ew_iconst dX7_laysHops_106 (inI_of rfl) ?_
        obtain ⟨v15, H⟩ := H
        refine ew_iadd dX7_laysHops_107 v15 ?_
        obtain ⟨v18, H⟩ := H
        refine mw_iast dX7_laysHops_108 rfl v18.1 v18.2 (fun s16 e17 => ?_)
        replace H := H s16 e17
        obtain ⟨v19, H⟩ := H
        refine ew_iinc dX7_laysHops_109 lm4 (by decide) v19 (lv' := [(4, aI (x4 + 1)), (0, aR (some mT)), (1, aI x1), (2, aI x2), (3, aI x3)]) rfl ?_
        refine ew_sub (List.forall_mem_cons.mpr ⟨lm1, (List.forall_mem_cons.mpr ⟨lm2, (List.forall_mem_cons.mpr ⟨lm3, (List.forall_mem_cons.mpr ⟨lm4, (List.forall_mem_cons.mpr ⟨lm0, e_nm⟩)⟩)⟩)⟩)⟩) ?_
        refine ew_goto (tgt := 56) dX7_laysHops_112 (by decide) ?_
        exact ew_sub (List.forall_mem_cons.mpr ⟨lm0, (List.forall_mem_cons.mpr ⟨lm1, (List.forall_mem_cons.mpr ⟨lm2, (List.forall_mem_cons.mpr ⟨lm3, (List.forall_mem_cons.mpr ⟨lm4, e_nm⟩)⟩)⟩)⟩)⟩) H
set_option maxHeartbeats 4000000 in
theorem T_laysHops_E (d : Nat) (g : AH) (K : MS → Prop) (a : Int) (s0 : MS) (H : B_laysHops_E (W_laysHops_2 d g K) (W_laysHops_35 d g K) (W_laysHops_45 d g K) (W_laysHops_56 d g K) K a s0) : EW mm_laysHops (d + 2) 0 0 (mQ g K) 0 [(0, aR (some mT)), (1, aI a)] [] (mh s0 g) := by
  refine ew_iconst dX7_laysHops_0 (inI_of rfl) ?_
  refine ew_istore_n dX7_laysHops_1 rfl (by decide) (lv' := [(2, aI 0), (0, aR (some mT)), (1, aI a)]) rfl ?_
  refine ew_sub (List.forall_mem_cons.mpr ⟨lm1, (List.forall_mem_cons.mpr ⟨lm2, (List.forall_mem_cons.mpr ⟨lm0, e_nm⟩)⟩)⟩) ?_
  exact ew_sub (List.forall_mem_cons.mpr ⟨lm0, (List.forall_mem_cons.mpr ⟨lm1, (List.forall_mem_cons.mpr ⟨lm2, e_nm⟩)⟩)⟩) H
def C_laysHops (a : Int) (s0 : MS) (K : MS → Prop) : Prop := ∀ (X2 : Int → Int → MS → Prop) (X35 : Int → Int → MS → Prop) (X45 : Int → Int → Int → MS → Prop) (X56 : Int → Int → Int → Int → MS → Prop), (∀ (x1 : Int) (x2 : Int) (s0 : MS), B_laysHops_2 X2 X35 X45 X56 K x1 x2 s0 → X2 x1 x2 s0) → (∀ (x1 : Int) (x2 : Int) (s0 : MS), B_laysHops_35 X2 X35 X45 X56 K x1 x2 s0 → X35 x1 x2 s0) → (∀ (x1 : Int) (x2 : Int) (x3 : Int) (s0 : MS), B_laysHops_45 X2 X35 X45 X56 K x1 x2 x3 s0 → X45 x1 x2 x3 s0) → (∀ (x1 : Int) (x2 : Int) (x3 : Int) (x4 : Int) (s0 : MS), B_laysHops_56 X2 X35 X45 X56 K x1 x2 x3 x4 s0 → X56 x1 x2 x3 x4 s0) → B_laysHops_E X2 X35 X45 X56 K a s0
theorem S_laysHops {d : Nat} {g : AH} {K : MS → Prop} {a : Int} {s0 : MS} (H : C_laysHops a s0 K) : Sp mm_laysHops (d + 2) 0 0 [aR (some mT), aI a] (mh s0 g) (mQ g K) :=
  ew_sp rfl (Nat.le_of_ble_eq_true rfl) (T_laysHops_E d g K a s0 (H _ _ _ _ (fun x1 x2 s0 H => T_laysHops_2 d g K x1 x2 s0 H) (fun x1 x2 s0 H => T_laysHops_35 d g K x1 x2 s0 H) (fun x1 x2 x3 s0 H => T_laysHops_45 d g K x1 x2 x3 s0 H) (fun x1 x2 x3 x4 s0 H => T_laysHops_56 d g K x1 x2 x3 x4 s0 H)))
abbrev mm_way : EM := (yX7_way, cX7_way, 8, some .int, [])
theorem me_way : e_mth mm_way 3 := ⟨rfl, q1881, q117, by decide +kernel, by decide⟩
def B_way_105 (X105 : Int → Int → Int → Int → MS → Prop) (X114 : Int → Int → Int → Int → Int → MS → Prop) (K : Int → MS → Prop) (x2 : Int) (x3 : Int) (x5 : Int) (x6 : Int) (s0 : MS) : Prop :=
  ((x3 ≤ x6 → K x5 s0) ∧ (¬ x3 ≤ x6 → X114 x2 x3 x5 x6 0 s0))
def B_way_114 (X105 : Int → Int → Int → Int → MS → Prop) (X114 : Int → Int → Int → Int → Int → MS → Prop) (K : Int → MS → Prop) (x2 : Int) (x3 : Int) (x5 : Int) (x6 : Int) (x7 : Int) (s0 : MS) : Prop :=
  ((0 ≤ x7 ∧ x7 < 24) ∧ ((inI ((s0.2 51 x7) + 1)) ∧ ((0 ≤ x5 ∧ x5 < 24) ∧ ((((s0.2 51 x7) + 1) = (s0.2 51 x5) → (C_isNext x5 x7 x2 s0 (fun r9 s6 => ((r9 = 0 → (inI (x7 + 1) ∧ X114 x2 x3 x5 x6 (x7 + 1) s6)) ∧ (¬ r9 = 0 → (inI (x6 + 1) ∧ X105 x2 x3 x7 (x6 + 1) s6)))))) ∧ (¬ ((s0.2 51 x7) + 1) = (s0.2 51 x5) → (inI (x7 + 1) ∧ X114 x2 x3 x5 x6 (x7 + 1) s0))))))
def B_way_E (X105 : Int → Int → Int → Int → MS → Prop) (X114 : Int → Int → Int → Int → Int → MS → Prop) (K : Int → MS → Prop) (a : Int) (b : Int) (c : Int) (s0 : MS) : Prop :=
  (C_isTerm a s0 (fun r4 s1 => ((r4 = 0 → (C_isRefused 1 s1 (fun r10 s7 => ((r10 = 0 → (C_laysCosts s7 (fun s12 => (C_pair a b s12 (fun r18 s15 => ((0 ≤ r18 ∧ r18 < 576) ∧ (((s15.2 49 r18) < 1000000000 → (∀ s21 : MS, s21 = ms s15 52 0 → (C_laysHops b s21 (fun s23 => ((0 ≤ a ∧ a < 24) ∧ ((c ≤ (s23.2 51 a) → X105 b c a 0 s23) ∧ (¬ c ≤ (s23.2 51 a) → K (-2) s23))))))) ∧ (¬ (s15.2 49 r18) < 1000000000 → (∀ s28 : MS, s28 = ms s15 52 1 → (C_laysHops b s28 (fun s30 => ((0 ≤ a ∧ a < 24) ∧ ((c ≤ (s30.2 51 a) → X105 b c a 0 s30) ∧ (¬ c ≤ (s30.2 51 a) → K (-2) s30)))))))))))))) ∧ (¬ r10 = 0 → K (-1) s7))))) ∧ (¬ r4 = 0 → (C_isTerm b s1 (fun r38 s35 => ((r38 = 0 → (C_isRefused 1 s35 (fun r44 s41 => ((r44 = 0 → (C_laysCosts s41 (fun s46 => (C_pair a b s46 (fun r52 s49 => ((0 ≤ r52 ∧ r52 < 576) ∧ (((s49.2 49 r52) < 1000000000 → (∀ s55 : MS, s55 = ms s49 52 0 → (C_laysHops b s55 (fun s57 => ((0 ≤ a ∧ a < 24) ∧ ((c ≤ (s57.2 51 a) → X105 b c a 0 s57) ∧ (¬ c ≤ (s57.2 51 a) → K (-2) s57))))))) ∧ (¬ (s49.2 49 r52) < 1000000000 → (∀ s62 : MS, s62 = ms s49 52 1 → (C_laysHops b s62 (fun s64 => ((0 ≤ a ∧ a < 24) ∧ ((c ≤ (s64.2 51 a) → X105 b c a 0 s64) ∧ (¬ c ≤ (s64.2 51 a) → K (-2) s64)))))))))))))) ∧ (¬ r44 = 0 → K (-1) s41))))) ∧ (¬ r38 = 0 → ((c < 0 → (C_isRefused 1 s35 (fun r74 s71 => ((r74 = 0 → (C_laysCosts s71 (fun s76 => (C_pair a b s76 (fun r82 s79 => ((0 ≤ r82 ∧ r82 < 576) ∧ (((s79.2 49 r82) < 1000000000 → (∀ s85 : MS, s85 = ms s79 52 0 → (C_laysHops b s85 (fun s87 => ((0 ≤ a ∧ a < 24) ∧ ((c ≤ (s87.2 51 a) → X105 b c a 0 s87) ∧ (¬ c ≤ (s87.2 51 a) → K (-2) s87))))))) ∧ (¬ (s79.2 49 r82) < 1000000000 → (∀ s92 : MS, s92 = ms s79 52 1 → (C_laysHops b s92 (fun s94 => ((0 ≤ a ∧ a < 24) ∧ ((c ≤ (s94.2 51 a) → X105 b c a 0 s94) ∧ (¬ c ≤ (s94.2 51 a) → K (-2) s94)))))))))))))) ∧ (¬ r74 = 0 → K (-1) s71))))) ∧ (¬ c < 0 → (C_whyNotOne a b s35 (fun r103 s100 => (C_isRefused r103 s100 (fun r107 s104 => ((r107 = 0 → (C_laysCosts s104 (fun s109 => (C_pair a b s109 (fun r115 s112 => ((0 ≤ r115 ∧ r115 < 576) ∧ (((s112.2 49 r115) < 1000000000 → (∀ s118 : MS, s118 = ms s112 52 0 → (C_laysHops b s118 (fun s120 => ((0 ≤ a ∧ a < 24) ∧ ((c ≤ (s120.2 51 a) → X105 b c a 0 s120) ∧ (¬ c ≤ (s120.2 51 a) → K (-2) s120))))))) ∧ (¬ (s112.2 49 r115) < 1000000000 → (∀ s125 : MS, s125 = ms s112 52 1 → (C_laysHops b s125 (fun s127 => ((0 ≤ a ∧ a < 24) ∧ ((c ≤ (s127.2 51 a) → X105 b c a 0 s127) ∧ (¬ c ≤ (s127.2 51 a) → K (-2) s127)))))))))))))) ∧ (¬ r107 = 0 → K (-1) s104))))))))))))))))
def W_way_105 (d : Nat) (g : AH) (K : Int → MS → Prop) (x2 : Int) (x3 : Int) (x5 : Int) (x6 : Int) (s0 : MS) : Prop := EW mm_way (d + 4) 0 0 (mQi g K) 105 [(0, aR (some mT)), (2, aI x2), (3, aI x3), (5, aI x5), (6, aI x6)] [] (mh s0 g)
def W_way_114 (d : Nat) (g : AH) (K : Int → MS → Prop) (x2 : Int) (x3 : Int) (x5 : Int) (x6 : Int) (x7 : Int) (s0 : MS) : Prop := EW mm_way (d + 4) 0 0 (mQi g K) 114 [(0, aR (some mT)), (2, aI x2), (3, aI x3), (5, aI x5), (6, aI x6), (7, aI x7)] [] (mh s0 g)
set_option maxHeartbeats 4000000 in
theorem T_way_105 (d : Nat) (g : AH) (K : Int → MS → Prop) (x2 : Int) (x3 : Int) (x5 : Int) (x6 : Int) (s0 : MS) (H : B_way_105 (W_way_105 d g K) (W_way_114 d g K) K x2 x3 x5 x6 s0) : EW mm_way (d + 4) 0 0 (mQi g K) 105 [(0, aR (some mT)), (2, aI x2), (3, aI x3), (5, aI x5), (6, aI x6)] [] (mh s0 g) := by
  refine ew_iload dX7_way_105 lm4 ?_
  refine ew_iload_n dX7_way_107 rfl lm2 ?_
  refine ew_icmp_ge (tgt := 161) dX7_way_108 (by decide) (fun c1 => ?_) (fun c1 => ?_)
  · replace H := H.1 c1
    refine ew_iload dX7_way_161 lm3 ?_
    exact ew_ret (o := some (aI x5)) rfl ⟨_, _, rfl, rfl, H⟩ ⟨dX7_way_163, .int, rfl, Or.inl rfl, rfl⟩
  · replace H := H.2 c1
    refine ew_iconst dX7_way_111 (inI_of rfl) ?_
    refine ew_istore dX7_way_112 (by decide) (lv' := [(7, aI 0), (0, aR (some mT)), (2, aI x2), (3, aI x3), (5, aI x5), (6, aI x6)]) rfl ?_
    refine ew_sub (List.forall_mem_cons.mpr ⟨lm1, (List.forall_mem_cons.mpr ⟨lm2, (List.forall_mem_cons.mpr ⟨lm3, (List.forall_mem_cons.mpr ⟨lm4, (List.forall_mem_cons.mpr ⟨lm5, (List.forall_mem_cons.mpr ⟨lm0, e_nm⟩)⟩)⟩)⟩)⟩)⟩) ?_
    exact ew_sub (List.forall_mem_cons.mpr ⟨lm0, (List.forall_mem_cons.mpr ⟨lm1, (List.forall_mem_cons.mpr ⟨lm2, (List.forall_mem_cons.mpr ⟨lm3, (List.forall_mem_cons.mpr ⟨lm4, (List.forall_mem_cons.mpr ⟨lm5, e_nm⟩)⟩)⟩)⟩)⟩)⟩) H
set_option maxHeartbeats 4000000 in
theorem T_way_114 (d : Nat) (g : AH) (K : Int → MS → Prop) (x2 : Int) (x3 : Int) (x5 : Int) (x6 : Int) (x7 : Int) (s0 : MS) (H : B_way_114 (W_way_105 d g K) (W_way_114 d g K) K x2 x3 x5 x6 x7 s0) : EW mm_way (d + 4) 0 0 (mQi g K) 114 [(0, aR (some mT)), (2, aI x2), (3, aI x3), (5, aI x5), (6, aI x6), (7, aI x7)] [] (mh s0 g) := by
  refine ew_aload_n dX7_way_114 rfl lm0 ?_
  refine mw_gA dX7_way_115 (e_fl.a q1457) mf_51 rfl ?_
  refine ew_iload dX7_way_118 lm5 ?_
  obtain ⟨v1, H⟩ := H
  refine mw_iald dX7_way_120 rfl v1.1 v1.2 ?_
  refine ew_iconst dX7_way_121 (inI_of rfl) ?_
  obtain ⟨v2, H⟩ := H
  refine ew_iadd dX7_way_122 v2 ?_
  refine ew_aload_n dX7_way_123 rfl lm0 ?_
  refine mw_gA dX7_way_124 (e_fl.a q1457) mf_51 rfl ?_
  refine ew_iload dX7_way_127 lm3 ?_
  obtain ⟨v3, H⟩ := H
  refine mw_iald dX7_way_129 rfl v3.1 v3.2 ?_
  refine ew_icmp_ne (tgt := 145) dX7_way_130 (by decide) (fun c4 => ?_) (fun c4 => ?_)
  · replace H := H.2 c4
    obtain ⟨v5, H⟩ := H
    refine ew_iinc dX7_way_145 lm5 (by decide) v5 (lv' := [(7, aI (x7 + 1)), (0, aR (some mT)), (2, aI x2), (3, aI x3), (5, aI x5), (6, aI x6)]) rfl ?_
    refine ew_sub (List.forall_mem_cons.mpr ⟨lm1, (List.forall_mem_cons.mpr ⟨lm2, (List.forall_mem_cons.mpr ⟨lm3, (List.forall_mem_cons.mpr ⟨lm4, (List.forall_mem_cons.mpr ⟨lm5, (List.forall_mem_cons.mpr ⟨lm0, e_nm⟩)⟩)⟩)⟩)⟩)⟩) ?_
    refine ew_goto (tgt := 114) dX7_way_148 (by decide) ?_
    exact ew_sub (List.forall_mem_cons.mpr ⟨lm0, (List.forall_mem_cons.mpr ⟨lm1, (List.forall_mem_cons.mpr ⟨lm2, (List.forall_mem_cons.mpr ⟨lm3, (List.forall_mem_cons.mpr ⟨lm4, (List.forall_mem_cons.mpr ⟨lm5, e_nm⟩)⟩)⟩)⟩)⟩)⟩) H
  · replace H := H.1 c4
    refine ew_aload_n dX7_way_133 rfl lm0 ?_
    refine ew_iload dX7_way_134 lm3 ?_
    refine ew_iload dX7_way_136 lm5 ?_
    refine ew_iload_n dX7_way_138 rfl lm1 ?_
    refine ew_callV (d := d + 3) (as := [aI x5, aI x7, aI x2]) rfl dX7_way_139 me_isNext rfl (ci := 1) rfl rfl (mh_o _ _) (Or.inl q1886) q1888 qs100 (Nat.le_of_ble_eq_true rfl) (Nat.le_refl 0) (Nat.le_refl 0) (S_isNext (d := d + 2) H) (fun o h' hq7 _ => ?_) (fun E i h' q _ => (mQi_no q).elim)
    obtain ⟨r9, s6, E8, rfl, H⟩ := hq7
    cases E8
    refine ew_if_ne (tgt := 151) dX7_way_142 (by decide) (fun c10 => ?_) (fun c10 => ?_)
    · replace H := H.2 c10
      refine ew_iload dX7_way_151 lm5 ?_
      refine ew_istore dX7_way_153 (by decide) (lv' := [(5, aI x7), (0, aR (some mT)), (2, aI x2), (3, aI x3), (6, aI x6), (7, aI x7)]) rfl ?_
      refine ew_sub (List.forall_mem_cons.mpr ⟨lm1, (List.forall_mem_cons.mpr ⟨lm2, (List.forall_mem_cons.mpr ⟨lm3, (List.forall_mem_cons.mpr ⟨lm0, (List.forall_mem_cons.mpr ⟨lm4, (List.forall_mem_cons.mpr ⟨lm5, e_nm⟩)⟩)⟩)⟩)⟩)⟩) ?_
      obtain ⟨v11, H⟩ := H
      refine ew_iinc dX7_way_155 lm4 (by decide) v11 (lv' := [(6, aI (x6 + 1)), (0, aR (some mT)), (2, aI x2), (3, aI x3), (5, aI x7), (7, aI x7)]) rfl ?_
      refine ew_sub (List.forall_mem_cons.mpr ⟨lm1, (List.forall_mem_cons.mpr ⟨lm2, (List.forall_mem_cons.mpr ⟨lm3, (List.forall_mem_cons.mpr ⟨lm4, (List.forall_mem_cons.mpr ⟨lm0, (List.forall_mem_cons.mpr ⟨lm5, e_nm⟩)⟩)⟩)⟩)⟩)⟩) ?_
      refine ew_goto (tgt := 105) dX7_way_158 (by decide) ?_
      exact ew_sub (List.forall_mem_cons.mpr ⟨lm0, (List.forall_mem_cons.mpr ⟨lm1, (List.forall_mem_cons.mpr ⟨lm2, (List.forall_mem_cons.mpr ⟨lm3, (List.forall_mem_cons.mpr ⟨lm4, e_nm⟩)⟩)⟩)⟩)⟩) H
    · replace H := H.1 c10
      obtain ⟨v12, H⟩ := H
      refine ew_iinc dX7_way_145 lm5 (by decide) v12 (lv' := [(7, aI (x7 + 1)), (0, aR (some mT)), (2, aI x2), (3, aI x3), (5, aI x5), (6, aI x6)]) rfl ?_
      refine ew_sub (List.forall_mem_cons.mpr ⟨lm1, (List.forall_mem_cons.mpr ⟨lm2, (List.forall_mem_cons.mpr ⟨lm3, (List.forall_mem_cons.mpr ⟨lm4, (List.forall_mem_cons.mpr ⟨lm5, (List.forall_mem_cons.mpr ⟨lm0, e_nm⟩)⟩)⟩)⟩)⟩)⟩) ?_
      refine ew_goto (tgt := 114) dX7_way_148 (by decide) ?_
      exact ew_sub (List.forall_mem_cons.mpr ⟨lm0, (List.forall_mem_cons.mpr ⟨lm1, (List.forall_mem_cons.mpr ⟨lm2, (List.forall_mem_cons.mpr ⟨lm3, (List.forall_mem_cons.mpr ⟨lm4, (List.forall_mem_cons.mpr ⟨lm5, e_nm⟩)⟩)⟩)⟩)⟩)⟩) H
set_option maxHeartbeats 4000000 in
theorem T_way_E (d : Nat) (g : AH) (K : Int → MS → Prop) (a : Int) (b : Int) (c : Int) (s0 : MS) (H : B_way_E (W_way_105 d g K) (W_way_114 d g K) K a b c s0) : EW mm_way (d + 4) 0 0 (mQi g K) 0 [(0, aR (some mT)), (1, aI a), (2, aI b), (3, aI c)] [] (mh s0 g) := by
  refine ew_aload_n dX7_way_0 rfl lm0 ?_
  refine ew_iload_n dX7_way_1 rfl lm1 ?_
  refine ew_callV (d := d + 3) (as := [aI a]) rfl dX7_way_2 me_isTerm rfl (ci := 1) rfl rfl (mh_o _ _) (Or.inl q1751) q1753 qs88 (Nat.le_of_ble_eq_true rfl) (Nat.le_refl 0) (Nat.le_refl 0) (S_isTerm (d := d + 2) H) (fun o h' hq2 _ => ?_) (fun E i h' q _ => (mQi_no q).elim)
  obtain ⟨r4, s1, E3, rfl, H⟩ := hq2
  cases E3
  refine ew_if_eq (tgt := 24) dX7_way_5 (by decide) (fun c5 => ?_) (fun c5 => ?_)
  · replace H := H.1 c5
    refine ew_iconst dX7_way_24 (inI_of rfl) ?_
    refine ew_istore dX7_way_25 (by decide) (lv' := [(4, aI 0), (0, aR (some mT)), (1, aI a), (2, aI b), (3, aI c)]) rfl ?_
    refine ew_sub (List.forall_mem_cons.mpr ⟨lm1, (List.forall_mem_cons.mpr ⟨lm2, (List.forall_mem_cons.mpr ⟨lm3, (List.forall_mem_cons.mpr ⟨lm4, (List.forall_mem_cons.mpr ⟨lm0, e_nm⟩)⟩)⟩)⟩)⟩) ?_
    refine ew_aload_n dX7_way_27 rfl lm0 ?_
    refine ew_iload dX7_way_28 lm4 ?_
    refine ew_if_ne (tgt := 37) dX7_way_30 (by decide) (fun c => False.elim (by revert c; decide)) (fun _ => ?_)
    refine ew_iconst dX7_way_33 (inI_of rfl) ?_
    refine ew_goto (tgt := 43) dX7_way_34 (by decide) ?_
    refine ew_callV (d := d + 3) (as := [aI 1]) rfl dX7_way_43 me_isRefused rfl (ci := 1) rfl rfl (mh_o _ _) (Or.inl q1594) q1596 qs56 (Nat.le_of_ble_eq_true rfl) (Nat.le_refl 0) (Nat.le_refl 0) (S_isRefused (d := d + 3) H) (fun o h' hq8 _ => ?_) (fun E i h' q _ => (mQi_no q).elim)
    obtain ⟨r10, s7, E9, rfl, H⟩ := hq8
    cases E9
    refine ew_if_eq (tgt := 51) dX7_way_46 (by decide) (fun c11 => ?_) (fun c11 => ?_)
    · replace H := H.1 c11
      refine ew_aload_n dX7_way_51 rfl lm0 ?_
      refine ew_callV (d := d + 3) (as := []) rfl dX7_way_52 me_laysCosts rfl (ci := 1) rfl rfl (mh_o _ _) (Or.inl q1858) q1860 qs96 (Nat.le_of_ble_eq_true rfl) (Nat.le_refl 0) (Nat.le_refl 0) (S_laysCosts (d := d + 0) H) (fun o h' hq13 _ => ?_) (fun E i h' q _ => (mQ_no q).elim)
      obtain ⟨s12, E14, rfl, H⟩ := hq13
      cases E14
      refine ew_aload_n dX7_way_55 rfl lm0 ?_
      refine ew_aload_n dX7_way_56 rfl lm0 ?_
      refine mw_gA dX7_way_57 (e_fl.a q1455) mf_49 rfl ?_
      refine ew_iload_n dX7_way_60 rfl lm1 ?_
      refine ew_iload_n dX7_way_61 rfl lm2 ?_
      refine ew_callS (d := d + 3) (as := [aI a, aI b]) rfl dX7_way_62 me_pair rfl (Or.inl q1862) q1863 (Nat.le_of_ble_eq_true rfl) (Nat.le_refl 0) (Nat.le_refl 0) (S_pair (d := d + 3) H) (fun o h' hq16 _ => ?_) (fun E i h' q _ => (mQi_no q).elim)
      obtain ⟨r18, s15, E17, rfl, H⟩ := hq16
      cases E17
      obtain ⟨v19, H⟩ := H
      refine mw_lald dX7_way_65 rfl v19.1 v19.2 ?_
      refine ew_ldc2 (n := 1000000000) dX7_way_66 (inL_of rfl) q1877 ?_
      refine ew_lcmp dX7_way_69 ?_
      refine ew_if_lt (tgt := 77) dX7_way_70 (by decide) (fun c20 => ?_) (fun c20 => ?_)
      · replace H := H.1 (jl_lt.mp c20)
        refine ew_iconst dX7_way_77 (inI_of rfl) ?_
        refine mw_pI dX7_way_78 (e_fl.a q1458) mf_52 (Or.inr rfl) (ty := .boolean) (by decide +kernel) (Or.inl rfl) (fun s21 e22 => ?_)
        replace H := H s21 e22
        refine ew_aload_n dX7_way_81 rfl lm0 ?_
        refine ew_iload_n dX7_way_82 rfl lm2 ?_
        refine ew_callV (d := d + 3) (as := [aI b]) rfl dX7_way_83 me_laysHops rfl (ci := 1) rfl rfl (mh_o _ _) (Or.inl q1882) q1884 qs99 (Nat.le_of_ble_eq_true rfl) (Nat.le_refl 0) (Nat.le_refl 0) (S_laysHops (d := d + 1) H) (fun o h' hq24 _ => ?_) (fun E i h' q _ => (mQ_no q).elim)
        obtain ⟨s23, E25, rfl, H⟩ := hq24
        cases E25
        refine ew_iload_n dX7_way_86 rfl lm3 ?_
        refine ew_aload_n dX7_way_87 rfl lm0 ?_
        refine mw_gA dX7_way_88 (e_fl.a q1457) mf_51 rfl ?_
        refine ew_iload_n dX7_way_91 rfl lm1 ?_
        obtain ⟨v26, H⟩ := H
        refine mw_iald dX7_way_92 rfl v26.1 v26.2 ?_
        refine ew_icmp_le (tgt := 99) dX7_way_93 (by decide) (fun c27 => ?_) (fun c27 => ?_)
        · replace H := H.1 c27
          refine ew_iload_n dX7_way_99 rfl lm1 ?_
          refine ew_istore dX7_way_100 (by decide) (lv' := [(5, aI a), (0, aR (some mT)), (1, aI a), (2, aI b), (3, aI c), (4, aI 0)]) rfl ?_
          refine ew_sub (List.forall_mem_cons.mpr ⟨lm1, (List.forall_mem_cons.mpr ⟨lm2, (List.forall_mem_cons.mpr ⟨lm3, (List.forall_mem_cons.mpr ⟨lm4, (List.forall_mem_cons.mpr ⟨lm5, (List.forall_mem_cons.mpr ⟨lm0, e_nm⟩)⟩)⟩)⟩)⟩)⟩) ?_
          refine ew_iconst dX7_way_102 (inI_of rfl) ?_
          refine ew_istore dX7_way_103 (by decide) (lv' := [(6, aI 0), (0, aR (some mT)), (1, aI a), (2, aI b), (3, aI c), (4, aI 0), (5, aI a)]) rfl ?_
          refine ew_sub (List.forall_mem_cons.mpr ⟨lm1, (List.forall_mem_cons.mpr ⟨lm2, (List.forall_mem_cons.mpr ⟨lm3, (List.forall_mem_cons.mpr ⟨lm4, (List.forall_mem_cons.mpr ⟨lm5, (List.forall_mem_cons.mpr ⟨lm6, (List.forall_mem_cons.mpr ⟨lm0, e_nm⟩)⟩)⟩)⟩)⟩)⟩)⟩) ?_
          exact ew_sub (List.forall_mem_cons.mpr ⟨lm0, (List.forall_mem_cons.mpr ⟨lm2, (List.forall_mem_cons.mpr ⟨lm3, (List.forall_mem_cons.mpr ⟨lm5, (List.forall_mem_cons.mpr ⟨lm6, e_nm⟩)⟩)⟩)⟩)⟩) H
        · replace H := H.2 c27
          refine ew_bipush dX7_way_96 (inI_of rfl) (by decide) ?_
          exact ew_ret (o := some (aI (-2))) rfl ⟨_, _, rfl, rfl, H⟩ ⟨dX7_way_98, .int, rfl, Or.inl rfl, rfl⟩
      · replace H := H.2 (fun z => c20 (jl_lt.mpr z))
        refine ew_iconst dX7_way_73 (inI_of rfl) ?_
        refine ew_goto (tgt := 78) dX7_way_74 (by decide) ?_
        refine mw_pI dX7_way_78 (e_fl.a q1458) mf_52 (Or.inr rfl) (ty := .boolean) (by decide +kernel) (Or.inr rfl) (fun s28 e29 => ?_)
        replace H := H s28 e29
        refine ew_aload_n dX7_way_81 rfl lm0 ?_
        refine ew_iload_n dX7_way_82 rfl lm2 ?_
        refine ew_callV (d := d + 3) (as := [aI b]) rfl dX7_way_83 me_laysHops rfl (ci := 1) rfl rfl (mh_o _ _) (Or.inl q1882) q1884 qs99 (Nat.le_of_ble_eq_true rfl) (Nat.le_refl 0) (Nat.le_refl 0) (S_laysHops (d := d + 1) H) (fun o h' hq31 _ => ?_) (fun E i h' q _ => (mQ_no q).elim)
        obtain ⟨s30, E32, rfl, H⟩ := hq31
        cases E32
        refine ew_iload_n dX7_way_86 rfl lm3 ?_
        refine ew_aload_n dX7_way_87 rfl lm0 ?_
        refine mw_gA dX7_way_88 (e_fl.a q1457) mf_51 rfl ?_
        refine ew_iload_n dX7_way_91 rfl lm1 ?_
        obtain ⟨v33, H⟩ := H
        refine mw_iald dX7_way_92 rfl v33.1 v33.2 ?_
        refine ew_icmp_le (tgt := 99) dX7_way_93 (by decide) (fun c34 => ?_) (fun c34 => ?_)
        · replace H := H.1 c34
          refine ew_iload_n dX7_way_99 rfl lm1 ?_
          refine ew_istore dX7_way_100 (by decide) (lv' := [(5, aI a), (0, aR (some mT)), (1, aI a), (2, aI b), (3, aI c), (4, aI 0)]) rfl ?_
          refine ew_sub (List.forall_mem_cons.mpr ⟨lm1, (List.forall_mem_cons.mpr ⟨lm2, (List.forall_mem_cons.mpr ⟨lm3, (List.forall_mem_cons.mpr ⟨lm4, (List.forall_mem_cons.mpr ⟨lm5, (List.forall_mem_cons.mpr ⟨lm0, e_nm⟩)⟩)⟩)⟩)⟩)⟩) ?_
          refine ew_iconst dX7_way_102 (inI_of rfl) ?_
          refine ew_istore dX7_way_103 (by decide) (lv' := [(6, aI 0), (0, aR (some mT)), (1, aI a), (2, aI b), (3, aI c), (4, aI 0), (5, aI a)]) rfl ?_
          refine ew_sub (List.forall_mem_cons.mpr ⟨lm1, (List.forall_mem_cons.mpr ⟨lm2, (List.forall_mem_cons.mpr ⟨lm3, (List.forall_mem_cons.mpr ⟨lm4, (List.forall_mem_cons.mpr ⟨lm5, (List.forall_mem_cons.mpr ⟨lm6, (List.forall_mem_cons.mpr ⟨lm0, e_nm⟩)⟩)⟩)⟩)⟩)⟩)⟩) ?_
          exact ew_sub (List.forall_mem_cons.mpr ⟨lm0, (List.forall_mem_cons.mpr ⟨lm2, (List.forall_mem_cons.mpr ⟨lm3, (List.forall_mem_cons.mpr ⟨lm5, (List.forall_mem_cons.mpr ⟨lm6, e_nm⟩)⟩)⟩)⟩)⟩) H
        · replace H := H.2 c34
          refine ew_bipush dX7_way_96 (inI_of rfl) (by decide) ?_
          exact ew_ret (o := some (aI (-2))) rfl ⟨_, _, rfl, rfl, H⟩ ⟨dX7_way_98, .int, rfl, Or.inl rfl, rfl⟩
    · replace H := H.2 c11
      refine ew_iconst dX7_way_49 (inI_of rfl) ?_
      exact ew_ret (o := some (aI (-1))) rfl ⟨_, _, rfl, rfl, H⟩ ⟨dX7_way_50, .int, rfl, Or.inl rfl, rfl⟩
  · replace H := H.2 c5
    refine ew_aload_n dX7_way_8 rfl lm0 ?_
    refine ew_iload_n dX7_way_9 rfl lm2 ?_
    refine ew_callV (d := d + 3) (as := [aI b]) rfl dX7_way_10 me_isTerm rfl (ci := 1) rfl rfl (mh_o _ _) (Or.inl q1751) q1753 qs88 (Nat.le_of_ble_eq_true rfl) (Nat.le_refl 0) (Nat.le_refl 0) (S_isTerm (d := d + 2) H) (fun o h' hq36 _ => ?_) (fun E i h' q _ => (mQi_no q).elim)
    obtain ⟨r38, s35, E37, rfl, H⟩ := hq36
    cases E37
    refine ew_if_eq (tgt := 24) dX7_way_13 (by decide) (fun c39 => ?_) (fun c39 => ?_)
    · replace H := H.1 c39
      refine ew_iconst dX7_way_24 (inI_of rfl) ?_
      refine ew_istore dX7_way_25 (by decide) (lv' := [(4, aI 0), (0, aR (some mT)), (1, aI a), (2, aI b), (3, aI c)]) rfl ?_
      refine ew_sub (List.forall_mem_cons.mpr ⟨lm1, (List.forall_mem_cons.mpr ⟨lm2, (List.forall_mem_cons.mpr ⟨lm3, (List.forall_mem_cons.mpr ⟨lm4, (List.forall_mem_cons.mpr ⟨lm0, e_nm⟩)⟩)⟩)⟩)⟩) ?_
      refine ew_aload_n dX7_way_27 rfl lm0 ?_
      refine ew_iload dX7_way_28 lm4 ?_
      refine ew_if_ne (tgt := 37) dX7_way_30 (by decide) (fun c => False.elim (by revert c; decide)) (fun _ => ?_)
      refine ew_iconst dX7_way_33 (inI_of rfl) ?_
      refine ew_goto (tgt := 43) dX7_way_34 (by decide) ?_
      refine ew_callV (d := d + 3) (as := [aI 1]) rfl dX7_way_43 me_isRefused rfl (ci := 1) rfl rfl (mh_o _ _) (Or.inl q1594) q1596 qs56 (Nat.le_of_ble_eq_true rfl) (Nat.le_refl 0) (Nat.le_refl 0) (S_isRefused (d := d + 3) H) (fun o h' hq42 _ => ?_) (fun E i h' q _ => (mQi_no q).elim)
      obtain ⟨r44, s41, E43, rfl, H⟩ := hq42
      cases E43
      refine ew_if_eq (tgt := 51) dX7_way_46 (by decide) (fun c45 => ?_) (fun c45 => ?_)
      · replace H := H.1 c45
        refine ew_aload_n dX7_way_51 rfl lm0 ?_
        refine ew_callV (d := d + 3) (as := []) rfl dX7_way_52 me_laysCosts rfl (ci := 1) rfl rfl (mh_o _ _) (Or.inl q1858) q1860 qs96 (Nat.le_of_ble_eq_true rfl) (Nat.le_refl 0) (Nat.le_refl 0) (S_laysCosts (d := d + 0) H) (fun o h' hq47 _ => ?_) (fun E i h' q _ => (mQ_no q).elim)
        obtain ⟨s46, E48, rfl, H⟩ := hq47
        cases E48
        refine ew_aload_n dX7_way_55 rfl lm0 ?_
        refine ew_aload_n dX7_way_56 rfl lm0 ?_
        refine mw_gA dX7_way_57 (e_fl.a q1455) mf_49 rfl ?_
        refine ew_iload_n dX7_way_60 rfl lm1 ?_
        refine ew_iload_n dX7_way_61 rfl lm2 ?_
        refine ew_callS (d := d + 3) (as := [aI a, aI b]) rfl dX7_way_62 me_pair rfl (Or.inl q1862) q1863 (Nat.le_of_ble_eq_true rfl) (Nat.le_refl 0) (Nat.le_refl 0) (S_pair (d := d + 3) H) (fun o h' hq50 _ => ?_) (fun E i h' q _ => (mQi_no q).elim)
        obtain ⟨r52, s49, E51, rfl, H⟩ := hq50
        cases E51
        obtain ⟨v53, H⟩ := H
        refine mw_lald dX7_way_65 rfl v53.1 v53.2 ?_
        refine ew_ldc2 (n := 1000000000) dX7_way_66 (inL_of rfl) q1877 ?_
        refine ew_lcmp dX7_way_69 ?_
        refine ew_if_lt (tgt := 77) dX7_way_70 (by decide) (fun c54 => ?_) (fun c54 => ?_)
        · replace H := H.1 (jl_lt.mp c54)
          refine ew_iconst dX7_way_77 (inI_of rfl) ?_
          refine mw_pI dX7_way_78 (e_fl.a q1458) mf_52 (Or.inr rfl) (ty := .boolean) (by decide +kernel) (Or.inl rfl) (fun s55 e56 => ?_)
          replace H := H s55 e56
          refine ew_aload_n dX7_way_81 rfl lm0 ?_
          refine ew_iload_n dX7_way_82 rfl lm2 ?_
          refine ew_callV (d := d + 3) (as := [aI b]) rfl dX7_way_83 me_laysHops rfl (ci := 1) rfl rfl (mh_o _ _) (Or.inl q1882) q1884 qs99 (Nat.le_of_ble_eq_true rfl) (Nat.le_refl 0) (Nat.le_refl 0) (S_laysHops (d := d + 1) H) (fun o h' hq58 _ => ?_) (fun E i h' q _ => (mQ_no q).elim)
          obtain ⟨s57, E59, rfl, H⟩ := hq58
          cases E59
          refine ew_iload_n dX7_way_86 rfl lm3 ?_
          refine ew_aload_n dX7_way_87 rfl lm0 ?_
          refine mw_gA dX7_way_88 (e_fl.a q1457) mf_51 rfl ?_
          refine ew_iload_n dX7_way_91 rfl lm1 ?_
          obtain ⟨v60, H⟩ := H
          refine mw_iald dX7_way_92 rfl v60.1 v60.2 ?_
          refine ew_icmp_le (tgt := 99) dX7_way_93 (by decide) (fun c61 => ?_) (fun c61 => ?_)
          · replace H := H.1 c61
            refine ew_iload_n dX7_way_99 rfl lm1 ?_
            refine ew_istore dX7_way_100 (by decide) (lv' := [(5, aI a), (0, aR (some mT)), (1, aI a), (2, aI b), (3, aI c), (4, aI 0)]) rfl ?_
            refine ew_sub (List.forall_mem_cons.mpr ⟨lm1, (List.forall_mem_cons.mpr ⟨lm2, (List.forall_mem_cons.mpr ⟨lm3, (List.forall_mem_cons.mpr ⟨lm4, (List.forall_mem_cons.mpr ⟨lm5, (List.forall_mem_cons.mpr ⟨lm0, e_nm⟩)⟩)⟩)⟩)⟩)⟩) ?_
            refine ew_iconst dX7_way_102 (inI_of rfl) ?_
            refine ew_istore dX7_way_103 (by decide) (lv' := [(6, aI 0), (0, aR (some mT)), (1, aI a), (2, aI b), (3, aI c), (4, aI 0), (5, aI a)]) rfl ?_
            refine ew_sub (List.forall_mem_cons.mpr ⟨lm1, (List.forall_mem_cons.mpr ⟨lm2, (List.forall_mem_cons.mpr ⟨lm3, (List.forall_mem_cons.mpr ⟨lm4, (List.forall_mem_cons.mpr ⟨lm5, (List.forall_mem_cons.mpr ⟨lm6, (List.forall_mem_cons.mpr ⟨lm0, e_nm⟩)⟩)⟩)⟩)⟩)⟩)⟩) ?_
            exact ew_sub (List.forall_mem_cons.mpr ⟨lm0, (List.forall_mem_cons.mpr ⟨lm2, (List.forall_mem_cons.mpr ⟨lm3, (List.forall_mem_cons.mpr ⟨lm5, (List.forall_mem_cons.mpr ⟨lm6, e_nm⟩)⟩)⟩)⟩)⟩) H
          · replace H := H.2 c61
            refine ew_bipush dX7_way_96 (inI_of rfl) (by decide) ?_
            exact ew_ret (o := some (aI (-2))) rfl ⟨_, _, rfl, rfl, H⟩ ⟨dX7_way_98, .int, rfl, Or.inl rfl, rfl⟩
        · replace H := H.2 (fun z => c54 (jl_lt.mpr z))
          refine ew_iconst dX7_way_73 (inI_of rfl) ?_
          refine ew_goto (tgt := 78) dX7_way_74 (by decide) ?_
          refine mw_pI dX7_way_78 (e_fl.a q1458) mf_52 (Or.inr rfl) (ty := .boolean) (by decide +kernel) (Or.inr rfl) (fun s62 e63 => ?_)
          replace H := H s62 e63
          refine ew_aload_n dX7_way_81 rfl lm0 ?_
          refine ew_iload_n dX7_way_82 rfl lm2 ?_
          refine ew_callV (d := d + 3) (as := [aI b]) rfl dX7_way_83 me_laysHops rfl (ci := 1) rfl rfl (mh_o _ _) (Or.inl q1882) q1884 qs99 (Nat.le_of_ble_eq_true rfl) (Nat.le_refl 0) (Nat.le_refl 0) (S_laysHops (d := d + 1) H) (fun o h' hq65 _ => ?_) (fun E i h' q _ => (mQ_no q).elim)
          obtain ⟨s64, E66, rfl, H⟩ := hq65
          cases E66
          refine ew_iload_n dX7_way_86 rfl lm3 ?_
          refine ew_aload_n dX7_way_87 rfl lm0 ?_
          refine mw_gA dX7_way_88 (e_fl.a q1457) mf_51 rfl ?_
          refine ew_iload_n dX7_way_91 rfl lm1 ?_
          obtain ⟨v67, H⟩ := H
          refine mw_iald dX7_way_92 rfl v67.1 v67.2 ?_
          refine ew_icmp_le (tgt := 99) dX7_way_93 (by decide) (fun c68 => ?_) (fun c68 => ?_)
          · replace H := H.1 c68
            refine ew_iload_n dX7_way_99 rfl lm1 ?_
            refine ew_istore dX7_way_100 (by decide) (lv' := [(5, aI a), (0, aR (some mT)), (1, aI a), (2, aI b), (3, aI c), (4, aI 0)]) rfl ?_
            refine ew_sub (List.forall_mem_cons.mpr ⟨lm1, (List.forall_mem_cons.mpr ⟨lm2, (List.forall_mem_cons.mpr ⟨lm3, (List.forall_mem_cons.mpr ⟨lm4, (List.forall_mem_cons.mpr ⟨lm5, (List.forall_mem_cons.mpr ⟨lm0, e_nm⟩)⟩)⟩)⟩)⟩)⟩) ?_
            refine ew_iconst dX7_way_102 (inI_of rfl) ?_
            refine ew_istore dX7_way_103 (by decide) (lv' := [(6, aI 0), (0, aR (some mT)), (1, aI a), (2, aI b), (3, aI c), (4, aI 0), (5, aI a)]) rfl ?_
            refine ew_sub (List.forall_mem_cons.mpr ⟨lm1, (List.forall_mem_cons.mpr ⟨lm2, (List.forall_mem_cons.mpr ⟨lm3, (List.forall_mem_cons.mpr ⟨lm4, (List.forall_mem_cons.mpr ⟨lm5, (List.forall_mem_cons.mpr ⟨lm6, (List.forall_mem_cons.mpr ⟨lm0, e_nm⟩)⟩)⟩)⟩)⟩)⟩)⟩) ?_
            exact ew_sub (List.forall_mem_cons.mpr ⟨lm0, (List.forall_mem_cons.mpr ⟨lm2, (List.forall_mem_cons.mpr ⟨lm3, (List.forall_mem_cons.mpr ⟨lm5, (List.forall_mem_cons.mpr ⟨lm6, e_nm⟩)⟩)⟩)⟩)⟩) H
          · replace H := H.2 c68
            refine ew_bipush dX7_way_96 (inI_of rfl) (by decide) ?_
            exact ew_ret (o := some (aI (-2))) rfl ⟨_, _, rfl, rfl, H⟩ ⟨dX7_way_98, .int, rfl, Or.inl rfl, rfl⟩
      · replace H := H.2 c45
        refine ew_iconst dX7_way_49 (inI_of rfl) ?_
        exact ew_ret (o := some (aI (-1))) rfl ⟨_, _, rfl, rfl, H⟩ ⟨dX7_way_50, .int, rfl, Or.inl rfl, rfl⟩
    · replace H := H.2 c39
      refine ew_iload_n dX7_way_16 rfl lm3 ?_
      refine ew_if_lt (tgt := 24) dX7_way_17 (by decide) (fun c69 => ?_) (fun c69 => ?_)
      · replace H := H.1 c69
        refine ew_iconst dX7_way_24 (inI_of rfl) ?_
        refine ew_istore dX7_way_25 (by decide) (lv' := [(4, aI 0), (0, aR (some mT)), (1, aI a), (2, aI b), (3, aI c)]) rfl ?_
        refine ew_sub (List.forall_mem_cons.mpr ⟨lm1, (List.forall_mem_cons.mpr ⟨lm2, (List.forall_mem_cons.mpr ⟨lm3, (List.forall_mem_cons.mpr ⟨lm4, (List.forall_mem_cons.mpr ⟨lm0, e_nm⟩)⟩)⟩)⟩)⟩) ?_
        refine ew_aload_n dX7_way_27 rfl lm0 ?_
        refine ew_iload dX7_way_28 lm4 ?_
        refine ew_if_ne (tgt := 37) dX7_way_30 (by decide) (fun c => False.elim (by revert c; decide)) (fun _ => ?_)
        refine ew_iconst dX7_way_33 (inI_of rfl) ?_
        refine ew_goto (tgt := 43) dX7_way_34 (by decide) ?_
        refine ew_callV (d := d + 3) (as := [aI 1]) rfl dX7_way_43 me_isRefused rfl (ci := 1) rfl rfl (mh_o _ _) (Or.inl q1594) q1596 qs56 (Nat.le_of_ble_eq_true rfl) (Nat.le_refl 0) (Nat.le_refl 0) (S_isRefused (d := d + 3) H) (fun o h' hq72 _ => ?_) (fun E i h' q _ => (mQi_no q).elim)
        obtain ⟨r74, s71, E73, rfl, H⟩ := hq72
        cases E73
        refine ew_if_eq (tgt := 51) dX7_way_46 (by decide) (fun c75 => ?_) (fun c75 => ?_)
        · replace H := H.1 c75
          refine ew_aload_n dX7_way_51 rfl lm0 ?_
          refine ew_callV (d := d + 3) (as := []) rfl dX7_way_52 me_laysCosts rfl (ci := 1) rfl rfl (mh_o _ _) (Or.inl q1858) q1860 qs96 (Nat.le_of_ble_eq_true rfl) (Nat.le_refl 0) (Nat.le_refl 0) (S_laysCosts (d := d + 0) H) (fun o h' hq77 _ => ?_) (fun E i h' q _ => (mQ_no q).elim)
          obtain ⟨s76, E78, rfl, H⟩ := hq77
          cases E78
          refine ew_aload_n dX7_way_55 rfl lm0 ?_
          refine ew_aload_n dX7_way_56 rfl lm0 ?_
          refine mw_gA dX7_way_57 (e_fl.a q1455) mf_49 rfl ?_
          refine ew_iload_n dX7_way_60 rfl lm1 ?_
          refine ew_iload_n dX7_way_61 rfl lm2 ?_
          refine ew_callS (d := d + 3) (as := [aI a, aI b]) rfl dX7_way_62 me_pair rfl (Or.inl q1862) q1863 (Nat.le_of_ble_eq_true rfl) (Nat.le_refl 0) (Nat.le_refl 0) (S_pair (d := d + 3) H) (fun o h' hq80 _ => ?_) (fun E i h' q _ => (mQi_no q).elim)
          obtain ⟨r82, s79, E81, rfl, H⟩ := hq80
          cases E81
          obtain ⟨v83, H⟩ := H
          refine mw_lald dX7_way_65 rfl v83.1 v83.2 ?_
          refine ew_ldc2 (n := 1000000000) dX7_way_66 (inL_of rfl) q1877 ?_
          refine ew_lcmp dX7_way_69 ?_
          refine ew_if_lt (tgt := 77) dX7_way_70 (by decide) (fun c84 => ?_) (fun c84 => ?_)
          · replace H := H.1 (jl_lt.mp c84)
            refine ew_iconst dX7_way_77 (inI_of rfl) ?_
            refine mw_pI dX7_way_78 (e_fl.a q1458) mf_52 (Or.inr rfl) (ty := .boolean) (by decide +kernel) (Or.inl rfl) (fun s85 e86 => ?_)
            replace H := H s85 e86
            refine ew_aload_n dX7_way_81 rfl lm0 ?_
            refine ew_iload_n dX7_way_82 rfl lm2 ?_
            refine ew_callV (d := d + 3) (as := [aI b]) rfl dX7_way_83 me_laysHops rfl (ci := 1) rfl rfl (mh_o _ _) (Or.inl q1882) q1884 qs99 (Nat.le_of_ble_eq_true rfl) (Nat.le_refl 0) (Nat.le_refl 0) (S_laysHops (d := d + 1) H) (fun o h' hq88 _ => ?_) (fun E i h' q _ => (mQ_no q).elim)
            obtain ⟨s87, E89, rfl, H⟩ := hq88
            cases E89
            refine ew_iload_n dX7_way_86 rfl lm3 ?_
            refine ew_aload_n dX7_way_87 rfl lm0 ?_
            refine mw_gA dX7_way_88 (e_fl.a q1457) mf_51 rfl ?_
            refine ew_iload_n dX7_way_91 rfl lm1 ?_
            obtain ⟨v90, H⟩ := H
            refine mw_iald dX7_way_92 rfl v90.1 v90.2 ?_
            refine ew_icmp_le (tgt := 99) dX7_way_93 (by decide) (fun c91 => ?_) (fun c91 => ?_)
            · replace H := H.1 c91
              refine ew_iload_n dX7_way_99 rfl lm1 ?_
              refine ew_istore dX7_way_100 (by decide) (lv' := [(5, aI a), (0, aR (some mT)), (1, aI a), (2, aI b), (3, aI c), (4, aI 0)]) rfl ?_
              refine ew_sub (List.forall_mem_cons.mpr ⟨lm1, (List.forall_mem_cons.mpr ⟨lm2, (List.forall_mem_cons.mpr ⟨lm3, (List.forall_mem_cons.mpr ⟨lm4, (List.forall_mem_cons.mpr ⟨lm5, (List.forall_mem_cons.mpr ⟨lm0, e_nm⟩)⟩)⟩)⟩)⟩)⟩) ?_
              refine ew_iconst dX7_way_102 (inI_of rfl) ?_
              refine ew_istore dX7_way_103 (by decide) (lv' := [(6, aI 0), (0, aR (some mT)), (1, aI a), (2, aI b), (3, aI c), (4, aI 0), (5, aI a)]) rfl ?_
              refine ew_sub (List.forall_mem_cons.mpr ⟨lm1, (List.forall_mem_cons.mpr ⟨lm2, (List.forall_mem_cons.mpr ⟨lm3, (List.forall_mem_cons.mpr ⟨lm4, (List.forall_mem_cons.mpr ⟨lm5, (List.forall_mem_cons.mpr ⟨lm6, (List.forall_mem_cons.mpr ⟨lm0, e_nm⟩)⟩)⟩)⟩)⟩)⟩)⟩) ?_
              exact ew_sub (List.forall_mem_cons.mpr ⟨lm0, (List.forall_mem_cons.mpr ⟨lm2, (List.forall_mem_cons.mpr ⟨lm3, (List.forall_mem_cons.mpr ⟨lm5, (List.forall_mem_cons.mpr ⟨lm6, e_nm⟩)⟩)⟩)⟩)⟩) H
            · replace H := H.2 c91
              refine ew_bipush dX7_way_96 (inI_of rfl) (by decide) ?_
              exact ew_ret (o := some (aI (-2))) rfl ⟨_, _, rfl, rfl, H⟩ ⟨dX7_way_98, .int, rfl, Or.inl rfl, rfl⟩
          · replace H := H.2 (fun z => c84 (jl_lt.mpr z))
            refine ew_iconst dX7_way_73 (inI_of rfl) ?_
            refine ew_goto (tgt := 78) dX7_way_74 (by decide) ?_
            refine mw_pI dX7_way_78 (e_fl.a q1458) mf_52 (Or.inr rfl) (ty := .boolean) (by decide +kernel) (Or.inr rfl) (fun s92 e93 => ?_)
            replace H := H s92 e93
            refine ew_aload_n dX7_way_81 rfl lm0 ?_
            refine ew_iload_n dX7_way_82 rfl lm2 ?_
            refine ew_callV (d := d + 3) (as := [aI b]) rfl dX7_way_83 me_laysHops rfl (ci := 1) rfl rfl (mh_o _ _) (Or.inl q1882) q1884 qs99 (Nat.le_of_ble_eq_true rfl) (Nat.le_refl 0) (Nat.le_refl 0) (S_laysHops (d := d + 1) H) (fun o h' hq95 _ => ?_) (fun E i h' q _ => (mQ_no q).elim)
            obtain ⟨s94, E96, rfl, H⟩ := hq95
            cases E96
            refine ew_iload_n dX7_way_86 rfl lm3 ?_
            refine ew_aload_n dX7_way_87 rfl lm0 ?_
            refine mw_gA dX7_way_88 (e_fl.a q1457) mf_51 rfl ?_
            refine ew_iload_n dX7_way_91 rfl lm1 ?_
            obtain ⟨v97, H⟩ := H
            refine mw_iald dX7_way_92 rfl v97.1 v97.2 ?_
            refine ew_icmp_le (tgt := 99) dX7_way_93 (by decide) (fun c98 => ?_) (fun c98 => ?_)
            · replace H := H.1 c98
              refine ew_iload_n dX7_way_99 rfl lm1 ?_
              refine ew_istore dX7_way_100 (by decide) (lv' := [(5, aI a), (0, aR (some mT)), (1, aI a), (2, aI b), (3, aI c), (4, aI 0)]) rfl ?_
              refine ew_sub (List.forall_mem_cons.mpr ⟨lm1, (List.forall_mem_cons.mpr ⟨lm2, (List.forall_mem_cons.mpr ⟨lm3, (List.forall_mem_cons.mpr ⟨lm4, (List.forall_mem_cons.mpr ⟨lm5, (List.forall_mem_cons.mpr ⟨lm0, e_nm⟩)⟩)⟩)⟩)⟩)⟩) ?_
              refine ew_iconst dX7_way_102 (inI_of rfl) ?_
              refine ew_istore dX7_way_103 (by decide) (lv' := [(6, aI 0), (0, aR (some mT)), (1, aI a), (2, aI b), (3, aI c), (4, aI 0), (5, aI a)]) rfl ?_
              refine ew_sub (List.forall_mem_cons.mpr ⟨lm1, (List.forall_mem_cons.mpr ⟨lm2, (List.forall_mem_cons.mpr ⟨lm3, (List.forall_mem_cons.mpr ⟨lm4, (List.forall_mem_cons.mpr ⟨lm5, (List.forall_mem_cons.mpr ⟨lm6, (List.forall_mem_cons.mpr ⟨lm0, e_nm⟩)⟩)⟩)⟩)⟩)⟩)⟩) ?_
              exact ew_sub (List.forall_mem_cons.mpr ⟨lm0, (List.forall_mem_cons.mpr ⟨lm2, (List.forall_mem_cons.mpr ⟨lm3, (List.forall_mem_cons.mpr ⟨lm5, (List.forall_mem_cons.mpr ⟨lm6, e_nm⟩)⟩)⟩)⟩)⟩) H
            · replace H := H.2 c98
              refine ew_bipush dX7_way_96 (inI_of rfl) (by decide) ?_
              exact ew_ret (o := some (aI (-2))) rfl ⟨_, _, rfl, rfl, H⟩ ⟨dX7_way_98, .int, rfl, Or.inl rfl, rfl⟩
        · replace H := H.2 c75
          refine ew_iconst dX7_way_49 (inI_of rfl) ?_
          exact ew_ret (o := some (aI (-1))) rfl ⟨_, _, rfl, rfl, H⟩ ⟨dX7_way_50, .int, rfl, Or.inl rfl, rfl⟩
      · replace H := H.2 c69
        refine ew_iconst dX7_way_20 (inI_of rfl) ?_
        refine ew_goto (tgt := 25) dX7_way_21 (by decide) ?_
        refine ew_istore dX7_way_25 (by decide) (lv' := [(4, aI 1), (0, aR (some mT)), (1, aI a), (2, aI b), (3, aI c)]) rfl ?_
        refine ew_sub (List.forall_mem_cons.mpr ⟨lm1, (List.forall_mem_cons.mpr ⟨lm2, (List.forall_mem_cons.mpr ⟨lm3, (List.forall_mem_cons.mpr ⟨lm4, (List.forall_mem_cons.mpr ⟨lm0, e_nm⟩)⟩)⟩)⟩)⟩) ?_
        refine ew_aload_n dX7_way_27 rfl lm0 ?_
        refine ew_iload dX7_way_28 lm4 ?_
        refine ew_if_ne (tgt := 37) dX7_way_30 (by decide) (fun _ => ?_) (fun c => False.elim (by revert c; decide))
        refine ew_aload_n dX7_way_37 rfl lm0 ?_
        refine ew_iload_n dX7_way_38 rfl lm1 ?_
        refine ew_iload_n dX7_way_39 rfl lm2 ?_
        refine ew_callV (d := d + 3) (as := [aI a, aI b]) rfl dX7_way_40 me_whyNotOne rfl (ci := 1) rfl rfl (mh_o _ _) (Or.inl q1815) q1817 qs95 (Nat.le_of_ble_eq_true rfl) (Nat.le_refl 0) (Nat.le_refl 0) (S_whyNotOne (d := d + 1) H) (fun o h' hq101 _ => ?_) (fun E i h' q _ => (mQi_no q).elim)
        obtain ⟨r103, s100, E102, rfl, H⟩ := hq101
        cases E102
        refine ew_callV (d := d + 3) (as := [aI r103]) rfl dX7_way_43 me_isRefused rfl (ci := 1) rfl rfl (mh_o _ _) (Or.inl q1594) q1596 qs56 (Nat.le_of_ble_eq_true rfl) (Nat.le_refl 0) (Nat.le_refl 0) (S_isRefused (d := d + 3) H) (fun o h' hq105 _ => ?_) (fun E i h' q _ => (mQi_no q).elim)
        obtain ⟨r107, s104, E106, rfl, H⟩ := hq105
        cases E106
        refine ew_if_eq (tgt := 51) dX7_way_46 (by decide) (fun c108 => ?_) (fun c108 => ?_)
        · replace H := H.1 c108
          refine ew_aload_n dX7_way_51 rfl lm0 ?_
          refine ew_callV (d := d + 3) (as := []) rfl dX7_way_52 me_laysCosts rfl (ci := 1) rfl rfl (mh_o _ _) (Or.inl q1858) q1860 qs96 (Nat.le_of_ble_eq_true rfl) (Nat.le_refl 0) (Nat.le_refl 0) (S_laysCosts (d := d + 0) H) (fun o h' hq110 _ => ?_) (fun E i h' q _ => (mQ_no q).elim)
          obtain ⟨s109, E111, rfl, H⟩ := hq110
          cases E111
          refine ew_aload_n dX7_way_55 rfl lm0 ?_
          refine ew_aload_n dX7_way_56 rfl lm0 ?_
          refine mw_gA dX7_way_57 (e_fl.a q1455) mf_49 rfl ?_
          refine ew_iload_n dX7_way_60 rfl lm1 ?_
          refine ew_iload_n dX7_way_61 rfl lm2 ?_
          refine ew_callS (d := d + 3) (as := [aI a, aI b]) rfl dX7_way_62 me_pair rfl (Or.inl q1862) q1863 (Nat.le_of_ble_eq_true rfl) (Nat.le_refl 0) (Nat.le_refl 0) (S_pair (d := d + 3) H) (fun o h' hq113 _ => ?_) (fun E i h' q _ => (mQi_no q).elim)
          obtain ⟨r115, s112, E114, rfl, H⟩ := hq113
          cases E114
          obtain ⟨v116, H⟩ := H
          refine mw_lald dX7_way_65 rfl v116.1 v116.2 ?_
          refine ew_ldc2 (n := 1000000000) dX7_way_66 (inL_of rfl) q1877 ?_
          refine ew_lcmp dX7_way_69 ?_
          refine ew_if_lt (tgt := 77) dX7_way_70 (by decide) (fun c117 => ?_) (fun c117 => ?_)
          · replace H := H.1 (jl_lt.mp c117)
            refine ew_iconst dX7_way_77 (inI_of rfl) ?_
            refine mw_pI dX7_way_78 (e_fl.a q1458) mf_52 (Or.inr rfl) (ty := .boolean) (by decide +kernel) (Or.inl rfl) (fun s118 e119 => ?_)
            replace H := H s118 e119
            refine ew_aload_n dX7_way_81 rfl lm0 ?_
            refine ew_iload_n dX7_way_82 rfl lm2 ?_
            refine ew_callV (d := d + 3) (as := [aI b]) rfl dX7_way_83 me_laysHops rfl (ci := 1) rfl rfl (mh_o _ _) (Or.inl q1882) q1884 qs99 (Nat.le_of_ble_eq_true rfl) (Nat.le_refl 0) (Nat.le_refl 0) (S_laysHops (d := d + 1) H) (fun o h' hq121 _ => ?_) (fun E i h' q _ => (mQ_no q).elim)
            obtain ⟨s120, E122, rfl, H⟩ := hq121
            cases E122
            refine ew_iload_n dX7_way_86 rfl lm3 ?_
            refine ew_aload_n dX7_way_87 rfl lm0 ?_
            refine mw_gA dX7_way_88 (e_fl.a q1457) mf_51 rfl ?_
            refine ew_iload_n dX7_way_91 rfl lm1 ?_
            obtain ⟨v123, H⟩ := H
            refine mw_iald dX7_way_92 rfl v123.1 v123.2 ?_
            refine ew_icmp_le (tgt := 99) dX7_way_93 (by decide) (fun c124 => ?_) (fun c124 => ?_)
            · replace H := H.1 c124
              refine ew_iload_n dX7_way_99 rfl lm1 ?_
              refine ew_istore dX7_way_100 (by decide) (lv' := [(5, aI a), (0, aR (some mT)), (1, aI a), (2, aI b), (3, aI c), (4, aI 1)]) rfl ?_
              refine ew_sub (List.forall_mem_cons.mpr ⟨lm1, (List.forall_mem_cons.mpr ⟨lm2, (List.forall_mem_cons.mpr ⟨lm3, (List.forall_mem_cons.mpr ⟨lm4, (List.forall_mem_cons.mpr ⟨lm5, (List.forall_mem_cons.mpr ⟨lm0, e_nm⟩)⟩)⟩)⟩)⟩)⟩) ?_
              refine ew_iconst dX7_way_102 (inI_of rfl) ?_
              refine ew_istore dX7_way_103 (by decide) (lv' := [(6, aI 0), (0, aR (some mT)), (1, aI a), (2, aI b), (3, aI c), (4, aI 1), (5, aI a)]) rfl ?_
              refine ew_sub (List.forall_mem_cons.mpr ⟨lm1, (List.forall_mem_cons.mpr ⟨lm2, (List.forall_mem_cons.mpr ⟨lm3, (List.forall_mem_cons.mpr ⟨lm4, (List.forall_mem_cons.mpr ⟨lm5, (List.forall_mem_cons.mpr ⟨lm6, (List.forall_mem_cons.mpr ⟨lm0, e_nm⟩)⟩)⟩)⟩)⟩)⟩)⟩) ?_
              exact ew_sub (List.forall_mem_cons.mpr ⟨lm0, (List.forall_mem_cons.mpr ⟨lm2, (List.forall_mem_cons.mpr ⟨lm3, (List.forall_mem_cons.mpr ⟨lm5, (List.forall_mem_cons.mpr ⟨lm6, e_nm⟩)⟩)⟩)⟩)⟩) H
            · replace H := H.2 c124
              refine ew_bipush dX7_way_96 (inI_of rfl) (by decide) ?_
              exact ew_ret (o := some (aI (-2))) rfl ⟨_, _, rfl, rfl, H⟩ ⟨dX7_way_98, .int, rfl, Or.inl rfl, rfl⟩
          · replace H := H.2 (fun z => c117 (jl_lt.mpr z))
            refine ew_iconst dX7_way_73 (inI_of rfl) ?_
            refine ew_goto (tgt := 78) dX7_way_74 (by decide) ?_
            refine mw_pI dX7_way_78 (e_fl.a q1458) mf_52 (Or.inr rfl) (ty := .boolean) (by decide +kernel) (Or.inr rfl) (fun s125 e126 => ?_)
            replace H := H s125 e126
            refine ew_aload_n dX7_way_81 rfl lm0 ?_
            refine ew_iload_n dX7_way_82 rfl lm2 ?_
            refine ew_callV (d := d + 3) (as := [aI b]) rfl dX7_way_83 me_laysHops rfl (ci := 1) rfl rfl (mh_o _ _) (Or.inl q1882) q1884 qs99 (Nat.le_of_ble_eq_true rfl) (Nat.le_refl 0) (Nat.le_refl 0) (S_laysHops (d := d + 1) H) (fun o h' hq128 _ => ?_) (fun E i h' q _ => (mQ_no q).elim)
            obtain ⟨s127, E129, rfl, H⟩ := hq128
            cases E129
            refine ew_iload_n dX7_way_86 rfl lm3 ?_
            refine ew_aload_n dX7_way_87 rfl lm0 ?_
            refine mw_gA dX7_way_88 (e_fl.a q1457) mf_51 rfl ?_
            refine ew_iload_n dX7_way_91 rfl lm1 ?_
            obtain ⟨v130, H⟩ := H
            refine mw_iald dX7_way_92 rfl v130.1 v130.2 ?_
            refine ew_icmp_le (tgt := 99) dX7_way_93 (by decide) (fun c131 => ?_) (fun c131 => ?_)
            · replace H := H.1 c131
              refine ew_iload_n dX7_way_99 rfl lm1 ?_
              refine ew_istore dX7_way_100 (by decide) (lv' := [(5, aI a), (0, aR (some mT)), (1, aI a), (2, aI b), (3, aI c), (4, aI 1)]) rfl ?_
              refine ew_sub (List.forall_mem_cons.mpr ⟨lm1, (List.forall_mem_cons.mpr ⟨lm2, (List.forall_mem_cons.mpr ⟨lm3, (List.forall_mem_cons.mpr ⟨lm4, (List.forall_mem_cons.mpr ⟨lm5, (List.forall_mem_cons.mpr ⟨lm0, e_nm⟩)⟩)⟩)⟩)⟩)⟩) ?_
              refine ew_iconst dX7_way_102 (inI_of rfl) ?_
              refine ew_istore dX7_way_103 (by decide) (lv' := [(6, aI 0), (0, aR (some mT)), (1, aI a), (2, aI b), (3, aI c), (4, aI 1), (5, aI a)]) rfl ?_
              refine ew_sub (List.forall_mem_cons.mpr ⟨lm1, (List.forall_mem_cons.mpr ⟨lm2, (List.forall_mem_cons.mpr ⟨lm3, (List.forall_mem_cons.mpr ⟨lm4, (List.forall_mem_cons.mpr ⟨lm5, (List.forall_mem_cons.mpr ⟨lm6, (List.forall_mem_cons.mpr ⟨lm0, e_nm⟩)⟩)⟩)⟩)⟩)⟩)⟩) ?_
              exact ew_sub (List.forall_mem_cons.mpr ⟨lm0, (List.forall_mem_cons.mpr ⟨lm2, (List.forall_mem_cons.mpr ⟨lm3, (List.forall_mem_cons.mpr ⟨lm5, (List.forall_mem_cons.mpr ⟨lm6, e_nm⟩)⟩)⟩)⟩)⟩) H
            · replace H := H.2 c131
              refine ew_bipush dX7_way_96 (inI_of rfl) (by decide) ?_
              exact ew_ret (o := some (aI (-2))) rfl ⟨_, _, rfl, rfl, H⟩ ⟨dX7_way_98, .int, rfl, Or.inl rfl, rfl⟩
        · replace H := H.2 c108
          refine ew_iconst dX7_way_49 (inI_of rfl) ?_
          exact ew_ret (o := some (aI (-1))) rfl ⟨_, _, rfl, rfl, H⟩ ⟨dX7_way_50, .int, rfl, Or.inl rfl, rfl⟩
def C_way (a : Int) (b : Int) (c : Int) (s0 : MS) (K : Int → MS → Prop) : Prop := ∀ (X105 : Int → Int → Int → Int → MS → Prop) (X114 : Int → Int → Int → Int → Int → MS → Prop), (∀ (x2 : Int) (x3 : Int) (x5 : Int) (x6 : Int) (s0 : MS), B_way_105 X105 X114 K x2 x3 x5 x6 s0 → X105 x2 x3 x5 x6 s0) → (∀ (x2 : Int) (x3 : Int) (x5 : Int) (x6 : Int) (x7 : Int) (s0 : MS), B_way_114 X105 X114 K x2 x3 x5 x6 x7 s0 → X114 x2 x3 x5 x6 x7 s0) → B_way_E X105 X114 K a b c s0
theorem S_way {d : Nat} {g : AH} {K : Int → MS → Prop} {a : Int} {b : Int} {c : Int} {s0 : MS} (H : C_way a b c s0 K) : Sp mm_way (d + 4) 0 0 [aR (some mT), aI a, aI b, aI c] (mh s0 g) (mQi g K) :=
  ew_sp rfl (Nat.le_of_ble_eq_true rfl) (T_way_E d g K a b c s0 (H _ _ (fun x2 x3 x5 x6 s0 H => T_way_105 d g K x2 x3 x5 x6 s0 H) (fun x2 x3 x5 x6 x7 s0 H => T_way_114 d g K x2 x3 x5 x6 x7 s0 H)))
