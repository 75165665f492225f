/-! ReasonCloser: methods as predicates, by program (gen/gxx.py) -/
set_option maxRecDepth 100000
abbrev mm_X1_spreads : EM := (yX1_spreads, cX1_spreads, 10, (Option.some .boolean), [])
theorem me_X1_spreads : e_mth mm_X1_spreads 2 := ⟨rfl, q1276, q108, by decide +kernel, by decide⟩
def B_X1_spreads_6 (X6 : Nat → Int → Int → Int → XS → Prop) (X18 : Nat → Int → Int → Int → Int → XS → Prop) (X30 : Nat → Int → Int → Int → Int → Int → XS → Prop) (K : Int → XS → Prop) (x1 : Nat) (x2 : Int) (x4 : Int) (x5 : Int) (s0 : XS) : Prop :=
  (C_X1_terms s0 (fun r1 => ((r1 ≤ x5 → ((x4 = 0 ∨ x4 = 1) ∧ K x4 s0)) ∧ (¬ r1 ≤ x5 → X18 x1 x2 x4 x5 0 s0))))
def B_X1_spreads_18 (X6 : Nat → Int → Int → Int → XS → Prop) (X18 : Nat → Int → Int → Int → Int → XS → Prop) (X30 : Nat → Int → Int → Int → Int → Int → XS → Prop) (K : Int → XS → Prop) (x1 : Nat) (x2 : Int) (x4 : Int) (x5 : Int) (x6 : Int) (s0 : XS) : Prop :=
  (C_X1_terms s0 (fun r1 => ((r1 ≤ x6 → (inI (x5 + 1) ∧ X6 x1 x2 x4 (x5 + 1) s0)) ∧ (¬ r1 ≤ x6 → X30 x1 x2 x4 x5 x6 0 s0))))
def B_X1_spreads_30 (X6 : Nat → Int → Int → Int → XS → Prop) (X18 : Nat → Int → Int → Int → Int → XS → Prop) (X30 : Nat → Int → Int → Int → Int → Int → XS → Prop) (K : Int → XS → Prop) (x1 : Nat) (x2 : Int) (x4 : Int) (x5 : Int) (x6 : Int) (x7 : Int) (s0 : XS) : Prop :=
  (C_X1_terms s0 (fun r1 => ((r1 ≤ x7 → (inI (x6 + 1) ∧ X18 x1 x2 x4 x5 (x6 + 1) s0)) ∧ (¬ r1 ≤ x7 → ((inI (24 * x6)) ∧ ((inI ((24 * x6) + x5)) ∧ (((x1 = 17 ∨ x1 = 19) ∧ 0 ≤ ((24 * x6) + x5) ∧ ((24 * x6) + x5) < 576) ∧ ((inI (24 * x5)) ∧ ((inI ((24 * x5) + x7)) ∧ (((x1 = 17 ∨ x1 = 19) ∧ 0 ≤ ((24 * x5) + x7) ∧ ((24 * x5) + x7) < 576) ∧ ((inL ((s0.1.2 x1 ((24 * x6) + x5)) + (s0.1.2 x1 ((24 * x5) + x7)))) ∧ ((inI (24 * x6)) ∧ ((inI ((24 * x6) + x7)) ∧ (((x1 = 17 ∨ x1 = 19) ∧ 0 ≤ ((24 * x6) + x7) ∧ ((24 * x6) + x7) < 576) ∧ (((s0.1.2 x1 ((24 * x6) + x7)) ≤ ((s0.1.2 x1 ((24 * x6) + x5)) + (s0.1.2 x1 ((24 * x5) + x7))) → (inI (x7 + 1) ∧ X30 x1 x2 x4 x5 x6 (x7 + 1) s0)) ∧ (¬ (s0.1.2 x1 ((24 * x6) + x7)) ≤ ((s0.1.2 x1 ((24 * x6) + x5)) + (s0.1.2 x1 ((24 * x5) + x7))) → ((((s0.1.2 x1 ((24 * x6) + x5)) + (s0.1.2 x1 ((24 * x5) + x7))) < x2 → ((inI (24 * x6)) ∧ ((inI ((24 * x6) + x7)) ∧ ((((x1 = 17 ∨ x1 = 19) ∧ 0 ≤ ((24 * x6) + x7) ∧ ((24 * x6) + x7) < 576)) ∧ ∀ s22 : XS, s22 = xa s0 x1 ((24 * x6) + x7) ((s0.1.2 x1 ((24 * x6) + x5)) + (s0.1.2 x1 ((24 * x5) + x7))) → (inI (x7 + 1) ∧ X30 x1 x2 1 x5 x6 (x7 + 1) s22))))) ∧ (¬ ((s0.1.2 x1 ((24 * x6) + x5)) + (s0.1.2 x1 ((24 * x5) + x7))) < x2 → (inI (x7 + 1) ∧ X30 x1 x2 x4 x5 x6 (x7 + 1) s0)))))))))))))))))))
def B_X1_spreads_E (X6 : Nat → Int → Int → Int → XS → Prop) (X18 : Nat → Int → Int → Int → Int → XS → Prop) (X30 : Nat → Int → Int → Int → Int → Int → XS → Prop) (K : Int → XS → Prop) (a : Nat) (b : Int) (s0 : XS) : Prop :=
  X6 a b 0 0 s0
def W_X1_spreads_6 (d : Nat) (V : XV) (g : AH) (K : Int → XS → Prop) (x1 : Nat) (x2 : Int) (x4 : Int) (x5 : Int) (s0 : XS) : Prop := EW mm_X1_spreads (d + 2) 0 0 (xQi V g K) 6 [(0, aR (some xT)), (1, aR (some (0, 2, x1))), (2, aL x2), (4, aI x4), (5, aI x5)] [] (xh V s0 g)
def W_X1_spreads_18 (d : Nat) (V : XV) (g : AH) (K : Int → XS → Prop) (x1 : Nat) (x2 : Int) (x4 : Int) (x5 : Int) (x6 : Int) (s0 : XS) : Prop := EW mm_X1_spreads (d + 2) 0 0 (xQi V g K) 18 [(0, aR (some xT)), (1, aR (some (0, 2, x1))), (2, aL x2), (4, aI x4), (5, aI x5), (6, aI x6)] [] (xh V s0 g)
def W_X1_spreads_30 (d : Nat) (V : XV) (g : AH) (K : Int → XS → Prop) (x1 : Nat) (x2 : Int) (x4 : Int) (x5 : Int) (x6 : Int) (x7 : Int) (s0 : XS) : Prop := EW mm_X1_spreads (d + 2) 0 0 (xQi V g K) 30 [(0, aR (some xT)), (1, aR (some (0, 2, x1))), (2, aL x2), (4, aI x4), (5, aI x5), (6, aI x6), (7, aI x7)] [] (xh V s0 g)
set_option maxHeartbeats 4000000 in
theorem T_X1_spreads_6 (d : Nat) (V : XV) (g : AH) (K : Int → XS → Prop) (x1 : Nat) (x2 : Int) (x4 : Int) (x5 : Int) (s0 : XS) (H : B_X1_spreads_6 (W_X1_spreads_6 d V g K) (W_X1_spreads_18 d V g K) (W_X1_spreads_30 d V g K) K x1 x2 x4 x5 s0) : EW mm_X1_spreads (d + 2) 0 0 (xQi V g K) 6 [(0, aR (some xT)), (1, aR (some (0, 2, x1))), (2, aL x2), (4, aI x4), (5, aI x5)] [] (xh V s0 g) := by
  refine ew_iload dX1_spreads_6 lm4 ?_
  refine ew_aload_n dX1_spreads_8 rfl lm0 ?_
  refine ew_callV (d := d + 1) (as := []) rfl dX1_spreads_9 me_X1_terms rfl (ci := 0) rfl rfl xh_x (Or.inl q1048) q1050 qs25 (Nat.le_of_ble_eq_true rfl) (Nat.zero_le _) (Nat.zero_le _) (S_X1_terms (d := d + 0) H) (fun o h' hq3 _ => ?_) (fun E i h' q _ => (cQ_no q).elim)
  obtain ⟨r1, E4, rfl, H⟩ := hq3
  cases E4
  refine ew_icmp_ge (tgt := 121) dX1_spreads_12 (by decide) (fun c5 => ?_) (fun c5 => ?_)
  · replace H := H.1 c5
    refine ew_iload dX1_spreads_121 lm3 ?_
    obtain ⟨v6, H⟩ := H
    exact ew_ret (o := some (aI x4)) rfl ⟨_, _, rfl, rfl, H⟩ ⟨dX1_spreads_123, .boolean, rfl, Or.inr (Or.inl rfl), by rcases v6 with z | z <;> rw [z] <;> decide⟩
  · replace H := H.2 c5
    refine ew_iconst dX1_spreads_15 (inI_of rfl) ?_
    refine ew_istore dX1_spreads_16 (by decide) (lv' := [(6, aI 0), (0, aR (some xT)), (1, aR (some (0, 2, x1))), (2, aL x2), (4, aI x4), (5, aI x5)]) rfl ?_
    refine ew_sub (List.forall_mem_cons.mpr ⟨lm1, (List.forall_mem_cons.mpr ⟨lm2, (List.forall_mem_cons.mpr ⟨lm3, (List.forall_mem_cons.mpr ⟨lm4, (List.forall_mem_cons.mpr ⟨lm5, (List.forall_mem_cons.mpr ⟨lm0, e_nm⟩)⟩)⟩)⟩)⟩)⟩) ?_
    exact ew_room (Nat.le_refl _) (Nat.zero_le _) (Nat.zero_le _) (ew_sub (List.forall_mem_cons.mpr ⟨lm0, (List.forall_mem_cons.mpr ⟨lm1, (List.forall_mem_cons.mpr ⟨lm2, (List.forall_mem_cons.mpr ⟨lm3, (List.forall_mem_cons.mpr ⟨lm4, (List.forall_mem_cons.mpr ⟨lm5, e_nm⟩)⟩)⟩)⟩)⟩)⟩) H)
set_option maxHeartbeats 4000000 in
theorem T_X1_spreads_18 (d : Nat) (V : XV) (g : AH) (K : Int → XS → Prop) (x1 : Nat) (x2 : Int) (x4 : Int) (x5 : Int) (x6 : Int) (s0 : XS) (H : B_X1_spreads_18 (W_X1_spreads_6 d V g K) (W_X1_spreads_18 d V g K) (W_X1_spreads_30 d V g K) K x1 x2 x4 x5 x6 s0) : EW mm_X1_spreads (d + 2) 0 0 (xQi V g K) 18 [(0, aR (some xT)), (1, aR (some (0, 2, x1))), (2, aL x2), (4, aI x4), (5, aI x5), (6, aI x6)] [] (xh V s0 g) := by
  refine ew_iload dX1_spreads_18 lm5 ?_
  refine ew_aload_n dX1_spreads_20 rfl lm0 ?_
  refine ew_callV (d := d + 1) (as := []) rfl dX1_spreads_21 me_X1_terms rfl (ci := 0) rfl rfl xh_x (Or.inl q1048) q1050 qs25 (Nat.le_of_ble_eq_true rfl) (Nat.zero_le _) (Nat.zero_le _) (S_X1_terms (d := d + 0) H) (fun o h' hq3 _ => ?_) (fun E i h' q _ => (cQ_no q).elim)
  obtain ⟨r1, E4, rfl, H⟩ := hq3
  cases E4
  refine ew_icmp_ge (tgt := 115) dX1_spreads_24 (by decide) (fun c5 => ?_) (fun c5 => ?_)
  · replace H := H.1 c5
    obtain ⟨v6, H⟩ := H
    refine ew_iinc dX1_spreads_115 lm4 (by decide) v6 (lv' := [(5, aI (x5 + 1)), (0, aR (some xT)), (1, aR (some (0, 2, x1))), (2, aL x2), (4, aI x4), (6, aI x6)]) rfl ?_
    refine ew_sub (List.forall_mem_cons.mpr ⟨lm1, (List.forall_mem_cons.mpr ⟨lm2, (List.forall_mem_cons.mpr ⟨lm3, (List.forall_mem_cons.mpr ⟨lm4, (List.forall_mem_cons.mpr ⟨lm0, (List.forall_mem_cons.mpr ⟨lm5, e_nm⟩)⟩)⟩)⟩)⟩)⟩) ?_
    refine ew_goto (tgt := 6) dX1_spreads_118 (by decide) ?_
    exact ew_room (Nat.le_refl _) (Nat.zero_le _) (Nat.zero_le _) (ew_sub (List.forall_mem_cons.mpr ⟨lm0, (List.forall_mem_cons.mpr ⟨lm1, (List.forall_mem_cons.mpr ⟨lm2, (List.forall_mem_cons.mpr ⟨lm3, (List.forall_mem_cons.mpr ⟨lm4, e_nm⟩)⟩)⟩)⟩)⟩) H)
  · replace H := H.2 c5
    refine ew_iconst dX1_spreads_27 (inI_of rfl) ?_
    refine ew_istore dX1_spreads_28 (by decide) (lv' := [(7, aI 0), (0, aR (some xT)), (1, aR (some (0, 2, x1))), (2, aL x2), (4, aI x4), (5, aI x5), (6, aI x6)]) rfl ?_
    refine ew_sub (List.forall_mem_cons.mpr ⟨lm1, (List.forall_mem_cons.mpr ⟨lm2, (List.forall_mem_cons.mpr ⟨lm3, (List.forall_mem_cons.mpr ⟨lm4, (List.forall_mem_cons.mpr ⟨lm5, (List.forall_mem_cons.mpr ⟨lm6, (List.forall_mem_cons.mpr ⟨lm0, e_nm⟩)⟩)⟩)⟩)⟩)⟩)⟩) ?_
    exact ew_room (Nat.le_refl _) (Nat.zero_le _) (Nat.zero_le _) (ew_sub (List.forall_mem_cons.mpr ⟨lm0, (List.forall_mem_cons.mpr ⟨lm1, (List.forall_mem_cons.mpr ⟨lm2, (List.forall_mem_cons.mpr ⟨lm3, (List.forall_mem_cons.mpr ⟨lm4, (List.forall_mem_cons.mpr ⟨lm5, (List.forall_mem_cons.mpr ⟨lm6, e_nm⟩)⟩)⟩)⟩)⟩)⟩)⟩) H)
set_option maxHeartbeats 4000000 in
theorem T_X1_spreads_30 (d : Nat) (V : XV) (g : AH) (K : Int → XS → Prop) (x1 : Nat) (x2 : Int) (x4 : Int) (x5 : Int) (x6 : Int) (x7 : Int) (s0 : XS) (H : B_X1_spreads_30 (W_X1_spreads_6 d V g K) (W_X1_spreads_18 d V g K) (W_X1_spreads_30 d V g K) K x1 x2 x4 x5 x6 x7 s0) : EW mm_X1_spreads (d + 2) 0 0 (xQi V g K) 30 [(0, aR (some xT)), (1, aR (some (0, 2, x1))), (2, aL x2), (4, aI x4), (5, aI x5), (6, aI x6), (7, aI x7)] [] (xh V s0 g) := by
  refine ew_iload dX1_spreads_30 lm6 ?_
  refine ew_aload_n dX1_spreads_32 rfl lm0 ?_
  refine ew_callV (d := d + 1) (as := []) rfl dX1_spreads_33 me_X1_terms rfl (ci := 0) rfl rfl xh_x (Or.inl q1048) q1050 qs25 (Nat.le_of_ble_eq_true rfl) (Nat.zero_le _) (Nat.zero_le _) (S_X1_terms (d := d + 0) H) (fun o h' hq3 _ => ?_) (fun E i h' q _ => (cQ_no q).elim)
  obtain ⟨r1, E4, rfl, H⟩ := hq3
  cases E4
  refine ew_icmp_ge (tgt := 109) dX1_spreads_36 (by decide) (fun c5 => ?_) (fun c5 => ?_)
  · replace H := H.1 c5
    obtain ⟨v6, H⟩ := H
    refine ew_iinc dX1_spreads_109 lm5 (by decide) v6 (lv' := [(6, aI (x6 + 1)), (0, aR (some xT)), (1, aR (some (0, 2, x1))), (2, aL x2), (4, aI x4), (5, aI x5), (7, aI x7)]) rfl ?_
    refine ew_sub (List.forall_mem_cons.mpr ⟨lm1, (List.forall_mem_cons.mpr ⟨lm2, (List.forall_mem_cons.mpr ⟨lm3, (List.forall_mem_cons.mpr ⟨lm4, (List.forall_mem_cons.mpr ⟨lm5, (List.forall_mem_cons.mpr ⟨lm0, (List.forall_mem_cons.mpr ⟨lm6, e_nm⟩)⟩)⟩)⟩)⟩)⟩)⟩) ?_
    refine ew_goto (tgt := 18) dX1_spreads_112 (by decide) ?_
    exact ew_room (Nat.le_refl _) (Nat.zero_le _) (Nat.zero_le _) (ew_sub (List.forall_mem_cons.mpr ⟨lm0, (List.forall_mem_cons.mpr ⟨lm1, (List.forall_mem_cons.mpr ⟨lm2, (List.forall_mem_cons.mpr ⟨lm3, (List.forall_mem_cons.mpr ⟨lm4, (List.forall_mem_cons.mpr ⟨lm5, e_nm⟩)⟩)⟩)⟩)⟩)⟩) H)
  · replace H := H.2 c5
    refine ew_aload_n dX1_spreads_39 rfl lm1 ?_
    refine ew_bipush dX1_spreads_40 (inI_of rfl) (by decide) ?_
    refine ew_iload dX1_spreads_42 lm5 ?_
    obtain ⟨v7, H⟩ := H
    refine ew_imul dX1_spreads_44 v7 ?_
    refine ew_iload dX1_spreads_45 lm4 ?_
    obtain ⟨v8, H⟩ := H
    refine ew_iadd dX1_spreads_47 v8 ?_
    obtain ⟨v9, H⟩ := H
    refine xw_lald dX1_spreads_48 (xCx_L v9.1) v9.2.1 v9.2.2 ?_
    refine ew_aload_n dX1_spreads_49 rfl lm1 ?_
    refine ew_bipush dX1_spreads_50 (inI_of rfl) (by decide) ?_
    refine ew_iload dX1_spreads_52 lm4 ?_
    obtain ⟨v10, H⟩ := H
    refine ew_imul dX1_spreads_54 v10 ?_
    refine ew_iload dX1_spreads_55 lm6 ?_
    obtain ⟨v11, H⟩ := H
    refine ew_iadd dX1_spreads_57 v11 ?_
    obtain ⟨v12, H⟩ := H
    refine xw_lald dX1_spreads_58 (xCx_L v12.1) v12.2.1 v12.2.2 ?_
    obtain ⟨v13, H⟩ := H
    refine ew_ladd dX1_spreads_59 v13 ?_
    refine ew_lstore dX1_spreads_60 (by decide) (lv' := [(8, aL ((s0.1.2 x1 ((24 * x6) + x5)) + (s0.1.2 x1 ((24 * x5) + x7)))), (0, aR (some xT)), (1, aR (some (0, 2, x1))), (2, aL x2), (4, aI x4), (5, aI x5), (6, aI x6), (7, aI x7)]) rfl ?_
    refine ew_sub (List.forall_mem_cons.mpr ⟨lm1, (List.forall_mem_cons.mpr ⟨lm2, (List.forall_mem_cons.mpr ⟨lm3, (List.forall_mem_cons.mpr ⟨lm4, (List.forall_mem_cons.mpr ⟨lm5, (List.forall_mem_cons.mpr ⟨lm6, (List.forall_mem_cons.mpr ⟨lm7, (List.forall_mem_cons.mpr ⟨lm0, e_nm⟩)⟩)⟩)⟩)⟩)⟩)⟩)⟩) ?_
    refine ew_lload dX1_spreads_62 lm7 ?_
    refine ew_aload_n dX1_spreads_64 rfl lm1 ?_
    refine ew_bipush dX1_spreads_65 (inI_of rfl) (by decide) ?_
    refine ew_iload dX1_spreads_67 lm5 ?_
    obtain ⟨v14, H⟩ := H
    refine ew_imul dX1_spreads_69 v14 ?_
    refine ew_iload dX1_spreads_70 lm6 ?_
    obtain ⟨v15, H⟩ := H
    refine ew_iadd dX1_spreads_72 v15 ?_
    obtain ⟨v16, H⟩ := H
    refine xw_lald dX1_spreads_73 (xCx_L v16.1) v16.2.1 v16.2.2 ?_
    refine ew_lcmp dX1_spreads_74 ?_
    refine ew_if_ge (tgt := 103) dX1_spreads_75 (by decide) (fun c17 => ?_) (fun c17 => ?_)
    · replace H := H.1 (jl_ge.mp c17)
      obtain ⟨v18, H⟩ := H
      refine ew_iinc dX1_spreads_103 lm6 (by decide) v18 (lv' := [(7, aI (x7 + 1)), (0, aR (some xT)), (1, aR (some (0, 2, x1))), (2, aL x2), (4, aI x4), (5, aI x5), (6, aI x6), (8, aL ((s0.1.2 x1 ((24 * x6) + x5)) + (s0.1.2 x1 ((24 * x5) + x7))))]) rfl ?_
      refine ew_sub (List.forall_mem_cons.mpr ⟨lm1, (List.forall_mem_cons.mpr ⟨lm2, (List.forall_mem_cons.mpr ⟨lm3, (List.forall_mem_cons.mpr ⟨lm4, (List.forall_mem_cons.mpr ⟨lm5, (List.forall_mem_cons.mpr ⟨lm6, (List.forall_mem_cons.mpr ⟨lm0, (List.forall_mem_cons.mpr ⟨lm7, e_nm⟩)⟩)⟩)⟩)⟩)⟩)⟩)⟩) ?_
      refine ew_goto (tgt := 30) dX1_spreads_106 (by decide) ?_
      exact ew_room (Nat.le_refl _) (Nat.zero_le _) (Nat.zero_le _) (ew_sub (List.forall_mem_cons.mpr ⟨lm0, (List.forall_mem_cons.mpr ⟨lm1, (List.forall_mem_cons.mpr ⟨lm2, (List.forall_mem_cons.mpr ⟨lm3, (List.forall_mem_cons.mpr ⟨lm4, (List.forall_mem_cons.mpr ⟨lm5, (List.forall_mem_cons.mpr ⟨lm6, e_nm⟩)⟩)⟩)⟩)⟩)⟩)⟩) H)
    · replace H := H.2 (fun z => c17 (jl_ge.mpr z))
      refine ew_lload dX1_spreads_78 lm7 ?_
      refine ew_lload_n dX1_spreads_80 rfl lm2 ?_
      refine ew_lcmp dX1_spreads_81 ?_
      refine ew_if_lt (tgt := 88) dX1_spreads_82 (by decide) (fun c19 => ?_) (fun c19 => ?_)
      · replace H := H.1 (jl_lt.mp c19)
        refine ew_aload_n dX1_spreads_88 rfl lm1 ?_
        refine ew_bipush dX1_spreads_89 (inI_of rfl) (by decide) ?_
        refine ew_iload dX1_spreads_91 lm5 ?_
        obtain ⟨v20, H⟩ := H
        refine ew_imul dX1_spreads_93 v20 ?_
        refine ew_iload dX1_spreads_94 lm6 ?_
        obtain ⟨v21, H⟩ := H
        refine ew_iadd dX1_spreads_96 v21 ?_
        refine ew_lload dX1_spreads_97 lm7 ?_
        obtain ⟨v24, H⟩ := H
        refine xw_last dX1_spreads_99 (xCx_30 v24.1) (xCx_L v24.1) (xCx_L v24.1) v24.2.1 v24.2.2 (fun s22 e23 => ?_)
        replace H := H s22 e23
        refine ew_iconst dX1_spreads_100 (inI_of rfl) ?_
        refine ew_istore dX1_spreads_101 (by decide) (lv' := [(4, aI 1), (0, aR (some xT)), (1, aR (some (0, 2, x1))), (2, aL x2), (5, aI x5), (6, aI x6), (7, aI x7), (8, aL ((s0.1.2 x1 ((24 * x6) + x5)) + (s0.1.2 x1 ((24 * x5) + x7))))]) rfl ?_
        refine ew_sub (List.forall_mem_cons.mpr ⟨lm1, (List.forall_mem_cons.mpr ⟨lm2, (List.forall_mem_cons.mpr ⟨lm3, (List.forall_mem_cons.mpr ⟨lm0, (List.forall_mem_cons.mpr ⟨lm4, (List.forall_mem_cons.mpr ⟨lm5, (List.forall_mem_cons.mpr ⟨lm6, (List.forall_mem_cons.mpr ⟨lm7, e_nm⟩)⟩)⟩)⟩)⟩)⟩)⟩)⟩) ?_
        obtain ⟨v25, H⟩ := H
        refine ew_iinc dX1_spreads_103 lm6 (by decide) v25 (lv' := [(7, aI (x7 + 1)), (0, aR (some xT)), (1, aR (some (0, 2, x1))), (2, aL x2), (4, aI 1), (5, aI x5), (6, aI x6), (8, aL ((s0.1.2 x1 ((24 * x6) + x5)) + (s0.1.2 x1 ((24 * x5) + x7))))]) rfl ?_
        refine ew_sub (List.forall_mem_cons.mpr ⟨lm1, (List.forall_mem_cons.mpr ⟨lm2, (List.forall_mem_cons.mpr ⟨lm3, (List.forall_mem_cons.mpr ⟨lm4, (List.forall_mem_cons.mpr ⟨lm5, (List.forall_mem_cons.mpr ⟨lm6, (List.forall_mem_cons.mpr ⟨lm0, (List.forall_mem_cons.mpr ⟨lm7, e_nm⟩)⟩)⟩)⟩)⟩)⟩)⟩)⟩) ?_
        refine ew_goto (tgt := 30) dX1_spreads_106 (by decide) ?_
        exact ew_room (Nat.le_refl _) (Nat.zero_le _) (Nat.zero_le _) (ew_sub (List.forall_mem_cons.mpr ⟨lm0, (List.forall_mem_cons.mpr ⟨lm1, (List.forall_mem_cons.mpr ⟨lm2, (List.forall_mem_cons.mpr ⟨lm3, (List.forall_mem_cons.mpr ⟨lm4, (List.forall_mem_cons.mpr ⟨lm5, (List.forall_mem_cons.mpr ⟨lm6, e_nm⟩)⟩)⟩)⟩)⟩)⟩)⟩) H)
      · replace H := H.2 (fun z => c19 (jl_lt.mpr z))
        refine ew_goto (tgt := 103) dX1_spreads_85 (by decide) ?_
        obtain ⟨v26, H⟩ := H
        refine ew_iinc dX1_spreads_103 lm6 (by decide) v26 (lv' := [(7, aI (x7 + 1)), (0, aR (some xT)), (1, aR (some (0, 2, x1))), (2, aL x2), (4, aI x4), (5, aI x5), (6, aI x6), (8, aL ((s0.1.2 x1 ((24 * x6) + x5)) + (s0.1.2 x1 ((24 * x5) + x7))))]) rfl ?_
        refine ew_sub (List.forall_mem_cons.mpr ⟨lm1, (List.forall_mem_cons.mpr ⟨lm2, (List.forall_mem_cons.mpr ⟨lm3, (List.forall_mem_cons.mpr ⟨lm4, (List.forall_mem_cons.mpr ⟨lm5, (List.forall_mem_cons.mpr ⟨lm6, (List.forall_mem_cons.mpr ⟨lm0, (List.forall_mem_cons.mpr ⟨lm7, e_nm⟩)⟩)⟩)⟩)⟩)⟩)⟩)⟩) ?_
        refine ew_goto (tgt := 30) dX1_spreads_106 (by decide) ?_
        exact ew_room (Nat.le_refl _) (Nat.zero_le _) (Nat.zero_le _) (ew_sub (List.forall_mem_cons.mpr ⟨lm0, (List.forall_mem_cons.mpr ⟨lm1, (List.forall_mem_cons.mpr ⟨lm2, (List.forall_mem_cons.mpr ⟨lm3, (List.forall_mem_cons.mpr ⟨lm4, (List.forall_mem_cons.mpr ⟨lm5, (List.forall_mem_cons.mpr ⟨lm6, e_nm⟩)⟩)⟩)⟩)⟩)⟩)⟩) H)
set_option maxHeartbeats 4000000 in
theorem T_X1_spreads_E (d : Nat) (V : XV) (g : AH) (K : Int → XS → Prop) (a : Nat) (b : Int) (s0 : XS) (H : B_X1_spreads_E (W_X1_spreads_6 d V g K) (W_X1_spreads_18 d V g K) (W_X1_spreads_30 d V g K) K a b s0) : EW mm_X1_spreads (d + 2) 0 0 (xQi V g K) 0 [(0, aR (some xT)), (1, aR (some (0, 2, a))), (2, aL b)] [] (xh V s0 g) := by
  refine ew_iconst dX1_spreads_0 (inI_of rfl) ?_
  refine ew_istore dX1_spreads_1 (by decide) (lv' := [(4, aI 0), (0, aR (some xT)), (1, aR (some (0, 2, a))), (2, aL b)]) rfl ?_
  refine ew_sub (List.forall_mem_cons.mpr ⟨lm1, (List.forall_mem_cons.mpr ⟨lm2, (List.forall_mem_cons.mpr ⟨lm3, (List.forall_mem_cons.mpr ⟨lm0, e_nm⟩)⟩)⟩)⟩) ?_
  refine ew_iconst dX1_spreads_3 (inI_of rfl) ?_
  refine ew_istore dX1_spreads_4 (by decide) (lv' := [(5, aI 0), (0, aR (some xT)), (1, aR (some (0, 2, a))), (2, aL b), (4, aI 0)]) rfl ?_
  refine ew_sub (List.forall_mem_cons.mpr ⟨lm1, (List.forall_mem_cons.mpr ⟨lm2, (List.forall_mem_cons.mpr ⟨lm3, (List.forall_mem_cons.mpr ⟨lm4, (List.forall_mem_cons.mpr ⟨lm0, e_nm⟩)⟩)⟩)⟩)⟩) ?_
  exact ew_room (Nat.le_refl _) (Nat.zero_le _) (Nat.zero_le _) (ew_sub (List.forall_mem_cons.mpr ⟨lm0, (List.forall_mem_cons.mpr ⟨lm1, (List.forall_mem_cons.mpr ⟨lm2, (List.forall_mem_cons.mpr ⟨lm3, (List.forall_mem_cons.mpr ⟨lm4, e_nm⟩)⟩)⟩)⟩)⟩) H)
def C_X1_spreads (a : Nat) (b : Int) (s0 : XS) (K : Int → XS → Prop) : Prop := ∀ (X6 : Nat → Int → Int → Int → XS → Prop) (X18 : Nat → Int → Int → Int → Int → XS → Prop) (X30 : Nat → Int → Int → Int → Int → Int → XS → Prop), (∀ (x1 : Nat) (x2 : Int) (x4 : Int) (x5 : Int) (s0 : XS), B_X1_spreads_6 X6 X18 X30 K x1 x2 x4 x5 s0 → X6 x1 x2 x4 x5 s0) → (∀ (x1 : Nat) (x2 : Int) (x4 : Int) (x5 : Int) (x6 : Int) (s0 : XS), B_X1_spreads_18 X6 X18 X30 K x1 x2 x4 x5 x6 s0 → X18 x1 x2 x4 x5 x6 s0) → (∀ (x1 : Nat) (x2 : Int) (x4 : Int) (x5 : Int) (x6 : Int) (x7 : Int) (s0 : XS), B_X1_spreads_30 X6 X18 X30 K x1 x2 x4 x5 x6 x7 s0 → X30 x1 x2 x4 x5 x6 x7 s0) → B_X1_spreads_E X6 X18 X30 K a b s0
theorem S_X1_spreads {d : Nat} {V : XV} {g : AH} {K : Int → XS → Prop} {a : Nat} {b : Int} {s0 : XS} (H : C_X1_spreads a b s0 K) : Sp mm_X1_spreads (d + 2) 0 0 [aR (some xT), aR (some (0, 2, a)), aL b] (xh V s0 g) (xQi V g K) :=
  ew_sp rfl (Nat.le_of_ble_eq_true rfl) (T_X1_spreads_E d V g K a b s0 (H _ _ _ (fun x1 x2 x4 x5 s0 H => T_X1_spreads_6 d V g K x1 x2 x4 x5 s0 H) (fun x1 x2 x4 x5 x6 s0 H => T_X1_spreads_18 d V g K x1 x2 x4 x5 x6 s0 H) (fun x1 x2 x4 x5 x6 x7 s0 H => T_X1_spreads_30 d V g K x1 x2 x4 x5 x6 x7 s0 H)))
abbrev mm_X1_laysCosts : EM := (yX1_laysCosts, cX1_laysCosts, 4, (Option.none : Option Jvm.ClassFile.FieldType), [])
theorem me_X1_laysCosts : e_mth mm_X1_laysCosts 0 := ⟨rfl, q1256, q108, by decide +kernel, by decide⟩
def B_X1_laysCosts_2 (X2 : Int → XS → Prop) (X12 : Int → Int → XS → Prop) (X57 : Int → XS → Prop) (X69 : Int → Int → XS → Prop) (X79 : Int → Int → Int → XS → Prop) (X152 : Int → XS → Prop) (K : XS → Prop) (x1 : Int) (s0 : XS) : Prop :=
  (C_X1_terms s0 (fun r1 => ((r1 ≤ x1 → X57 1 s0) ∧ (¬ r1 ≤ x1 → X12 x1 0 s0))))
def B_X1_laysCosts_12 (X2 : Int → XS → Prop) (X12 : Int → Int → XS → Prop) (X57 : Int → XS → Prop) (X69 : Int → Int → XS → Prop) (X79 : Int → Int → Int → XS → Prop) (X152 : Int → XS → Prop) (K : XS → Prop) (x1 : Int) (x2 : Int) (s0 : XS) : Prop :=
  (C_X1_terms s0 (fun r1 => ((r1 ≤ x2 → (inI (x1 + 1) ∧ X2 (x1 + 1) s0)) ∧ (¬ r1 ≤ x2 → ((inI (24 * x1)) ∧ ((inI ((24 * x1) + x2)) ∧ ((x1 = x2 → (((0 ≤ ((24 * x1) + x2) ∧ ((24 * x1) + x2) < 576)) ∧ ∀ s14 : XS, s14 = xa s0 17 ((24 * x1) + x2) 0 → (inI (x2 + 1) ∧ X12 x1 (x2 + 1) s14))) ∧ (¬ x1 = x2 → (((0 ≤ ((24 * x1) + x2) ∧ ((24 * x1) + x2) < 576)) ∧ ∀ s10 : XS, s10 = xa s0 17 ((24 * x1) + x2) 1000000000 → (inI (x2 + 1) ∧ X12 x1 (x2 + 1) s10))))))))))
def B_X1_laysCosts_57 (X2 : Int → XS → Prop) (X12 : Int → Int → XS → Prop) (X57 : Int → XS → Prop) (X69 : Int → Int → XS → Prop) (X79 : Int → Int → Int → XS → Prop) (X152 : Int → XS → Prop) (K : XS → Prop) (x1 : Int) (s0 : XS) : Prop :=
  ((x1 = 0 → K s0) ∧ (¬ x1 = 0 → (C_X1_laysEdges s0 (fun s3 => X69 0 0 s3))))
def B_X1_laysCosts_69 (X2 : Int → XS → Prop) (X12 : Int → Int → XS → Prop) (X57 : Int → XS → Prop) (X69 : Int → Int → XS → Prop) (X79 : Int → Int → Int → XS → Prop) (X152 : Int → XS → Prop) (K : XS → Prop) (x1 : Int) (x2 : Int) (s0 : XS) : Prop :=
  (C_X1_terms s0 (fun r1 => ((r1 ≤ x2 → X152 x1 s0) ∧ (¬ r1 ≤ x2 → X79 x1 x2 0 s0))))
def B_X1_laysCosts_79 (X2 : Int → XS → Prop) (X12 : Int → Int → XS → Prop) (X57 : Int → XS → Prop) (X69 : Int → Int → XS → Prop) (X79 : Int → Int → Int → XS → Prop) (X152 : Int → XS → Prop) (K : XS → Prop) (x1 : Int) (x2 : Int) (x3 : Int) (s0 : XS) : Prop :=
  (C_X1_terms s0 (fun r1 => ((r1 ≤ x3 → (inI (x2 + 1) ∧ X69 x1 (x2 + 1) s0)) ∧ (¬ r1 ≤ x3 → ((inI (24 * x2)) ∧ ((inI ((24 * x2) + x3)) ∧ ((0 ≤ ((24 * x2) + x3) ∧ ((24 * x2) + x3) < 576) ∧ ((inI (24 * x2)) ∧ ((inI ((24 * x2) + x3)) ∧ ((0 ≤ ((24 * x2) + x3) ∧ ((24 * x2) + x3) < 576) ∧ (((s0.1.2 18 ((24 * x2) + x3)) < (s0.1.2 17 ((24 * x2) + x3)) → ((inI (24 * x2)) ∧ ((inI ((24 * x2) + x3)) ∧ ((inI (24 * x2)) ∧ ((inI ((24 * x2) + x3)) ∧ ((0 ≤ ((24 * x2) + x3) ∧ ((24 * x2) + x3) < 576) ∧ (((0 ≤ ((24 * x2) + x3) ∧ ((24 * x2) + x3) < 576)) ∧ ∀ s19 : XS, s19 = xa s0 17 ((24 * x2) + x3) (s0.1.2 18 ((24 * x2) + x3)) → (inI (x3 + 1) ∧ X79 1 x2 (x3 + 1) s19)))))))) ∧ (¬ (s0.1.2 18 ((24 * x2) + x3)) < (s0.1.2 17 ((24 * x2) + x3)) → (inI (x3 + 1) ∧ X79 x1 x2 (x3 + 1) s0)))))))))))))
def B_X1_laysCosts_152 (X2 : Int → XS → Prop) (X12 : Int → Int → XS → Prop) (X57 : Int → XS → Prop) (X69 : Int → Int → XS → Prop) (X79 : Int → Int → Int → XS → Prop) (X152 : Int → XS → Prop) (K : XS → Prop) (x1 : Int) (s0 : XS) : Prop :=
  (C_X1_spreads 17 1000000000 s0 (fun r1 s2 => ((r1 = 0 → X57 x1 s2) ∧ (¬ r1 = 0 → X152 1 s2))))
def B_X1_laysCosts_E (X2 : Int → XS → Prop) (X12 : Int → Int → XS → Prop) (X57 : Int → XS → Prop) (X69 : Int → Int → XS → Prop) (X79 : Int → Int → Int → XS → Prop) (X152 : Int → XS → Prop) (K : XS → Prop) (s0 : XS) : Prop :=
  X2 0 s0
def W_X1_laysCosts_2 (d : Nat) (V : XV) (g : AH) (K : XS → Prop) (x1 : Int) (s0 : XS) : Prop := EW mm_X1_laysCosts (d + 5) 0 0 (xQv V g K) 2 [(0, aR (some xT)), (1, aI x1)] [] (xh V s0 g)
def W_X1_laysCosts_12 (d : Nat) (V : XV) (g : AH) (K : XS → Prop) (x1 : Int) (x2 : Int) (s0 : XS) : Prop := EW mm_X1_laysCosts (d + 5) 0 0 (xQv V g K) 12 [(0, aR (some xT)), (1, aI x1), (2, aI x2)] [] (xh V s0 g)
def W_X1_laysCosts_57 (d : Nat) (V : XV) (g : AH) (K : XS → Prop) (x1 : Int) (s0 : XS) : Prop := EW mm_X1_laysCosts (d + 5) 0 0 (xQv V g K) 57 [(0, aR (some xT)), (1, aI x1)] [] (xh V s0 g)
def W_X1_laysCosts_69 (d : Nat) (V : XV) (g : AH) (K : XS → Prop) (x1 : Int) (x2 : Int) (s0 : XS) : Prop := EW mm_X1_laysCosts (d + 5) 0 0 (xQv V g K) 69 [(0, aR (some xT)), (1, aI x1), (2, aI x2)] [] (xh V s0 g)
def W_X1_laysCosts_79 (d : Nat) (V : XV) (g : AH) (K : XS → Prop) (x1 : Int) (x2 : Int) (x3 : Int) (s0 : XS) : Prop := EW mm_X1_laysCosts (d + 5) 0 0 (xQv V g K) 79 [(0, aR (some xT)), (1, aI x1), (2, aI x2), (3, aI x3)] [] (xh V s0 g)
def W_X1_laysCosts_152 (d : Nat) (V : XV) (g : AH) (K : XS → Prop) (x1 : Int) (s0 : XS) : Prop := EW mm_X1_laysCosts (d + 5) 0 0 (xQv V g K) 152 [(0, aR (some xT)), (1, aI x1)] [] (xh V s0 g)
set_option maxHeartbeats 4000000 in
theorem T_X1_laysCosts_2 (d : Nat) (V : XV) (g : AH) (K : XS → Prop) (x1 : Int) (s0 : XS) (H : B_X1_laysCosts_2 (W_X1_laysCosts_2 d V g K) (W_X1_laysCosts_12 d V g K) (W_X1_laysCosts_57 d V g K) (W_X1_laysCosts_69 d V g K) (W_X1_laysCosts_79 d V g K) (W_X1_laysCosts_152 d V g K) K x1 s0) : EW mm_X1_laysCosts (d + 5) 0 0 (xQv V g K) 2 [(0, aR (some xT)), (1, aI x1)] [] (xh V s0 g) := by
  refine ew_iload_n dX1_laysCosts_2 rfl lm1 ?_
  refine ew_aload_n dX1_laysCosts_3 rfl lm0 ?_
  refine ew_callV (d := d + 4) (as := []) rfl dX1_laysCosts_4 me_X1_terms rfl (ci := 0) rfl rfl xh_x (Or.inl q1048) q1050 qs25 (Nat.le_of_ble_eq_true rfl) (Nat.zero_le _) (Nat.zero_le _) (S_X1_terms (d := d + 3) H) (fun o h' hq3 _ => ?_) (fun E i h' q _ => (cQ_no q).elim)
  obtain ⟨r1, E4, rfl, H⟩ := hq3
  cases E4
  refine ew_icmp_ge (tgt := 55) dX1_laysCosts_7 (by decide) (fun c5 => ?_) (fun c5 => ?_)
  · replace H := H.1 c5
    refine ew_iconst dX1_laysCosts_55 (inI_of rfl) ?_
    refine ew_istore_n dX1_laysCosts_56 rfl (by decide) (lv' := [(1, aI 1), (0, aR (some xT))]) rfl ?_
    refine ew_sub (List.forall_mem_cons.mpr ⟨lm1, (List.forall_mem_cons.mpr ⟨lm0, e_nm⟩)⟩) ?_
    exact ew_room (Nat.le_refl _) (Nat.zero_le _) (Nat.zero_le _) (ew_sub (List.forall_mem_cons.mpr ⟨lm0, (List.forall_mem_cons.mpr ⟨lm1, e_nm⟩)⟩) H)
  · replace H := H.2 c5
    refine ew_iconst dX1_laysCosts_10 (inI_of rfl) ?_
    refine ew_istore_n dX1_laysCosts_11 rfl (by decide) (lv' := [(2, aI 0), (0, aR (some xT)), (1, aI x1)]) rfl ?_
    refine ew_sub (List.forall_mem_cons.mpr ⟨lm1, (List.forall_mem_cons.mpr ⟨lm2, (List.forall_mem_cons.mpr ⟨lm0, e_nm⟩)⟩)⟩) ?_
    exact ew_room (Nat.le_refl _) (Nat.zero_le _) (Nat.zero_le _) (ew_sub (List.forall_mem_cons.mpr ⟨lm0, (List.forall_mem_cons.mpr ⟨lm1, (List.forall_mem_cons.mpr ⟨lm2, e_nm⟩)⟩)⟩) H)
set_option maxHeartbeats 4000000 in
theorem T_X1_laysCosts_12 (d : Nat) (V : XV) (g : AH) (K : XS → Prop) (x1 : Int) (x2 : Int) (s0 : XS) (H : B_X1_laysCosts_12 (W_X1_laysCosts_2 d V g K) (W_X1_laysCosts_12 d V g K) (W_X1_laysCosts_57 d V g K) (W_X1_laysCosts_69 d V g K) (W_X1_laysCosts_79 d V g K) (W_X1_laysCosts_152 d V g K) K x1 x2 s0) : EW mm_X1_laysCosts (d + 5) 0 0 (xQv V g K) 12 [(0, aR (some xT)), (1, aI x1), (2, aI x2)] [] (xh V s0 g) := by
  refine ew_iload_n dX1_laysCosts_12 rfl lm2 ?_
  refine ew_aload_n dX1_laysCosts_13 rfl lm0 ?_
  refine ew_callV (d := d + 4) (as := []) rfl dX1_laysCosts_14 me_X1_terms rfl (ci := 0) rfl rfl xh_x (Or.inl q1048) q1050 qs25 (Nat.le_of_ble_eq_true rfl) (Nat.zero_le _) (Nat.zero_le _) (S_X1_terms (d := d + 3) H) (fun o h' hq3 _ => ?_) (fun E i h' q _ => (cQ_no q).elim)
  obtain ⟨r1, E4, rfl, H⟩ := hq3
  cases E4
  refine ew_icmp_ge (tgt := 49) dX1_laysCosts_17 (by decide) (fun c5 => ?_) (fun c5 => ?_)
  · replace H := H.1 c5
    obtain ⟨v6, H⟩ := H
    refine ew_iinc dX1_laysCosts_49 lm1 (by decide) v6 (lv' := [(1, aI (x1 + 1)), (0, aR (some xT)), (2, aI x2)]) rfl ?_
    refine ew_sub (List.forall_mem_cons.mpr ⟨lm1, (List.forall_mem_cons.mpr ⟨lm0, (List.forall_mem_cons.mpr ⟨lm2, e_nm⟩)⟩)⟩) ?_
    refine ew_goto (tgt := 2) dX1_laysCosts_52 (by decide) ?_
    exact ew_room (Nat.le_refl _) (Nat.zero_le _) (Nat.zero_le _) (ew_sub (List.forall_mem_cons.mpr ⟨lm0, (List.forall_mem_cons.mpr ⟨lm1, e_nm⟩)⟩) H)
  · replace H := H.2 c5
    refine ew_aload_n dX1_laysCosts_20 rfl lm0 ?_
    refine xw_get (v := aR (some (0, 2, 17))) dX1_laysCosts_21 (e_fl.a q345) xf_17 rfl ?_
    refine ew_bipush dX1_laysCosts_24 (inI_of rfl) (by decide) ?_
    refine ew_iload_n dX1_laysCosts_26 rfl lm1 ?_
    obtain ⟨v7, H⟩ := H
    refine ew_imul dX1_laysCosts_27 v7 ?_
    refine ew_iload_n dX1_laysCosts_28 rfl lm2 ?_
    obtain ⟨v8, H⟩ := H
    refine ew_iadd dX1_laysCosts_29 v8 ?_
    refine ew_iload_n dX1_laysCosts_30 rfl lm1 ?_
    refine ew_iload_n dX1_laysCosts_31 rfl lm2 ?_
    refine ew_icmp_ne (tgt := 39) dX1_laysCosts_32 (by decide) (fun c9 => ?_) (fun c9 => ?_)
    · replace H := H.2 c9
      refine ew_ldc2 (n := 1000000000) dX1_laysCosts_39 (inL_of rfl) q1257 ?_
      obtain ⟨v12, H⟩ := H
      refine xw_last dX1_laysCosts_42 (by decide) rfl rfl v12.1 v12.2 (fun s10 e11 => ?_)
      replace H := H s10 e11
      obtain ⟨v13, H⟩ := H
      refine ew_iinc dX1_laysCosts_43 lm2 (by decide) v13 (lv' := [(2, aI (x2 + 1)), (0, aR (some xT)), (1, aI x1)]) rfl ?_
      refine ew_sub (List.forall_mem_cons.mpr ⟨lm1, (List.forall_mem_cons.mpr ⟨lm2, (List.forall_mem_cons.mpr ⟨lm0, e_nm⟩)⟩)⟩) ?_
      refine ew_goto (tgt := 12) dX1_laysCosts_46 (by decide) ?_
      exact ew_room (Nat.le_refl _) (Nat.zero_le _) (Nat.zero_le _) (ew_sub (List.forall_mem_cons.mpr ⟨lm0, (List.forall_mem_cons.mpr ⟨lm1, (List.forall_mem_cons.mpr ⟨lm2, e_nm⟩)⟩)⟩) H)
    · replace H := H.1 c9
      refine ew_lconst (v := 0) dX1_laysCosts_35 (inL_of rfl) (by decide) ?_
      refine ew_goto (tgt := 42) dX1_laysCosts_36 (by decide) ?_
      obtain ⟨v16, H⟩ := H
      refine xw_last dX1_laysCosts_42 (by decide) rfl rfl v16.1 v16.2 (fun s14 e15 => ?_)
      replace H := H s14 e15
      obtain ⟨v17, H⟩ := H
      refine ew_iinc dX1_laysCosts_43 lm2 (by decide) v17 (lv' := [(2, aI (x2 + 1)), (0, aR (some xT)), (1, aI x1)]) rfl ?_
      refine ew_sub (List.forall_mem_cons.mpr ⟨lm1, (List.forall_mem_cons.mpr ⟨lm2, (List.forall_mem_cons.mpr ⟨lm0, e_nm⟩)⟩)⟩) ?_
      refine ew_goto (tgt := 12) dX1_laysCosts_46 (by decide) ?_
      exact ew_room (Nat.le_refl _) (Nat.zero_le _) (Nat.zero_le _) (ew_sub (List.forall_mem_cons.mpr ⟨lm0, (List.forall_mem_cons.mpr ⟨lm1, (List.forall_mem_cons.mpr ⟨lm2, e_nm⟩)⟩)⟩) H)
set_option maxHeartbeats 4000000 in
theorem T_X1_laysCosts_57 (d : Nat) (V : XV) (g : AH) (K : XS → Prop) (x1 : Int) (s0 : XS) (H : B_X1_laysCosts_57 (W_X1_laysCosts_2 d V g K) (W_X1_laysCosts_12 d V g K) (W_X1_laysCosts_57 d V g K) (W_X1_laysCosts_69 d V g K) (W_X1_laysCosts_79 d V g K) (W_X1_laysCosts_152 d V g K) K x1 s0) : EW mm_X1_laysCosts (d + 5) 0 0 (xQv V g K) 57 [(0, aR (some xT)), (1, aI x1)] [] (xh V s0 g) := by
  refine ew_iload_n dX1_laysCosts_57 rfl lm1 ?_
  refine ew_if_eq (tgt := 171) dX1_laysCosts_58 (by decide) (fun c1 => ?_) (fun c1 => ?_)
  · replace H := H.1 c1
    exact ew_ret (o := none) rfl ⟨_, rfl, rfl, H⟩ ⟨rfl, dX1_laysCosts_171⟩
  · replace H := H.2 c1
    refine ew_aload_n dX1_laysCosts_61 rfl lm0 ?_
    refine ew_callV (d := d + 4) (as := []) rfl dX1_laysCosts_62 me_X1_laysEdges rfl (ci := 0) rfl rfl xh_x (Or.inl q1258) q1260 qs45 (Nat.le_of_ble_eq_true rfl) (Nat.zero_le _) (Nat.zero_le _) (S_X1_laysEdges (d := d + 0) H) (fun o h' hq4 _ => ?_) (fun E i h' q _ => (xQv_no q).elim)
    obtain ⟨s3, E5, rfl, H⟩ := hq4
    cases E5
    refine ew_iconst dX1_laysCosts_65 (inI_of rfl) ?_
    refine ew_istore_n dX1_laysCosts_66 rfl (by decide) (lv' := [(1, aI 0), (0, aR (some xT))]) rfl ?_
    refine ew_sub (List.forall_mem_cons.mpr ⟨lm1, (List.forall_mem_cons.mpr ⟨lm0, e_nm⟩)⟩) ?_
    refine ew_iconst dX1_laysCosts_67 (inI_of rfl) ?_
    refine ew_istore_n dX1_laysCosts_68 rfl (by decide) (lv' := [(2, aI 0), (0, aR (some xT)), (1, aI 0)]) rfl ?_
    refine ew_sub (List.forall_mem_cons.mpr ⟨lm1, (List.forall_mem_cons.mpr ⟨lm2, (List.forall_mem_cons.mpr ⟨lm0, e_nm⟩)⟩)⟩) ?_
    exact ew_room (Nat.le_refl _) (Nat.zero_le _) (Nat.zero_le _) (ew_sub (List.forall_mem_cons.mpr ⟨lm0, (List.forall_mem_cons.mpr ⟨lm1, (List.forall_mem_cons.mpr ⟨lm2, e_nm⟩)⟩)⟩) H)
set_option maxHeartbeats 4000000 in
theorem T_X1_laysCosts_69 (d : Nat) (V : XV) (g : AH) (K : XS → Prop) (x1 : Int) (x2 : Int) (s0 : XS) (H : B_X1_laysCosts_69 (W_X1_laysCosts_2 d V g K) (W_X1_laysCosts_12 d V g K) (W_X1_laysCosts_57 d V g K) (W_X1_laysCosts_69 d V g K) (W_X1_laysCosts_79 d V g K) (W_X1_laysCosts_152 d V g K) K x1 x2 s0) : EW mm_X1_laysCosts (d + 5) 0 0 (xQv V g K) 69 [(0, aR (some xT)), (1, aI x1), (2, aI x2)] [] (xh V s0 g) := by
  refine ew_iload_n dX1_laysCosts_69 rfl lm2 ?_
  refine ew_aload_n dX1_laysCosts_70 rfl lm0 ?_
  refine ew_callV (d := d + 4) (as := []) rfl dX1_laysCosts_71 me_X1_terms rfl (ci := 0) rfl rfl xh_x (Or.inl q1048) q1050 qs25 (Nat.le_of_ble_eq_true rfl) (Nat.zero_le _) (Nat.zero_le _) (S_X1_terms (d := d + 3) H) (fun o h' hq3 _ => ?_) (fun E i h' q _ => (cQ_no q).elim)
  obtain ⟨r1, E4, rfl, H⟩ := hq3
  cases E4
  refine ew_icmp_ge (tgt := 152) dX1_laysCosts_74 (by decide) (fun c5 => ?_) (fun c5 => ?_)
  · replace H := H.1 c5
    exact ew_room (Nat.le_refl _) (Nat.zero_le _) (Nat.zero_le _) (ew_sub (List.forall_mem_cons.mpr ⟨lm0, (List.forall_mem_cons.mpr ⟨lm1, e_nm⟩)⟩) H)
  · replace H := H.2 c5
    refine ew_iconst dX1_laysCosts_77 (inI_of rfl) ?_
    refine ew_istore_n dX1_laysCosts_78 rfl (by decide) (lv' := [(3, aI 0), (0, aR (some xT)), (1, aI x1), (2, aI x2)]) rfl ?_
    refine ew_sub (List.forall_mem_cons.mpr ⟨lm1, (List.forall_mem_cons.mpr ⟨lm2, (List.forall_mem_cons.mpr ⟨lm3, (List.forall_mem_cons.mpr ⟨lm0, e_nm⟩)⟩)⟩)⟩) ?_
    exact ew_room (Nat.le_refl _) (Nat.zero_le _) (Nat.zero_le _) (ew_sub (List.forall_mem_cons.mpr ⟨lm0, (List.forall_mem_cons.mpr ⟨lm1, (List.forall_mem_cons.mpr ⟨lm2, (List.forall_mem_cons.mpr ⟨lm3, e_nm⟩)⟩)⟩)⟩) H)
set_option maxHeartbeats 4000000 in
theorem T_X1_laysCosts_79 (d : Nat) (V : XV) (g : AH) (K : XS → Prop) (x1 : Int) (x2 : Int) (x3 : Int) (s0 : XS) (H : B_X1_laysCosts_79 (W_X1_laysCosts_2 d V g K) (W_X1_laysCosts_12 d V g K) (W_X1_laysCosts_57 d V g K) (W_X1_laysCosts_69 d V g K) (W_X1_laysCosts_79 d V g K) (W_X1_laysCosts_152 d V g K) K x1 x2 x3 s0) : EW mm_X1_laysCosts (d + 5) 0 0 (xQv V g K) 79 [(0, aR (some xT)), (1, aI x1), (2, aI x2), (3, aI x3)] [] (xh V s0 g) := by
  refine ew_iload_n dX1_laysCosts_79 rfl lm3 ?_
  refine ew_aload_n dX1_laysCosts_80 rfl lm0 ?_
  refine ew_callV (d := d + 4) (as := []) rfl dX1_laysCosts_81 me_X1_terms rfl (ci := 0) rfl rfl xh_x (Or.inl q1048) q1050 qs25 (Nat.le_of_ble_eq_true rfl) (Nat.zero_le _) (Nat.zero_le _) (S_X1_terms (d := d + 3) H) (fun o h' hq3 _ => ?_) (fun E i h' q _ => (cQ_no q).elim)
  obtain ⟨r1, E4, rfl, H⟩ := hq3
  cases E4
  refine ew_icmp_ge (tgt := 146) dX1_laysCosts_84 (by decide) (fun c5 => ?_) (fun c5 => ?_)
  · replace H := H.1 c5
    obtain ⟨v6, H⟩ := H
    refine ew_iinc dX1_laysCosts_146 lm2 (by decide) v6 (lv' := [(2, aI (x2 + 1)), (0, aR (some xT)), (1, aI x1), (3, aI x3)]) rfl ?_
    refine ew_sub (List.forall_mem_cons.mpr ⟨lm1, (List.forall_mem_cons.mpr ⟨lm2, (List.forall_mem_cons.mpr ⟨lm0, (List.forall_mem_cons.mpr ⟨lm3, e_nm⟩)⟩)⟩)⟩) ?_
    refine ew_goto (tgt := 69) dX1_laysCosts_149 (by decide) ?_
    exact ew_room (Nat.le_refl _) (Nat.zero_le _) (Nat.zero_le _) (ew_sub (List.forall_mem_cons.mpr ⟨lm0, (List.forall_mem_cons.mpr ⟨lm1, (List.forall_mem_cons.mpr ⟨lm2, e_nm⟩)⟩)⟩) H)
  · replace H := H.2 c5
    refine ew_aload_n dX1_laysCosts_87 rfl lm0 ?_
    refine xw_get (v := aR (some (0, 2, 18))) dX1_laysCosts_88 (e_fl.a q346) xf_18 rfl ?_
    refine ew_bipush dX1_laysCosts_91 (inI_of rfl) (by decide) ?_
    refine ew_iload_n dX1_laysCosts_93 rfl lm2 ?_
    obtain ⟨v7, H⟩ := H
    refine ew_imul dX1_laysCosts_94 v7 ?_
    refine ew_iload_n dX1_laysCosts_95 rfl lm3 ?_
    obtain ⟨v8, H⟩ := H
    refine ew_iadd dX1_laysCosts_96 v8 ?_
    obtain ⟨v9, H⟩ := H
    refine xw_lald dX1_laysCosts_97 rfl v9.1 v9.2 ?_
    refine ew_aload_n dX1_laysCosts_98 rfl lm0 ?_
    refine xw_get (v := aR (some (0, 2, 17))) dX1_laysCosts_99 (e_fl.a q345) xf_17 rfl ?_
    refine ew_bipush dX1_laysCosts_102 (inI_of rfl) (by decide) ?_
    refine ew_iload_n dX1_laysCosts_104 rfl lm2 ?_
    obtain ⟨v10, H⟩ := H
    refine ew_imul dX1_laysCosts_105 v10 ?_
    refine ew_iload_n dX1_laysCosts_106 rfl lm3 ?_
    obtain ⟨v11, H⟩ := H
    refine ew_iadd dX1_laysCosts_107 v11 ?_
    obtain ⟨v12, H⟩ := H
    refine xw_lald dX1_laysCosts_108 rfl v12.1 v12.2 ?_
    refine ew_lcmp dX1_laysCosts_109 ?_
    refine ew_if_lt (tgt := 116) dX1_laysCosts_110 (by decide) (fun c13 => ?_) (fun c13 => ?_)
    · replace H := H.1 (jl_lt.mp c13)
      refine ew_aload_n dX1_laysCosts_116 rfl lm0 ?_
      refine xw_get (v := aR (some (0, 2, 17))) dX1_laysCosts_117 (e_fl.a q345) xf_17 rfl ?_
      refine ew_bipush dX1_laysCosts_120 (inI_of rfl) (by decide) ?_
      refine ew_iload_n dX1_laysCosts_122 rfl lm2 ?_
      obtain ⟨v14, H⟩ := H
      refine ew_imul dX1_laysCosts_123 v14 ?_
      refine ew_iload_n dX1_laysCosts_124 rfl lm3 ?_
      obtain ⟨v15, H⟩ := H
      refine ew_iadd dX1_laysCosts_125 v15 ?_
      refine ew_aload_n dX1_laysCosts_126 rfl lm0 ?_
      refine xw_get (v := aR (some (0, 2, 18))) dX1_laysCosts_127 (e_fl.a q346) xf_18 rfl ?_
      refine ew_bipush dX1_laysCosts_130 (inI_of rfl) (by decide) ?_
      refine ew_iload_n dX1_laysCosts_132 rfl lm2 ?_
      obtain ⟨v16, H⟩ := H
      refine ew_imul dX1_laysCosts_133 v16 ?_
      refine ew_iload_n dX1_laysCosts_134 rfl lm3 ?_
      obtain ⟨v17, H⟩ := H
      refine ew_iadd dX1_laysCosts_135 v17 ?_
      obtain ⟨v18, H⟩ := H
      refine xw_lald dX1_laysCosts_136 rfl v18.1 v18.2 ?_
      obtain ⟨v21, H⟩ := H
      refine xw_last dX1_laysCosts_137 (by decide) rfl rfl v21.1 v21.2 (fun s19 e20 => ?_)
      replace H := H s19 e20
      refine ew_iconst dX1_laysCosts_138 (inI_of rfl) ?_
      refine ew_istore_n dX1_laysCosts_139 rfl (by decide) (lv' := [(1, aI 1), (0, aR (some xT)), (2, aI x2), (3, aI x3)]) rfl ?_
      refine ew_sub (List.forall_mem_cons.mpr ⟨lm1, (List.forall_mem_cons.mpr ⟨lm0, (List.forall_mem_cons.mpr ⟨lm2, (List.forall_mem_cons.mpr ⟨lm3, e_nm⟩)⟩)⟩)⟩) ?_
      obtain ⟨v22, H⟩ := H
      refine ew_iinc dX1_laysCosts_140 lm3 (by decide) v22 (lv' := [(3, aI (x3 + 1)), (0, aR (some xT)), (1, aI 1), (2, aI x2)]) rfl ?_
      refine ew_sub (List.forall_mem_cons.mpr ⟨lm1, (List.forall_mem_cons.mpr ⟨lm2, (List.forall_mem_cons.mpr ⟨lm3, (List.forall_mem_cons.mpr ⟨lm0, e_nm⟩)⟩)⟩)⟩) ?_
      refine ew_goto (tgt := 79) dX1_laysCosts_143 (by decide) ?_
      exact ew_room (Nat.le_refl _) (Nat.zero_le _) (Nat.zero_le _) (ew_sub (List.forall_mem_cons.mpr ⟨lm0, (List.forall_mem_cons.mpr ⟨lm1, (List.forall_mem_cons.mpr ⟨lm2, (List.forall_mem_cons.mpr ⟨lm3, e_nm⟩)⟩)⟩)⟩) H)
    · replace H := H.2 (fun z => c13 (jl_lt.mpr z))
      refine ew_goto (tgt := 140) dX1_laysCosts_113 (by decide) ?_
      obtain ⟨v23, H⟩ := H
      refine ew_iinc dX1_laysCosts_140 lm3 (by decide) v23 (lv' := [(3, aI (x3 + 1)), (0, aR (some xT)), (1, aI x1), (2, aI x2)]) rfl ?_
      refine ew_sub (List.forall_mem_cons.mpr ⟨lm1, (List.forall_mem_cons.mpr ⟨lm2, (List.forall_mem_cons.mpr ⟨lm3, (List.forall_mem_cons.mpr ⟨lm0, e_nm⟩)⟩)⟩)⟩) ?_
      refine ew_goto (tgt := 79) dX1_laysCosts_143 (by decide) ?_
      exact ew_room (Nat.le_refl _) (Nat.zero_le _) (Nat.zero_le _) (ew_sub (List.forall_mem_cons.mpr ⟨lm0, (List.forall_mem_cons.mpr ⟨lm1, (List.forall_mem_cons.mpr ⟨lm2, (List.forall_mem_cons.mpr ⟨lm3, e_nm⟩)⟩)⟩)⟩) H)
set_option maxHeartbeats 4000000 in
theorem T_X1_laysCosts_152 (d : Nat) (V : XV) (g : AH) (K : XS → Prop) (x1 : Int) (s0 : XS) (H : B_X1_laysCosts_152 (W_X1_laysCosts_2 d V g K) (W_X1_laysCosts_12 d V g K) (W_X1_laysCosts_57 d V g K) (W_X1_laysCosts_69 d V g K) (W_X1_laysCosts_79 d V g K) (W_X1_laysCosts_152 d V g K) K x1 s0) : EW mm_X1_laysCosts (d + 5) 0 0 (xQv V g K) 152 [(0, aR (some xT)), (1, aI x1)] [] (xh V s0 g) := by
  refine ew_aload_n dX1_laysCosts_152 rfl lm0 ?_
  refine ew_aload_n dX1_laysCosts_153 rfl lm0 ?_
  refine xw_get (v := aR (some (0, 2, 17))) dX1_laysCosts_154 (e_fl.a q345) xf_17 rfl ?_
  refine ew_ldc2 (n := 1000000000) dX1_laysCosts_157 (inL_of rfl) q1257 ?_
  refine ew_callV (d := d + 4) (as := [aR (some (0, 2, 17)), aL 1000000000]) rfl dX1_laysCosts_160 me_X1_spreads rfl (ci := 0) rfl rfl xh_x (Or.inl q1273) q1275 qs48 (Nat.le_of_ble_eq_true rfl) (Nat.zero_le _) (Nat.zero_le _) (S_X1_spreads (d := d + 2) H) (fun o h' hq3 _ => ?_) (fun E i h' q _ => (xQi_no q).elim)
  obtain ⟨r1, s2, E4, rfl, H⟩ := hq3
  cases E4
  refine ew_if_eq (tgt := 57) dX1_laysCosts_163 (by decide) (fun c5 => ?_) (fun c5 => ?_)
  · replace H := H.1 c5
    exact ew_room (Nat.le_refl _) (Nat.zero_le _) (Nat.zero_le _) (ew_sub (List.forall_mem_cons.mpr ⟨lm0, (List.forall_mem_cons.mpr ⟨lm1, e_nm⟩)⟩) H)
  · replace H := H.2 c5
    refine ew_iconst dX1_laysCosts_166 (inI_of rfl) ?_
    refine ew_istore_n dX1_laysCosts_167 rfl (by decide) (lv' := [(1, aI 1), (0, aR (some xT))]) rfl ?_
    refine ew_sub (List.forall_mem_cons.mpr ⟨lm1, (List.forall_mem_cons.mpr ⟨lm0, e_nm⟩)⟩) ?_
    refine ew_goto (tgt := 152) dX1_laysCosts_168 (by decide) ?_
    exact ew_room (Nat.le_refl _) (Nat.zero_le _) (Nat.zero_le _) (ew_sub (List.forall_mem_cons.mpr ⟨lm0, (List.forall_mem_cons.mpr ⟨lm1, e_nm⟩)⟩) H)
set_option maxHeartbeats 4000000 in
theorem T_X1_laysCosts_E (d : Nat) (V : XV) (g : AH) (K : XS → Prop) (s0 : XS) (H : B_X1_laysCosts_E (W_X1_laysCosts_2 d V g K) (W_X1_laysCosts_12 d V g K) (W_X1_laysCosts_57 d V g K) (W_X1_laysCosts_69 d V g K) (W_X1_laysCosts_79 d V g K) (W_X1_laysCosts_152 d V g K) K s0) : EW mm_X1_laysCosts (d + 5) 0 0 (xQv V g K) 0 [(0, aR (some xT))] [] (xh V s0 g) := by
  refine ew_iconst dX1_laysCosts_0 (inI_of rfl) ?_
  refine ew_istore_n dX1_laysCosts_1 rfl (by decide) (lv' := [(1, aI 0), (0, aR (some xT))]) rfl ?_
  refine ew_sub (List.forall_mem_cons.mpr ⟨lm1, (List.forall_mem_cons.mpr ⟨lm0, e_nm⟩)⟩) ?_
  exact ew_room (Nat.le_refl _) (Nat.zero_le _) (Nat.zero_le _) (ew_sub (List.forall_mem_cons.mpr ⟨lm0, (List.forall_mem_cons.mpr ⟨lm1, e_nm⟩)⟩) H)
def C_X1_laysCosts (s0 : XS) (K : XS → Prop) : Prop := ∀ (X2 : Int → XS → Prop) (X12 : Int → Int → XS → Prop) (X57 : Int → XS → Prop) (X69 : Int → Int → XS → Prop) (X79 : Int → Int → Int → XS → Prop) (X152 : Int → XS → Prop), (∀ (x1 : Int) (s0 : XS), B_X1_laysCosts_2 X2 X12 X57 X69 X79 X152 K x1 s0 → X2 x1 s0) → (∀ (x1 : Int) (x2 : Int) (s0 : XS), B_X1_laysCosts_12 X2 X12 X57 X69 X79 X152 K x1 x2 s0 → X12 x1 x2 s0) → (∀ (x1 : Int) (s0 : XS), B_X1_laysCosts_57 X2 X12 X57 X69 X79 X152 K x1 s0 → X57 x1 s0) → (∀ (x1 : Int) (x2 : Int) (s0 : XS), B_X1_laysCosts_69 X2 X12 X57 X69 X79 X152 K x1 x2 s0 → X69 x1 x2 s0) → (∀ (x1 : Int) (x2 : Int) (x3 : Int) (s0 : XS), B_X1_laysCosts_79 X2 X12 X57 X69 X79 X152 K x1 x2 x3 s0 → X79 x1 x2 x3 s0) → (∀ (x1 : Int) (s0 : XS), B_X1_laysCosts_152 X2 X12 X57 X69 X79 X152 K x1 s0 → X152 x1 s0) → B_X1_laysCosts_E X2 X12 X57 X69 X79 X152 K s0
theorem S_X1_laysCosts {d : Nat} {V : XV} {g : AH} {K : XS → Prop} {s0 : XS} (H : C_X1_laysCosts s0 K) : Sp mm_X1_laysCosts (d + 5) 0 0 [aR (some xT)] (xh V s0 g) (xQv V g K) :=
  ew_sp rfl (Nat.le_of_ble_eq_true rfl) (T_X1_laysCosts_E d V g K s0 (H _ _ _ _ _ _ (fun x1 s0 H => T_X1_laysCosts_2 d V g K x1 s0 H) (fun x1 x2 s0 H => T_X1_laysCosts_12 d V g K x1 x2 s0 H) (fun x1 s0 H => T_X1_laysCosts_57 d V g K x1 s0 H) (fun x1 x2 s0 H => T_X1_laysCosts_69 d V g K x1 x2 s0 H) (fun x1 x2 x3 s0 H => T_X1_laysCosts_79 d V g K x1 x2 x3 s0 H) (fun x1 s0 H => T_X1_laysCosts_152 d V g K x1 s0 H)))
