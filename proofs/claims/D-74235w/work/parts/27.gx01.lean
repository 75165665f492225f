/-! ReasonCloser: methods as predicates, by program (gen/gxx.py) -/
set_option maxRecDepth 100000
abbrev mm_X4_follow : EM := (yX4_follow, cX4_follow, 6, (Option.some .boolean), [])
theorem me_X4_follow : e_mth mm_X4_follow 2 := ⟨rfl, q988, q114, by decide +kernel, by decide⟩
def B_X4_follow_P_46 (X46 : Int → Int → Int → Prop) (K : Int → Prop) (x3 : Int) (x4 : Int) (x5 : Int) (j : Nat) (s0 : XS) : Prop :=
  ((0 ≤ x3 ∧ x3 < s0.1.1 41) ∧ (((0 ≤ x3 ∧ x3 < s0.1.1 41) ∧ 0 ≤ s0.1.2 34 x3 ∧ s0.1.2 34 x3 < 2147483648) ∧ (((s0.1.2 34 x3) ≤ x5 → K 1) ∧ (¬ (s0.1.2 34 x3) ≤ x5 → ((0 ≤ x3 ∧ x3 < s0.1.1 41) ∧ (((0 ≤ x3 ∧ x3 < s0.1.1 41) ∧ 0 ≤ x5 ∧ x5 < s0.1.2 34 x3) ∧ ((0 ≤ x4 ∧ x4 < s0.1.1 41) ∧ (((0 ≤ x4 ∧ x4 < s0.1.1 41) ∧ 0 ≤ x5 ∧ x5 < s0.1.2 34 x4) ∧ (C_X3_areOne_G (s0.1.2 (100 + (x3).toNat) x5) (s0.1.2 (100 + (x4).toNat) x5) j s0 (fun r8 => ((r8 = 0 → K 0) ∧ (¬ r8 = 0 → (inI (x5 + 1) ∧ X46 x3 x4 (x5 + 1))))))))))))))
def B_X4_follow_P_E (X46 : Int → Int → Int → Prop) (K : Int → Prop) (a : Int) (b : Int) (j : Nat) (s0 : XS) : Prop :=
  (((0 ≤ a ∧ a < s0.1.1 31) ∧ xok s0 1) ∧ ((0 ≤ a ∧ a < s0.1.1 41) ∧ (((0 ≤ b ∧ b < s0.1.1 31) ∧ xok s0 1) ∧ ((0 ≤ b ∧ b < s0.1.1 41) ∧ ((0 ≤ a ∧ a < s0.1.1 41) ∧ ((0 ≤ b ∧ b < s0.1.1 41) ∧ (((s0.1.2 33 a) = (s0.1.2 33 b) → X46 a b 0) ∧ (¬ (s0.1.2 33 a) = (s0.1.2 33 b) → K 0))))))))
def W_X4_follow_P_46 (d : Nat) (V : XV) (g : AH) (j : Nat) (s0 : XS) (K : Int → Prop) (x3 : Int) (x4 : Int) (x5 : Int) : Prop := EW mm_X4_follow (d + 3) 0 0 (cQ (xh V s0 g) K) 46 [(0, aR (some (sI V j 99))), (3, aR (some (bI V 11 (x3).toNat))), (4, aR (some (bI V 11 (x4).toNat))), (5, aI x5)] [] (xh V s0 g)
set_option maxHeartbeats 4000000 in
theorem T_X4_follow_P_46 (d : Nat) (V : XV) (g : AH) (j : Nat) (hj : j = 2 ∨ j = 3) (K : Int → Prop) (x3 : Int) (x4 : Int) (x5 : Int) (s0 : XS) (H : B_X4_follow_P_46 (W_X4_follow_P_46 d V g j s0 K) K x3 x4 x5 j s0) : EW mm_X4_follow (d + 3) 0 0 (cQ (xh V s0 g) K) 46 [(0, aR (some (sI V j 99))), (3, aR (some (bI V 11 (x3).toNat))), (4, aR (some (bI V 11 (x4).toNat))), (5, aI x5)] [] (xh V s0 g) := by
  refine ew_iload dX4_follow_46 lm3 ?_
  refine ew_aload_n dX4_follow_48 rfl lm1 ?_
  obtain ⟨v1, H⟩ := H
  refine gm_3 (f := x3) dX4_follow_49 (e_fl.c q825) tf2_3 v1 ?_
  obtain ⟨v2, H⟩ := H
  refine pw_alen (f := x3) dX4_follow_52 v2.1 v2.2 ?_
  refine ew_icmp_ge (tgt := 86) dX4_follow_53 (by decide) (fun c3 => ?_) (fun c3 => ?_)
  · replace H := H.1 c3
    refine ew_iconst dX4_follow_86 (inI_of rfl) ?_
    exact ew_ret (o := some (aI 1)) rfl ⟨_, rfl, rfl, H⟩ ⟨dX4_follow_87, .boolean, rfl, Or.inr (Or.inl rfl), by decide⟩
  · replace H := H.2 c3
    refine ew_aload_n dX4_follow_56 rfl lm0 ?_
    refine ew_aload_n dX4_follow_57 rfl lm1 ?_
    obtain ⟨v4, H⟩ := H
    refine gm_3 (f := x3) dX4_follow_58 (e_fl.c q825) tf2_3 v4 ?_
    refine ew_iload dX4_follow_61 lm3 ?_
    obtain ⟨v5, H⟩ := H
    refine pw_iald (f := x3) dX4_follow_63 v5.1 v5.2 ?_
    refine ew_aload dX4_follow_64 lm2 ?_
    obtain ⟨v6, H⟩ := H
    refine gm_3 (f := x4) dX4_follow_66 (e_fl.c q825) tf2_3 v6 ?_
    refine ew_iload dX4_follow_69 lm3 ?_
    obtain ⟨v7, H⟩ := H
    refine pw_iald (f := x4) dX4_follow_71 v7.1 v7.2 ?_
    refine ew_callY (x := ⟨"ReasonCloser$Closed", "areOne", "(II)Z"⟩) (d := d + 2) (as := [aI (s0.1.2 (100 + (x3).toNat) x5), aI (s0.1.2 (100 + (x4).toNat) x5)]) rfl dX4_follow_72 me_X3_areOne rfl (e_P5 hj) rfl q976 q977 (yselP hj (P := fun c => Cond.selects c _ _ ∈ lw_all) q979) q981 (Or.inl q978) (by decide) (Nat.le_of_ble_eq_true rfl) (Nat.zero_le _) (Nat.zero_le _) (S_X3_areOne_G (d := d + 2) (e_P5 hj) H) (fun o h' hq10 _ => ?_) (fun E i h' q _ => (cQ_no q).elim)
    obtain ⟨r8, E11, rfl, H⟩ := hq10
    cases E11
    refine ew_if_ne (tgt := 80) dX4_follow_75 (by decide) (fun c12 => ?_) (fun c12 => ?_)
    · replace H := H.2 c12
      obtain ⟨v13, H⟩ := H
      refine ew_iinc dX4_follow_80 lm3 (by decide) v13 (lv' := [(5, aI (x5 + 1)), (0, aR (some (sI V j 99))), (3, aR (some (bI V 11 (x3).toNat))), (4, aR (some (bI V 11 (x4).toNat)))]) rfl ?_
      refine ew_sub (List.forall_mem_cons.mpr ⟨lm1, (List.forall_mem_cons.mpr ⟨lm2, (List.forall_mem_cons.mpr ⟨lm3, (List.forall_mem_cons.mpr ⟨lm0, e_nm⟩)⟩)⟩)⟩) ?_
      refine ew_goto (tgt := 46) dX4_follow_83 (by decide) ?_
      exact ew_room (Nat.le_refl _) (Nat.zero_le _) (Nat.zero_le _) (ew_sub (List.forall_mem_cons.mpr ⟨lm0, (List.forall_mem_cons.mpr ⟨lm1, (List.forall_mem_cons.mpr ⟨lm2, (List.forall_mem_cons.mpr ⟨lm3, e_nm⟩)⟩)⟩)⟩) H)
    · replace H := H.1 c12
      refine ew_iconst dX4_follow_78 (inI_of rfl) ?_
      exact ew_ret (o := some (aI 0)) rfl ⟨_, rfl, rfl, H⟩ ⟨dX4_follow_79, .boolean, rfl, Or.inr (Or.inl rfl), by decide⟩
set_option maxHeartbeats 4000000 in
theorem T_X4_follow_P_E (d : Nat) (V : XV) (g : AH) (j : Nat) (hj : j = 2 ∨ j = 3) (K : Int → Prop) (a : Int) (b : Int) (s0 : XS) (H : B_X4_follow_P_E (W_X4_follow_P_46 d V g j s0 K) K a b j s0) : EW mm_X4_follow (d + 3) 0 0 (cQ (xh V s0 g) K) 0 [(0, aR (some (sI V j 99))), (1, aI a), (2, aI b)] [] (xh V s0 g) := by
  refine ew_aload_n dX4_follow_0 rfl lm0 ?_
  refine yw_get (cs := [4, 5]) (v := aR (some (bI V 2 1))) dX4_follow_1 (e_P5 hj) (e_fl.a q253) yf_4 (scl_P hj) rfl ?_
  refine ew_iload_n dX4_follow_4 rfl lm1 ?_
  obtain ⟨v1, H⟩ := H
  refine lw_g1 (d := d + 0) dX4_follow_5 q990 (Nat.le_of_ble_eq_true rfl) v1.1 v1.2 ?_
  obtain ⟨v2, H⟩ := H
  refine cm_cast (f := a) dX4_follow_10 q991 v2 ?_
  refine ew_astore_n dX4_follow_13 rfl (by decide) (lv' := [(3, aR (some (bI V 11 (a).toNat))), (0, aR (some (sI V j 99))), (1, aI a), (2, aI b)]) rfl ?_
  refine ew_sub (List.forall_mem_cons.mpr ⟨lm1, (List.forall_mem_cons.mpr ⟨lm2, (List.forall_mem_cons.mpr ⟨lm3, (List.forall_mem_cons.mpr ⟨lm0, e_nm⟩)⟩)⟩)⟩) ?_
  refine ew_aload_n dX4_follow_14 rfl lm0 ?_
  refine yw_get (cs := [4, 5]) (v := aR (some (bI V 2 1))) dX4_follow_15 (e_P5 hj) (e_fl.a q253) yf_4 (scl_P hj) rfl ?_
  refine ew_iload_n dX4_follow_18 rfl lm2 ?_
  obtain ⟨v3, H⟩ := H
  refine lw_g1 (d := d + 0) dX4_follow_19 q990 (Nat.le_of_ble_eq_true rfl) v3.1 v3.2 ?_
  obtain ⟨v4, H⟩ := H
  refine cm_cast (f := b) dX4_follow_24 q991 v4 ?_
  refine ew_astore dX4_follow_27 (by decide) (lv' := [(4, aR (some (bI V 11 (b).toNat))), (0, aR (some (sI V j 99))), (1, aI a), (2, aI b), (3, aR (some (bI V 11 (a).toNat)))]) rfl ?_
  refine ew_sub (List.forall_mem_cons.mpr ⟨lm1, (List.forall_mem_cons.mpr ⟨lm2, (List.forall_mem_cons.mpr ⟨lm3, (List.forall_mem_cons.mpr ⟨lm4, (List.forall_mem_cons.mpr ⟨lm0, e_nm⟩)⟩)⟩)⟩)⟩) ?_
  refine ew_aload_n dX4_follow_29 rfl lm3 ?_
  obtain ⟨v5, H⟩ := H
  refine gm_2 (f := a) dX4_follow_30 (e_fl.c q822) tf2_2 v5 ?_
  refine ew_aload dX4_follow_33 lm4 ?_
  obtain ⟨v6, H⟩ := H
  refine gm_2 (f := b) dX4_follow_35 (e_fl.c q822) tf2_2 v6 ?_
  refine ew_icmp_eq (tgt := 43) dX4_follow_38 (by decide) (fun c7 => ?_) (fun c7 => ?_)
  · replace H := H.1 c7
    refine ew_iconst dX4_follow_43 (inI_of rfl) ?_
    refine ew_istore dX4_follow_44 (by decide) (lv' := [(5, aI 0), (0, aR (some (sI V j 99))), (1, aI a), (2, aI b), (3, aR (some (bI V 11 (a).toNat))), (4, aR (some (bI V 11 (b).toNat)))]) rfl ?_
    refine ew_sub (List.forall_mem_cons.mpr ⟨lm1, (List.forall_mem_cons.mpr ⟨lm2, (List.forall_mem_cons.mpr ⟨lm3, (List.forall_mem_cons.mpr ⟨lm4, (List.forall_mem_cons.mpr ⟨lm5, (List.forall_mem_cons.mpr ⟨lm0, e_nm⟩)⟩)⟩)⟩)⟩)⟩) ?_
    exact ew_room (Nat.le_refl _) (Nat.zero_le _) (Nat.zero_le _) (ew_sub (List.forall_mem_cons.mpr ⟨lm0, (List.forall_mem_cons.mpr ⟨lm3, (List.forall_mem_cons.mpr ⟨lm4, (List.forall_mem_cons.mpr ⟨lm5, e_nm⟩)⟩)⟩)⟩) H)
  · replace H := H.2 c7
    refine ew_iconst dX4_follow_41 (inI_of rfl) ?_
    exact ew_ret (o := some (aI 0)) rfl ⟨_, rfl, rfl, H⟩ ⟨dX4_follow_42, .boolean, rfl, Or.inr (Or.inl rfl), by decide⟩
def C_X4_follow_P (a : Int) (b : Int) (j : Nat) (s0 : XS) (K : Int → Prop) : Prop := ∀ (X46 : Int → Int → Int → Prop), (∀ (x3 : Int) (x4 : Int) (x5 : Int), B_X4_follow_P_46 X46 K x3 x4 x5 j s0 → X46 x3 x4 x5) → B_X4_follow_P_E X46 K a b j s0
theorem S_X4_follow_P {d : Nat} {V : XV} {g : AH} {j : Nat} {K : Int → Prop} {a : Int} {b : Int} {s0 : XS} (hj : j = 2 ∨ j = 3) (H : C_X4_follow_P a b j s0 K) : Sp mm_X4_follow (d + 3) 0 0 [aR (some (sI V j 99)), aI a, aI b] (xh V s0 g) (cQ (xh V s0 g) K) :=
  ew_sp rfl (Nat.le_of_ble_eq_true rfl) (T_X4_follow_P_E d V g j hj K a b s0 (H _ (fun x3 x4 x5 H => T_X4_follow_P_46 d V g j hj K x3 x4 x5 s0 H)))
def B_X4_follow_N_46 (X46 : Int → Int → Int → Prop) (K : Int → Prop) (x3 : Int) (x4 : Int) (x5 : Int) (s0 : XS) : Prop :=
  ((0 ≤ x3 ∧ x3 < s0.1.1 41) ∧ (((0 ≤ x3 ∧ x3 < s0.1.1 41) ∧ 0 ≤ s0.1.2 34 x3 ∧ s0.1.2 34 x3 < 2147483648) ∧ (((s0.1.2 34 x3) ≤ x5 → K 1) ∧ (¬ (s0.1.2 34 x3) ≤ x5 → ((0 ≤ x3 ∧ x3 < s0.1.1 41) ∧ (((0 ≤ x3 ∧ x3 < s0.1.1 41) ∧ 0 ≤ x5 ∧ x5 < s0.1.2 34 x3) ∧ ((0 ≤ x4 ∧ x4 < s0.1.1 41) ∧ (((0 ≤ x4 ∧ x4 < s0.1.1 41) ∧ 0 ≤ x5 ∧ x5 < s0.1.2 34 x4) ∧ (C_X3_areOne_G (s0.1.2 (100 + (x3).toNat) x5) (s0.1.2 (100 + (x4).toNat) x5) 4 s0 (fun r8 => ((r8 = 0 → K 0) ∧ (¬ r8 = 0 → (inI (x5 + 1) ∧ X46 x3 x4 (x5 + 1))))))))))))))
def B_X4_follow_N_E (X46 : Int → Int → Int → Prop) (K : Int → Prop) (a : Int) (b : Int) (s0 : XS) : Prop :=
  (((0 ≤ a ∧ a < s0.1.1 31) ∧ xok s0 1) ∧ ((0 ≤ a ∧ a < s0.1.1 41) ∧ (((0 ≤ b ∧ b < s0.1.1 31) ∧ xok s0 1) ∧ ((0 ≤ b ∧ b < s0.1.1 41) ∧ ((0 ≤ a ∧ a < s0.1.1 41) ∧ ((0 ≤ b ∧ b < s0.1.1 41) ∧ (((s0.1.2 33 a) = (s0.1.2 33 b) → X46 a b 0) ∧ (¬ (s0.1.2 33 a) = (s0.1.2 33 b) → K 0))))))))
def W_X4_follow_N_46 (d : Nat) (V : XV) (g : AH) (s0 : XS) (K : Int → Prop) (x3 : Int) (x4 : Int) (x5 : Int) : Prop := EW mm_X4_follow (d + 3) 0 0 (cQ (xh V s0 g) K) 46 [(0, aR (some (sI V 4 99))), (3, aR (some (bI V 11 (x3).toNat))), (4, aR (some (bI V 11 (x4).toNat))), (5, aI x5)] [] (xh V s0 g)
set_option maxHeartbeats 4000000 in
theorem T_X4_follow_N_46 (d : Nat) (V : XV) (g : AH) (K : Int → Prop) (x3 : Int) (x4 : Int) (x5 : Int) (s0 : XS) (H : B_X4_follow_N_46 (W_X4_follow_N_46 d V g s0 K) K x3 x4 x5 s0) : EW mm_X4_follow (d + 3) 0 0 (cQ (xh V s0 g) K) 46 [(0, aR (some (sI V 4 99))), (3, aR (some (bI V 11 (x3).toNat))), (4, aR (some (bI V 11 (x4).toNat))), (5, aI x5)] [] (xh V s0 g) := by
  refine ew_iload dX4_follow_46 lm3 ?_
  refine ew_aload_n dX4_follow_48 rfl lm1 ?_
  obtain ⟨v1, H⟩ := H
  refine gm_3 (f := x3) dX4_follow_49 (e_fl.c q825) tf2_3 v1 ?_
  obtain ⟨v2, H⟩ := H
  refine pw_alen (f := x3) dX4_follow_52 v2.1 v2.2 ?_
  refine ew_icmp_ge (tgt := 86) dX4_follow_53 (by decide) (fun c3 => ?_) (fun c3 => ?_)
  · replace H := H.1 c3
    refine ew_iconst dX4_follow_86 (inI_of rfl) ?_
    exact ew_ret (o := some (aI 1)) rfl ⟨_, rfl, rfl, H⟩ ⟨dX4_follow_87, .boolean, rfl, Or.inr (Or.inl rfl), by decide⟩
  · replace H := H.2 c3
    refine ew_aload_n dX4_follow_56 rfl lm0 ?_
    refine ew_aload_n dX4_follow_57 rfl lm1 ?_
    obtain ⟨v4, H⟩ := H
    refine gm_3 (f := x3) dX4_follow_58 (e_fl.c q825) tf2_3 v4 ?_
    refine ew_iload dX4_follow_61 lm3 ?_
    obtain ⟨v5, H⟩ := H
    refine pw_iald (f := x3) dX4_follow_63 v5.1 v5.2 ?_
    refine ew_aload dX4_follow_64 lm2 ?_
    obtain ⟨v6, H⟩ := H
    refine gm_3 (f := x4) dX4_follow_66 (e_fl.c q825) tf2_3 v6 ?_
    refine ew_iload dX4_follow_69 lm3 ?_
    obtain ⟨v7, H⟩ := H
    refine pw_iald (f := x4) dX4_follow_71 v7.1 v7.2 ?_
    refine ew_callY (x := ⟨"ReasonCloser$Closed", "areOne", "(II)Z"⟩) (d := d + 2) (as := [aI (s0.1.2 (100 + (x3).toNat) x5), aI (s0.1.2 (100 + (x4).toNat) x5)]) rfl dX4_follow_72 me_X3_areOne rfl (by decide) rfl q976 q977 (ysel5_4 (P := fun c => Cond.selects c _ _ ∈ lw_all) q980) q981 (Or.inl q978) (by decide) (Nat.le_of_ble_eq_true rfl) (Nat.zero_le _) (Nat.zero_le _) (S_X3_areOne_G (d := d + 2) (by decide) H) (fun o h' hq10 _ => ?_) (fun E i h' q _ => (cQ_no q).elim)
    obtain ⟨r8, E11, rfl, H⟩ := hq10
    cases E11
    refine ew_if_ne (tgt := 80) dX4_follow_75 (by decide) (fun c12 => ?_) (fun c12 => ?_)
    · replace H := H.2 c12
      obtain ⟨v13, H⟩ := H
      refine ew_iinc dX4_follow_80 lm3 (by decide) v13 (lv' := [(5, aI (x5 + 1)), (0, aR (some (sI V 4 99))), (3, aR (some (bI V 11 (x3).toNat))), (4, aR (some (bI V 11 (x4).toNat)))]) rfl ?_
      refine ew_sub (List.forall_mem_cons.mpr ⟨lm1, (List.forall_mem_cons.mpr ⟨lm2, (List.forall_mem_cons.mpr ⟨lm3, (List.forall_mem_cons.mpr ⟨lm0, e_nm⟩)⟩)⟩)⟩) ?_
      refine ew_goto (tgt := 46) dX4_follow_83 (by decide) ?_
      exact ew_room (Nat.le_refl _) (Nat.zero_le _) (Nat.zero_le _) (ew_sub (List.forall_mem_cons.mpr ⟨lm0, (List.forall_mem_cons.mpr ⟨lm1, (List.forall_mem_cons.mpr ⟨lm2, (List.forall_mem_cons.mpr ⟨lm3, e_nm⟩)⟩)⟩)⟩) H)
    · replace H := H.1 c12
      refine ew_iconst dX4_follow_78 (inI_of rfl) ?_
      exact ew_ret (o := some (aI 0)) rfl ⟨_, rfl, rfl, H⟩ ⟨dX4_follow_79, .boolean, rfl, Or.inr (Or.inl rfl), by decide⟩
set_option maxHeartbeats 4000000 in
theorem T_X4_follow_N_E (d : Nat) (V : XV) (g : AH) (K : Int → Prop) (a : Int) (b : Int) (s0 : XS) (H : B_X4_follow_N_E (W_X4_follow_N_46 d V g s0 K) K a b s0) : EW mm_X4_follow (d + 3) 0 0 (cQ (xh V s0 g) K) 0 [(0, aR (some (sI V 4 99))), (1, aI a), (2, aI b)] [] (xh V s0 g) := by
  refine ew_aload_n dX4_follow_0 rfl lm0 ?_
  refine yw_get (cs := [4, 5]) (v := aR (some (bI V 2 1))) dX4_follow_1 (by decide) (e_fl.a q253) yf_4 (by decide) rfl ?_
  refine ew_iload_n dX4_follow_4 rfl lm1 ?_
  obtain ⟨v1, H⟩ := H
  refine lw_g1 (d := d + 0) dX4_follow_5 q990 (Nat.le_of_ble_eq_true rfl) v1.1 v1.2 ?_
  obtain ⟨v2, H⟩ := H
  refine cm_cast (f := a) dX4_follow_10 q991 v2 ?_
  refine ew_astore_n dX4_follow_13 rfl (by decide) (lv' := [(3, aR (some (bI V 11 (a).toNat))), (0, aR (some (sI V 4 99))), (1, aI a), (2, aI b)]) rfl ?_
  refine ew_sub (List.forall_mem_cons.mpr ⟨lm1, (List.forall_mem_cons.mpr ⟨lm2, (List.forall_mem_cons.mpr ⟨lm3, (List.forall_mem_cons.mpr ⟨lm0, e_nm⟩)⟩)⟩)⟩) ?_
  refine ew_aload_n dX4_follow_14 rfl lm0 ?_
  refine yw_get (cs := [4, 5]) (v := aR (some (bI V 2 1))) dX4_follow_15 (by decide) (e_fl.a q253) yf_4 (by decide) rfl ?_
  refine ew_iload_n dX4_follow_18 rfl lm2 ?_
  obtain ⟨v3, H⟩ := H
  refine lw_g1 (d := d + 0) dX4_follow_19 q990 (Nat.le_of_ble_eq_true rfl) v3.1 v3.2 ?_
  obtain ⟨v4, H⟩ := H
  refine cm_cast (f := b) dX4_follow_24 q991 v4 ?_
  refine ew_astore dX4_follow_27 (by decide) (lv' := [(4, aR (some (bI V 11 (b).toNat))), (0, aR (some (sI V 4 99))), (1, aI a), (2, aI b), (3, aR (some (bI V 11 (a).toNat)))]) rfl ?_
  refine ew_sub (List.forall_mem_cons.mpr ⟨lm1, (List.forall_mem_cons.mpr ⟨lm2, (List.forall_mem_cons.mpr ⟨lm3, (List.forall_mem_cons.mpr ⟨lm4, (List.forall_mem_cons.mpr ⟨lm0, e_nm⟩)⟩)⟩)⟩)⟩) ?_
  refine ew_aload_n dX4_follow_29 rfl lm3 ?_
  obtain ⟨v5, H⟩ := H
  refine gm_2 (f := a) dX4_follow_30 (e_fl.c q822) tf2_2 v5 ?_
  refine ew_aload dX4_follow_33 lm4 ?_
  obtain ⟨v6, H⟩ := H
  refine gm_2 (f := b) dX4_follow_35 (e_fl.c q822) tf2_2 v6 ?_
  refine ew_icmp_eq (tgt := 43) dX4_follow_38 (by decide) (fun c7 => ?_) (fun c7 => ?_)
  · replace H := H.1 c7
    refine ew_iconst dX4_follow_43 (inI_of rfl) ?_
    refine ew_istore dX4_follow_44 (by decide) (lv' := [(5, aI 0), (0, aR (some (sI V 4 99))), (1, aI a), (2, aI b), (3, aR (some (bI V 11 (a).toNat))), (4, aR (some (bI V 11 (b).toNat)))]) rfl ?_
    refine ew_sub (List.forall_mem_cons.mpr ⟨lm1, (List.forall_mem_cons.mpr ⟨lm2, (List.forall_mem_cons.mpr ⟨lm3, (List.forall_mem_cons.mpr ⟨lm4, (List.forall_mem_cons.mpr ⟨lm5, (List.forall_mem_cons.mpr ⟨lm0, e_nm⟩)⟩)⟩)⟩)⟩)⟩) ?_
    exact ew_room (Nat.le_refl _) (Nat.zero_le _) (Nat.zero_le _) (ew_sub (List.forall_mem_cons.mpr ⟨lm0, (List.forall_mem_cons.mpr ⟨lm3, (List.forall_mem_cons.mpr ⟨lm4, (List.forall_mem_cons.mpr ⟨lm5, e_nm⟩)⟩)⟩)⟩) H)
  · replace H := H.2 c7
    refine ew_iconst dX4_follow_41 (inI_of rfl) ?_
    exact ew_ret (o := some (aI 0)) rfl ⟨_, rfl, rfl, H⟩ ⟨dX4_follow_42, .boolean, rfl, Or.inr (Or.inl rfl), by decide⟩
def C_X4_follow_N (a : Int) (b : Int) (s0 : XS) (K : Int → Prop) : Prop := ∀ (X46 : Int → Int → Int → Prop), (∀ (x3 : Int) (x4 : Int) (x5 : Int), B_X4_follow_N_46 X46 K x3 x4 x5 s0 → X46 x3 x4 x5) → B_X4_follow_N_E X46 K a b s0
theorem S_X4_follow_N {d : Nat} {V : XV} {g : AH} {K : Int → Prop} {a : Int} {b : Int} {s0 : XS} (H : C_X4_follow_N a b s0 K) : Sp mm_X4_follow (d + 3) 0 0 [aR (some (sI V 4 99)), aI a, aI b] (xh V s0 g) (cQ (xh V s0 g) K) :=
  ew_sp rfl (Nat.le_of_ble_eq_true rfl) (T_X4_follow_N_E d V g K a b s0 (H _ (fun x3 x4 x5 H => T_X4_follow_N_46 d V g K x3 x4 x5 s0 H)))
abbrev mm_X4_joins : EM := (yX4_joins, cX4_joins, 4, (Option.none : Option Jvm.ClassFile.FieldType), [])
theorem me_X4_joins : e_mth mm_X4_joins 3 := ⟨rfl, q1009, q114, by decide +kernel, by decide⟩
def B_X4_joins_P_E (K : XS → Prop) (a : Int) (b : Int) (c : Int) (j : Nat) (s0 : XS) : Prop :=
  (C_X3_unites_Q a b j s0 (fun s2 => K s2))
set_option maxHeartbeats 4000000 in
theorem T_X4_joins_P_E (d : Nat) (V : XV) (g : AH) (j : Nat) (hj : j = 2 ∨ j = 3) (K : XS → Prop) (a : Int) (b : Int) (c : Int) (s0 : XS) (H : B_X4_joins_P_E K a b c j s0) : EW mm_X4_joins (d + 2) 0 0 (xQv V g K) 0 [(0, aR (some (sI V j 99))), (1, aI a), (2, aI b), (3, aI c)] [] (xh V s0 g) := by
  refine ew_aload_n dX4_joins_0 rfl lm0 ?_
  refine ew_iload_n dX4_joins_1 rfl lm1 ?_
  refine ew_iload_n dX4_joins_2 rfl lm2 ?_
  refine ew_callY (x := ⟨"ReasonCloser$Closed", "unites", "(II)V"⟩) (d := d + 1) (as := [aI a, aI b]) rfl dX4_joins_3 me_X3_unites rfl (e_P5 hj) rfl q1010 q1011 (yselP hj (P := fun c => Cond.selects c _ _ ∈ lw_all) q1013) q1015 (Or.inl q1012) (by decide) (Nat.le_of_ble_eq_true rfl) (Nat.zero_le _) (Nat.zero_le _) (S_X3_unites_Q (d := d + 0) (e_P4 hj) H) (fun o h' hq3 _ => ?_) (fun E i h' q _ => (xQv_no q).elim)
  obtain ⟨s2, E4, rfl, H⟩ := hq3
  cases E4
  exact ew_ret (o := none) rfl ⟨_, rfl, rfl, H⟩ ⟨rfl, dX4_joins_6⟩
def C_X4_joins_P (a : Int) (b : Int) (c : Int) (j : Nat) (s0 : XS) (K : XS → Prop) : Prop := B_X4_joins_P_E K a b c j s0
theorem S_X4_joins_P {d : Nat} {V : XV} {g : AH} {j : Nat} {K : XS → Prop} {a : Int} {b : Int} {c : Int} {s0 : XS} (hj : j = 2 ∨ j = 3) (H : C_X4_joins_P a b c j s0 K) : Sp mm_X4_joins (d + 2) 0 0 [aR (some (sI V j 99)), aI a, aI b, aI c] (xh V s0 g) (xQv V g K) :=
  ew_sp rfl (Nat.le_of_ble_eq_true rfl) (T_X4_joins_P_E d V g j hj K a b c s0 (H ))
abbrev mm_X4_closesOne : EM := (yX4_closesOne, cX4_closesOne, 3, (Option.some .boolean), [])
theorem me_X4_closesOne : e_mth mm_X4_closesOne 0 := ⟨rfl, q975, q114, by decide +kernel, by decide⟩
def B_X4_closesOne_P_2 (X2 : Int → XS → Prop) (X14 : Int → Int → XS → Prop) (K : Int → XS → Prop) (x1 : Int) (j : Nat) (s0 : XS) : Prop :=
  ((((s0.2 j).1 1) ≤ x1 → K 0 s0) ∧ (¬ ((s0.2 j).1 1) ≤ x1 → ((inI (x1 + 1)) ∧ X14 x1 (x1 + 1) s0)))
def B_X4_closesOne_P_14 (X2 : Int → XS → Prop) (X14 : Int → Int → XS → Prop) (K : Int → XS → Prop) (x1 : Int) (x2 : Int) (j : Nat) (s0 : XS) : Prop :=
  ((((s0.2 j).1 1) ≤ x2 → (inI (x1 + 1) ∧ X2 (x1 + 1) s0)) ∧ (¬ ((s0.2 j).1 1) ≤ x2 → (C_X3_areOne_G x1 x2 j s0 (fun r3 => ((r3 = 0 → (C_X4_follow_P x1 x2 j s0 (fun r9 => ((r9 = 0 → (inI (x2 + 1) ∧ X14 x1 (x2 + 1) s0)) ∧ (¬ r9 = 0 → (C_X4_joins_P x1 x2 (-2) j s0 (fun s15 => K 1 s15))))))) ∧ (¬ r3 = 0 → (inI (x2 + 1) ∧ X14 x1 (x2 + 1) s0)))))))
def B_X4_closesOne_P_E (X2 : Int → XS → Prop) (X14 : Int → Int → XS → Prop) (K : Int → XS → Prop) (j : Nat) (s0 : XS) : Prop :=
  X2 0 s0
def W_X4_closesOne_P_2 (d : Nat) (V : XV) (g : AH) (j : Nat) (K : Int → XS → Prop) (x1 : Int) (s0 : XS) : Prop := EW mm_X4_closesOne (d + 4) 0 0 (xQi V g K) 2 [(0, aR (some (sI V j 99))), (1, aI x1)] [] (xh V s0 g)
def W_X4_closesOne_P_14 (d : Nat) (V : XV) (g : AH) (j : Nat) (K : Int → XS → Prop) (x1 : Int) (x2 : Int) (s0 : XS) : Prop := EW mm_X4_closesOne (d + 4) 0 0 (xQi V g K) 14 [(0, aR (some (sI V j 99))), (1, aI x1), (2, aI x2)] [] (xh V s0 g)
set_option maxHeartbeats 4000000 in
theorem T_X4_closesOne_P_2 (d : Nat) (V : XV) (g : AH) (j : Nat) (hj : j = 2 ∨ j = 3) (K : Int → XS → Prop) (x1 : Int) (s0 : XS) (H : B_X4_closesOne_P_2 (W_X4_closesOne_P_2 d V g j K) (W_X4_closesOne_P_14 d V g j K) K x1 j s0) : EW mm_X4_closesOne (d + 4) 0 0 (xQi V g K) 2 [(0, aR (some (sI V j 99))), (1, aI x1)] [] (xh V s0 g) := by
  refine ew_iload_n dX4_closesOne_2 rfl lm1 ?_
  refine ew_aload_n dX4_closesOne_3 rfl lm0 ?_
  refine yw_get (cs := [3, 4, 5]) (v := aI ((s0.2 j).1 1)) dX4_closesOne_4 (e_P5 hj) (e_fl.b q264 q265) yf_1 scl_G rfl ?_
  refine ew_icmp_ge (tgt := 65) dX4_closesOne_7 (by decide) (fun c1 => ?_) (fun c1 => ?_)
  · replace H := H.1 c1
    refine ew_iconst dX4_closesOne_65 (inI_of rfl) ?_
    exact ew_ret (o := some (aI 0)) rfl ⟨_, _, rfl, rfl, H⟩ ⟨dX4_closesOne_66, .boolean, rfl, Or.inr (Or.inl rfl), by decide⟩
  · replace H := H.2 c1
    refine ew_iload_n dX4_closesOne_10 rfl lm1 ?_
    refine ew_iconst dX4_closesOne_11 (inI_of rfl) ?_
    obtain ⟨v2, H⟩ := H
    refine ew_iadd dX4_closesOne_12 v2 ?_
    refine ew_istore_n dX4_closesOne_13 rfl (by decide) (lv' := [(2, aI (x1 + 1)), (0, aR (some (sI V j 99))), (1, aI x1)]) rfl ?_
    refine ew_sub (List.forall_mem_cons.mpr ⟨lm1, (List.forall_mem_cons.mpr ⟨lm2, (List.forall_mem_cons.mpr ⟨lm0, e_nm⟩)⟩)⟩) ?_
    exact ew_room (Nat.le_refl _) (Nat.zero_le _) (Nat.zero_le _) (ew_sub (List.forall_mem_cons.mpr ⟨lm0, (List.forall_mem_cons.mpr ⟨lm1, (List.forall_mem_cons.mpr ⟨lm2, e_nm⟩)⟩)⟩) H)
set_option maxHeartbeats 4000000 in
theorem T_X4_closesOne_P_14 (d : Nat) (V : XV) (g : AH) (j : Nat) (hj : j = 2 ∨ j = 3) (K : Int → XS → Prop) (x1 : Int) (x2 : Int) (s0 : XS) (H : B_X4_closesOne_P_14 (W_X4_closesOne_P_2 d V g j K) (W_X4_closesOne_P_14 d V g j K) K x1 x2 j s0) : EW mm_X4_closesOne (d + 4) 0 0 (xQi V g K) 14 [(0, aR (some (sI V j 99))), (1, aI x1), (2, aI x2)] [] (xh V s0 g) := by
  refine ew_iload_n dX4_closesOne_14 rfl lm2 ?_
  refine ew_aload_n dX4_closesOne_15 rfl lm0 ?_
  refine yw_get (cs := [3, 4, 5]) (v := aI ((s0.2 j).1 1)) dX4_closesOne_16 (e_P5 hj) (e_fl.b q264 q265) yf_1 scl_G rfl ?_
  refine ew_icmp_ge (tgt := 59) dX4_closesOne_19 (by decide) (fun c1 => ?_) (fun c1 => ?_)
  · replace H := H.1 c1
    obtain ⟨v2, H⟩ := H
    refine ew_iinc dX4_closesOne_59 lm1 (by decide) v2 (lv' := [(1, aI (x1 + 1)), (0, aR (some (sI V j 99))), (2, aI x2)]) rfl ?_
    refine ew_sub (List.forall_mem_cons.mpr ⟨lm1, (List.forall_mem_cons.mpr ⟨lm0, (List.forall_mem_cons.mpr ⟨lm2, e_nm⟩)⟩)⟩) ?_
    refine ew_goto (tgt := 2) dX4_closesOne_62 (by decide) ?_
    exact ew_room (Nat.le_refl _) (Nat.zero_le _) (Nat.zero_le _) (ew_sub (List.forall_mem_cons.mpr ⟨lm0, (List.forall_mem_cons.mpr ⟨lm1, e_nm⟩)⟩) H)
  · replace H := H.2 c1
    refine ew_aload_n dX4_closesOne_22 rfl lm0 ?_
    refine ew_iload_n dX4_closesOne_23 rfl lm1 ?_
    refine ew_iload_n dX4_closesOne_24 rfl lm2 ?_
    refine ew_callY (x := ⟨"ReasonCloser$Closed", "areOne", "(II)Z"⟩) (d := d + 3) (as := [aI x1, aI x2]) rfl dX4_closesOne_25 me_X3_areOne rfl (e_P5 hj) rfl q976 q977 (yselP hj (P := fun c => Cond.selects c _ _ ∈ lw_all) q979) q981 (Or.inl q978) (by decide) (Nat.le_of_ble_eq_true rfl) (Nat.zero_le _) (Nat.zero_le _) (S_X3_areOne_G (d := d + 3) (e_P5 hj) H) (fun o h' hq5 _ => ?_) (fun E i h' q _ => (cQ_no q).elim)
    obtain ⟨r3, E6, rfl, H⟩ := hq5
    cases E6
    refine ew_if_ne (tgt := 53) dX4_closesOne_28 (by decide) (fun c7 => ?_) (fun c7 => ?_)
    · replace H := H.2 c7
      obtain ⟨v8, H⟩ := H
      refine ew_iinc dX4_closesOne_53 lm2 (by decide) v8 (lv' := [(2, aI (x2 + 1)), (0, aR (some (sI V j 99))), (1, aI x1)]) rfl ?_
      refine ew_sub (List.forall_mem_cons.mpr ⟨lm1, (List.forall_mem_cons.mpr ⟨lm2, (List.forall_mem_cons.mpr ⟨lm0, e_nm⟩)⟩)⟩) ?_
      refine ew_goto (tgt := 14) dX4_closesOne_56 (by decide) ?_
      exact ew_room (Nat.le_refl _) (Nat.zero_le _) (Nat.zero_le _) (ew_sub (List.forall_mem_cons.mpr ⟨lm0, (List.forall_mem_cons.mpr ⟨lm1, (List.forall_mem_cons.mpr ⟨lm2, e_nm⟩)⟩)⟩) H)
    · replace H := H.1 c7
      refine ew_aload_n dX4_closesOne_31 rfl lm0 ?_
      refine ew_iload_n dX4_closesOne_32 rfl lm1 ?_
      refine ew_iload_n dX4_closesOne_33 rfl lm2 ?_
      refine ew_callY (x := ⟨"ReasonCloser$Closed", "follow", "(II)Z"⟩) (d := d + 3) (as := [aI x1, aI x2]) rfl dX4_closesOne_34 me_X4_follow rfl (e_P5 hj) rfl q983 q986 (yselP hj (P := fun c => Cond.selects c _ _ ∈ lw_all) q985) q984 (Or.inr ⟨q984, _, _, _, q988⟩) (by decide) (Nat.le_of_ble_eq_true rfl) (Nat.zero_le _) (Nat.zero_le _) (S_X4_follow_P (d := d + 0) hj H) (fun o h' hq11 _ => ?_) (fun E i h' q _ => (cQ_no q).elim)
      obtain ⟨r9, E12, rfl, H⟩ := hq11
      cases E12
      refine ew_if_ne (tgt := 43) dX4_closesOne_37 (by decide) (fun c13 => ?_) (fun c13 => ?_)
      · replace H := H.2 c13
        refine ew_aload_n dX4_closesOne_43 rfl lm0 ?_
        refine ew_iload_n dX4_closesOne_44 rfl lm1 ?_
        refine ew_iload_n dX4_closesOne_45 rfl lm2 ?_
        refine ew_bipush dX4_closesOne_46 (inI_of rfl) (by decide) ?_
        refine ew_callY (x := ⟨"ReasonCloser$Closed", "joins", "(III)V"⟩) (d := d + 3) (as := [aI x1, aI x2, aI (-2)]) rfl dX4_closesOne_48 me_X4_joins rfl (e_P5 hj) rfl q992 q995 (yselP hj (P := fun c => Cond.selects c _ _ ∈ lw_all) q994) q993 (Or.inr ⟨q993, _, _, _, q1009⟩) (by decide) (Nat.le_of_ble_eq_true rfl) (Nat.zero_le _) (Nat.zero_le _) (S_X4_joins_P (d := d + 1) hj H) (fun o h' hq16 _ => ?_) (fun E i h' q _ => (xQv_no q).elim)
        obtain ⟨s15, E17, rfl, H⟩ := hq16
        cases E17
        refine ew_iconst dX4_closesOne_51 (inI_of rfl) ?_
        exact ew_ret (o := some (aI 1)) rfl ⟨_, _, rfl, rfl, H⟩ ⟨dX4_closesOne_52, .boolean, rfl, Or.inr (Or.inl rfl), by decide⟩
      · replace H := H.1 c13
        refine ew_goto (tgt := 53) dX4_closesOne_40 (by decide) ?_
        obtain ⟨v18, H⟩ := H
        refine ew_iinc dX4_closesOne_53 lm2 (by decide) v18 (lv' := [(2, aI (x2 + 1)), (0, aR (some (sI V j 99))), (1, aI x1)]) rfl ?_
        refine ew_sub (List.forall_mem_cons.mpr ⟨lm1, (List.forall_mem_cons.mpr ⟨lm2, (List.forall_mem_cons.mpr ⟨lm0, e_nm⟩)⟩)⟩) ?_
        refine ew_goto (tgt := 14) dX4_closesOne_56 (by decide) ?_
        exact ew_room (Nat.le_refl _) (Nat.zero_le _) (Nat.zero_le _) (ew_sub (List.forall_mem_cons.mpr ⟨lm0, (List.forall_mem_cons.mpr ⟨lm1, (List.forall_mem_cons.mpr ⟨lm2, e_nm⟩)⟩)⟩) H)
set_option maxHeartbeats 4000000 in
theorem T_X4_closesOne_P_E (d : Nat) (V : XV) (g : AH) (j : Nat) (hj : j = 2 ∨ j = 3) (K : Int → XS → Prop) (s0 : XS) (H : B_X4_closesOne_P_E (W_X4_closesOne_P_2 d V g j K) (W_X4_closesOne_P_14 d V g j K) K j s0) : EW mm_X4_closesOne (d + 4) 0 0 (xQi V g K) 0 [(0, aR (some (sI V j 99)))] [] (xh V s0 g) := by
  refine ew_iconst dX4_closesOne_0 (inI_of rfl) ?_
  refine ew_istore_n dX4_closesOne_1 rfl (by decide) (lv' := [(1, aI 0), (0, aR (some (sI V j 99)))]) rfl ?_
  refine ew_sub (List.forall_mem_cons.mpr ⟨lm1, (List.forall_mem_cons.mpr ⟨lm0, e_nm⟩)⟩) ?_
  exact ew_room (Nat.le_refl _) (Nat.zero_le _) (Nat.zero_le _) (ew_sub (List.forall_mem_cons.mpr ⟨lm0, (List.forall_mem_cons.mpr ⟨lm1, e_nm⟩)⟩) H)
def C_X4_closesOne_P (j : Nat) (s0 : XS) (K : Int → XS → Prop) : Prop := ∀ (X2 : Int → XS → Prop) (X14 : Int → Int → XS → Prop), (∀ (x1 : Int) (s0 : XS), B_X4_closesOne_P_2 X2 X14 K x1 j s0 → X2 x1 s0) → (∀ (x1 : Int) (x2 : Int) (s0 : XS), B_X4_closesOne_P_14 X2 X14 K x1 x2 j s0 → X14 x1 x2 s0) → B_X4_closesOne_P_E X2 X14 K j s0
theorem S_X4_closesOne_P {d : Nat} {V : XV} {g : AH} {j : Nat} {K : Int → XS → Prop} {s0 : XS} (hj : j = 2 ∨ j = 3) (H : C_X4_closesOne_P j s0 K) : Sp mm_X4_closesOne (d + 4) 0 0 [aR (some (sI V j 99))] (xh V s0 g) (xQi V g K) :=
  ew_sp rfl (Nat.le_of_ble_eq_true rfl) (T_X4_closesOne_P_E d V g j hj K s0 (H _ _ (fun x1 s0 H => T_X4_closesOne_P_2 d V g j hj K x1 s0 H) (fun x1 x2 s0 H => T_X4_closesOne_P_14 d V g j hj K x1 x2 s0 H)))
abbrev mm_X4_closes : EM := (yX4_closes, cX4_closes, 2, (Option.none : Option Jvm.ClassFile.FieldType), [])
theorem me_X4_closes : e_mth mm_X4_closes 0 := ⟨rfl, q971, q114, by decide +kernel, by decide⟩
def B_X4_closes_P_2 (X2 : Int → XS → Prop) (K : XS → Prop) (x1 : Int) (j : Nat) (s0 : XS) : Prop :=
  ((x1 = 0 → K s0) ∧ (¬ x1 = 0 → (C_X4_closesOne_P j s0 (fun r2 s3 => X2 r2 s3))))
def B_X4_closes_P_E (X2 : Int → XS → Prop) (K : XS → Prop) (j : Nat) (s0 : XS) : Prop :=
  X2 1 s0
def W_X4_closes_P_2 (d : Nat) (V : XV) (g : AH) (j : Nat) (K : XS → Prop) (x1 : Int) (s0 : XS) : Prop := EW mm_X4_closes (d + 5) 0 0 (xQv V g K) 2 [(0, aR (some (sI V j 99))), (1, aI x1)] [] (xh V s0 g)
set_option maxHeartbeats 4000000 in
theorem T_X4_closes_P_2 (d : Nat) (V : XV) (g : AH) (j : Nat) (hj : j = 2 ∨ j = 3) (K : XS → Prop) (x1 : Int) (s0 : XS) (H : B_X4_closes_P_2 (W_X4_closes_P_2 d V g j K) K x1 j s0) : EW mm_X4_closes (d + 5) 0 0 (xQv V g K) 2 [(0, aR (some (sI V j 99))), (1, aI x1)] [] (xh V s0 g) := by
  refine ew_iload_n dX4_closes_2 rfl lm1 ?_
  refine ew_if_eq (tgt := 14) dX4_closes_3 (by decide) (fun c1 => ?_) (fun c1 => ?_)
  · replace H := H.1 c1
    exact ew_ret (o := none) rfl ⟨_, rfl, rfl, H⟩ ⟨rfl, dX4_closes_14⟩
  · replace H := H.2 c1
    refine ew_aload_n dX4_closes_6 rfl lm0 ?_
    refine ew_callYP (d := d + 4) (as := []) rfl dX4_closes_7 me_X4_closesOne rfl (e_P5 hj) q972 q974 q305 q973 (Nat.le_of_ble_eq_true rfl) (Nat.zero_le _) (Nat.zero_le _) (S_X4_closesOne_P (d := d + 0) hj H) (fun o h' hq4 _ => ?_) (fun E i h' q _ => (xQi_no q).elim)
    obtain ⟨r2, s3, E5, rfl, H⟩ := hq4
    cases E5
    refine ew_istore_n dX4_closes_10 rfl (by decide) (lv' := [(1, aI r2), (0, aR (some (sI V j 99)))]) rfl ?_
    refine ew_sub (List.forall_mem_cons.mpr ⟨lm1, (List.forall_mem_cons.mpr ⟨lm0, e_nm⟩)⟩) ?_
    refine ew_goto (tgt := 2) dX4_closes_11 (by decide) ?_
    exact ew_room (Nat.le_refl _) (Nat.zero_le _) (Nat.zero_le _) (ew_sub (List.forall_mem_cons.mpr ⟨lm0, (List.forall_mem_cons.mpr ⟨lm1, e_nm⟩)⟩) H)
set_option maxHeartbeats 4000000 in
theorem T_X4_closes_P_E (d : Nat) (V : XV) (g : AH) (j : Nat) (hj : j = 2 ∨ j = 3) (K : XS → Prop) (s0 : XS) (H : B_X4_closes_P_E (W_X4_closes_P_2 d V g j K) K j s0) : EW mm_X4_closes (d + 5) 0 0 (xQv V g K) 0 [(0, aR (some (sI V j 99)))] [] (xh V s0 g) := by
  refine ew_iconst dX4_closes_0 (inI_of rfl) ?_
  refine ew_istore_n dX4_closes_1 rfl (by decide) (lv' := [(1, aI 1), (0, aR (some (sI V j 99)))]) rfl ?_
  refine ew_sub (List.forall_mem_cons.mpr ⟨lm1, (List.forall_mem_cons.mpr ⟨lm0, e_nm⟩)⟩) ?_
  exact ew_room (Nat.le_refl _) (Nat.zero_le _) (Nat.zero_le _) (ew_sub (List.forall_mem_cons.mpr ⟨lm0, (List.forall_mem_cons.mpr ⟨lm1, e_nm⟩)⟩) H)
def C_X4_closes_P (j : Nat) (s0 : XS) (K : XS → Prop) : Prop := ∀ (X2 : Int → XS → Prop), (∀ (x1 : Int) (s0 : XS), B_X4_closes_P_2 X2 K x1 j s0 → X2 x1 s0) → B_X4_closes_P_E X2 K j s0
theorem S_X4_closes_P {d : Nat} {V : XV} {g : AH} {j : Nat} {K : XS → Prop} {s0 : XS} (hj : j = 2 ∨ j = 3) (H : C_X4_closes_P j s0 K) : Sp mm_X4_closes (d + 5) 0 0 [aR (some (sI V j 99))] (xh V s0 g) (xQv V g K) :=
  ew_sp rfl (Nat.le_of_ble_eq_true rfl) (T_X4_closes_P_E d V g j hj K s0 (H _ (fun x1 s0 H => T_X4_closes_P_2 d V g j hj K x1 s0 H)))
