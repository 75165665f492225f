set_option maxRecDepth 100000
abbrev mm_ones : EM := (yX7_ones, cX7_ones, 3, some .int, [])
theorem me_ones : e_mth mm_ones 1 := ⟨rfl, q1829, q117, by decide +kernel, by decide⟩
def B_ones_4 (X4 : Int → Int → Int → MS → Prop) (K : Int → MS → Prop) (x0 : Int) (x1 : Int) (x2 : Int) (s0 : MS) : Prop :=
  ((12 < x2 → K x1 s0) ∧ (¬ 12 < x2 → ((inI (x1 + (jand (jshr x0 x2) 1))) ∧ (inI (x2 + 1) ∧ X4 x0 (x1 + (jand (jshr x0 x2) 1)) (x2 + 1) s0))))
def B_ones_E (X4 : Int → Int → Int → MS → Prop) (K : Int → MS → Prop) (a : Int) (s0 : MS) : Prop :=
  X4 a 0 0 s0
def W_ones_4 (d : Nat) (g : AH) (K : Int → MS → Prop) (x0 : Int) (x1 : Int) (x2 : Int) (s0 : MS) : Prop := EW mm_ones (d + 0) 0 0 (mQi g K) 4 [(0, aI x0), (1, aI x1), (2, aI x2)] [] (mh s0 g)
set_option maxHeartbeats 4000000 in
theorem T_ones_4 (d : Nat) (g : AH) (K : Int → MS → Prop) (x0 : Int) (x1 : Int) (x2 : Int) (s0 : MS) (H : B_ones_4 (W_ones_4 d g K) K x0 x1 x2 s0) : EW mm_ones (d + 0) 0 0 (mQi g K) 4 [(0, aI x0), (1, aI x1), (2, aI x2)] [] (mh s0 g) := by
  refine ew_iload_n dX7_ones_4 rfl lm2 ?_
  refine ew_bipush dX7_ones_5 (inI_of rfl) (by decide) ?_
  refine ew_icmp_gt (tgt := 24) dX7_ones_7 (by decide) (fun c1 => ?_) (fun c1 => ?_)
  · replace H := H.1 c1
    refine ew_iload_n dX7_ones_24 rfl lm1 ?_
    exact ew_ret (o := some (aI x1)) rfl ⟨_, _, rfl, rfl, H⟩ ⟨dX7_ones_25, .int, rfl, Or.inl rfl, rfl⟩
  · replace H := H.2 c1
    refine ew_iload_n dX7_ones_10 rfl lm1 ?_
    refine ew_iload_n dX7_ones_11 rfl lm0 ?_
    refine ew_iload_n dX7_ones_12 rfl lm2 ?_
    refine ew_ishr dX7_ones_13 ?_
    refine ew_iconst dX7_ones_14 (inI_of rfl) ?_
    refine ew_iand dX7_ones_15 ?_
    obtain ⟨v2, H⟩ := H
    refine ew_iadd dX7_ones_16 v2 ?_
    refine ew_istore_n dX7_ones_17 rfl (by decide) (lv' := [(1, aI (x1 + (jand (jshr x0 x2) 1))), (0, aI x0), (2, aI x2)]) rfl ?_
    refine ew_sub (List.forall_mem_cons.mpr ⟨lm1, (List.forall_mem_cons.mpr ⟨lm0, (List.forall_mem_cons.mpr ⟨lm2, e_nm⟩)⟩)⟩) ?_
    obtain ⟨v3, H⟩ := H
    refine ew_iinc dX7_ones_18 lm2 (by decide) v3 (lv' := [(2, aI (x2 + 1)), (0, aI x0), (1, aI (x1 + (jand (jshr x0 x2) 1)))]) rfl ?_
    refine ew_sub (List.forall_mem_cons.mpr ⟨lm1, (List.forall_mem_cons.mpr ⟨lm2, (List.forall_mem_cons.mpr ⟨lm0, e_nm⟩)⟩)⟩) ?_
    refine ew_goto (tgt := 4) dX7_ones_21 (by decide) ?_
    exact ew_sub (List.forall_mem_cons.mpr ⟨lm0, (List.forall_mem_cons.mpr ⟨lm1, (List.forall_mem_cons.mpr ⟨lm2, e_nm⟩)⟩)⟩) H
set_option maxHeartbeats 4000000 in
theorem T_ones_E (d : Nat) (g : AH) (K : Int → MS → Prop) (a : Int) (s0 : MS) (H : B_ones_E (W_ones_4 d g K) K a s0) : EW mm_ones (d + 0) 0 0 (mQi g K) 0 [(0, aI a)] [] (mh s0 g) := by
  refine ew_iconst dX7_ones_0 (inI_of rfl) ?_
  refine ew_istore_n dX7_ones_1 rfl (by decide) (lv' := [(1, aI 0), (0, aI a)]) rfl ?_
  refine ew_sub (List.forall_mem_cons.mpr ⟨lm1, (List.forall_mem_cons.mpr ⟨lm0, e_nm⟩)⟩) ?_
  refine ew_iconst dX7_ones_2 (inI_of rfl) ?_
  refine ew_istore_n dX7_ones_3 rfl (by decide) (lv' := [(2, aI 0), (0, aI a), (1, aI 0)]) rfl ?_
  refine ew_sub (List.forall_mem_cons.mpr ⟨lm1, (List.forall_mem_cons.mpr ⟨lm2, (List.forall_mem_cons.mpr ⟨lm0, e_nm⟩)⟩)⟩) ?_
  exact ew_sub (List.forall_mem_cons.mpr ⟨lm0, (List.forall_mem_cons.mpr ⟨lm1, (List.forall_mem_cons.mpr ⟨lm2, e_nm⟩)⟩)⟩) H
def C_ones (a : Int) (s0 : MS) (K : Int → MS → Prop) : Prop := ∀ (X4 : Int → Int → Int → MS → Prop), (∀ (x0 : Int) (x1 : Int) (x2 : Int) (s0 : MS), B_ones_4 X4 K x0 x1 x2 s0 → X4 x0 x1 x2 s0) → B_ones_E X4 K a s0
theorem S_ones {d : Nat} {g : AH} {K : Int → MS → Prop} {a : Int} {s0 : MS} (H : C_ones a s0 K) : Sp mm_ones (d + 0) 0 0 [aI a] (mh s0 g) (mQi g K) :=
  ew_sp rfl (Nat.le_of_ble_eq_true rfl) (T_ones_E d g K a s0 (H _ (fun x0 x1 x2 s0 H => T_ones_4 d g K x0 x1 x2 s0 H)))
abbrev mm_fewest : EM := (yX7_fewest, cX7_fewest, 5, some .int, [])
theorem me_fewest : e_mth mm_fewest 2 := ⟨rfl, q1826, q117, by decide +kernel, by decide⟩
def B_fewest_20 (X20 : Int → Int → Int → Int → MS → Prop) (K : Int → MS → Prop) (x1 : Int) (x2 : Int) (x3 : Int) (x4 : Int) (s0 : MS) : Prop :=
  (C_allSames s0 (fun r4 s1 => ((r4 < x4 → K x3 s1) ∧ (¬ r4 < x4 → ((x3 = (-1) → (C_isOneBy x4 x1 x2 s1 (fun r10 s7 => ((r10 = 0 → (inI (x4 + 1) ∧ X20 x1 x2 x3 (x4 + 1) s7)) ∧ (¬ r10 = 0 → (inI (x4 + 1) ∧ X20 x1 x2 x4 (x4 + 1) s7)))))) ∧ (¬ x3 = (-1) → (C_ones x4 s1 (fun r17 s14 => (C_ones x3 s14 (fun r21 s18 => ((r21 ≤ r17 → (inI (x4 + 1) ∧ X20 x1 x2 x3 (x4 + 1) s18)) ∧ (¬ r21 ≤ r17 → (C_isOneBy x4 x1 x2 s18 (fun r27 s24 => ((r27 = 0 → (inI (x4 + 1) ∧ X20 x1 x2 x3 (x4 + 1) s24)) ∧ (¬ r27 = 0 → (inI (x4 + 1) ∧ X20 x1 x2 x4 (x4 + 1) s24)))))))))))))))))
def B_fewest_E (X20 : Int → Int → Int → Int → MS → Prop) (K : Int → MS → Prop) (a : Int) (b : Int) (s0 : MS) : Prop :=
  (C_whyNotOne a b s0 (fun r4 s1 => (C_isRefused r4 s1 (fun r8 s5 => ((r8 = 0 → X20 a b (-1) 0 s5) ∧ (¬ r8 = 0 → K (-1) s5))))))
def W_fewest_20 (d : Nat) (g : AH) (K : Int → MS → Prop) (x1 : Int) (x2 : Int) (x3 : Int) (x4 : Int) (s0 : MS) : Prop := EW mm_fewest (d + 4) 0 0 (mQi g K) 20 [(0, aR (some mT)), (1, aI x1), (2, aI x2), (3, aI x3), (4, aI x4)] [] (mh s0 g)
set_option maxHeartbeats 4000000 in
theorem T_fewest_20 (d : Nat) (g : AH) (K : Int → MS → Prop) (x1 : Int) (x2 : Int) (x3 : Int) (x4 : Int) (s0 : MS) (H : B_fewest_20 (W_fewest_20 d g K) K x1 x2 x3 x4 s0) : EW mm_fewest (d + 4) 0 0 (mQi g K) 20 [(0, aR (some mT)), (1, aI x1), (2, aI x2), (3, aI x3), (4, aI x4)] [] (mh s0 g) := by
  refine ew_iload dX7_fewest_20 lm4 ?_
  refine ew_aload_n dX7_fewest_22 rfl lm0 ?_
  refine ew_callV (d := d + 3) (as := []) rfl dX7_fewest_23 me_allSames rfl (ci := 1) rfl rfl (mh_o _ _) (Or.inl q1783) q1785 qs92 (Nat.le_of_ble_eq_true rfl) (Nat.le_refl 0) (Nat.le_refl 0) (S_allSames (d := d + 3) H) (fun o h' hq2 _ => ?_) (fun E i h' q _ => (mQi_no q).elim)
  obtain ⟨r4, s1, E3, rfl, H⟩ := hq2
  cases E3
  refine ew_icmp_gt (tgt := 66) dX7_fewest_26 (by decide) (fun c5 => ?_) (fun c5 => ?_)
  · replace H := H.1 c5
    refine ew_iload_n dX7_fewest_66 rfl lm3 ?_
    exact ew_ret (o := some (aI x3)) rfl ⟨_, _, rfl, rfl, H⟩ ⟨dX7_fewest_67, .int, rfl, Or.inl rfl, rfl⟩
  · replace H := H.2 c5
    refine ew_iload_n dX7_fewest_29 rfl lm3 ?_
    refine ew_iconst dX7_fewest_30 (inI_of rfl) ?_
    refine ew_icmp_eq (tgt := 46) dX7_fewest_31 (by decide) (fun c6 => ?_) (fun c6 => ?_)
    · replace H := H.1 c6
      refine ew_aload_n dX7_fewest_46 rfl lm0 ?_
      refine ew_iload dX7_fewest_47 lm4 ?_
      refine ew_iload_n dX7_fewest_49 rfl lm1 ?_
      refine ew_iload_n dX7_fewest_50 rfl lm2 ?_
      refine ew_callV (d := d + 3) (as := [aI x4, aI x1, aI x2]) rfl dX7_fewest_51 me_isOneBy rfl (ci := 1) rfl rfl (mh_o _ _) (Or.inl q1787) q1789 qs93 (Nat.le_of_ble_eq_true rfl) (Nat.le_refl 0) (Nat.le_refl 0) (S_isOneBy (d := d + 0) H) (fun o h' hq8 _ => ?_) (fun E i h' q _ => (mQi_no q).elim)
      obtain ⟨r10, s7, E9, rfl, H⟩ := hq8
      cases E9
      refine ew_if_eq (tgt := 60) dX7_fewest_54 (by decide) (fun c11 => ?_) (fun c11 => ?_)
      · replace H := H.1 c11
        obtain ⟨v12, H⟩ := H
        refine ew_iinc dX7_fewest_60 lm4 (by decide) v12 (lv' := [(4, aI (x4 + 1)), (0, aR (some mT)), (1, aI x1), (2, aI x2), (3, aI x3)]) rfl ?_
        refine ew_sub (List.forall_mem_cons.mpr ⟨lm1, (List.forall_mem_cons.mpr ⟨lm2, (List.forall_mem_cons.mpr ⟨lm3, (List.forall_mem_cons.mpr ⟨lm4, (List.forall_mem_cons.mpr ⟨lm0, e_nm⟩)⟩)⟩)⟩)⟩) ?_
        refine ew_goto (tgt := 20) dX7_fewest_63 (by decide) ?_
        exact ew_sub (List.forall_mem_cons.mpr ⟨lm0, (List.forall_mem_cons.mpr ⟨lm1, (List.forall_mem_cons.mpr ⟨lm2, (List.forall_mem_cons.mpr ⟨lm3, (List.forall_mem_cons.mpr ⟨lm4, e_nm⟩)⟩)⟩)⟩)⟩) H
      · replace H := H.2 c11
        refine ew_iload dX7_fewest_57 lm4 ?_
        refine ew_istore_n dX7_fewest_59 rfl (by decide) (lv' := [(3, aI x4), (0, aR (some mT)), (1, aI x1), (2, aI x2), (4, aI x4)]) rfl ?_
        refine ew_sub (List.forall_mem_cons.mpr ⟨lm1, (List.forall_mem_cons.mpr ⟨lm2, (List.forall_mem_cons.mpr ⟨lm3, (List.forall_mem_cons.mpr ⟨lm0, (List.forall_mem_cons.mpr ⟨lm4, e_nm⟩)⟩)⟩)⟩)⟩) ?_
        obtain ⟨v13, H⟩ := H
        refine ew_iinc dX7_fewest_60 lm4 (by decide) v13 (lv' := [(4, aI (x4 + 1)), (0, aR (some mT)), (1, aI x1), (2, aI x2), (3, aI x4)]) rfl ?_
        refine ew_sub (List.forall_mem_cons.mpr ⟨lm1, (List.forall_mem_cons.mpr ⟨lm2, (List.forall_mem_cons.mpr ⟨lm3, (List.forall_mem_cons.mpr ⟨lm4, (List.forall_mem_cons.mpr ⟨lm0, e_nm⟩)⟩)⟩)⟩)⟩) ?_
        refine ew_goto (tgt := 20) dX7_fewest_63 (by decide) ?_
        exact ew_sub (List.forall_mem_cons.mpr ⟨lm0, (List.forall_mem_cons.mpr ⟨lm1, (List.forall_mem_cons.mpr ⟨lm2, (List.forall_mem_cons.mpr ⟨lm3, (List.forall_mem_cons.mpr ⟨lm4, e_nm⟩)⟩)⟩)⟩)⟩) H
    · replace H := H.2 c6
      refine ew_iload dX7_fewest_34 lm4 ?_
      refine ew_callS (d := d + 3) (as := [aI x4]) rfl dX7_fewest_36 me_ones rfl (Or.inl q1827) q1828 (Nat.le_of_ble_eq_true rfl) (Nat.le_refl 0) (Nat.le_refl 0) (S_ones (d := d + 3) H) (fun o h' hq15 _ => ?_) (fun E i h' q _ => (mQi_no q).elim)
      obtain ⟨r17, s14, E16, rfl, H⟩ := hq15
      cases E16
      refine ew_iload_n dX7_fewest_39 rfl lm3 ?_
      refine ew_callS (d := d + 3) (as := [aI x3]) rfl dX7_fewest_40 me_ones rfl (Or.inl q1827) q1828 (Nat.le_of_ble_eq_true rfl) (Nat.le_refl 0) (Nat.le_refl 0) (S_ones (d := d + 3) H) (fun o h' hq19 _ => ?_) (fun E i h' q _ => (mQi_no q).elim)
      obtain ⟨r21, s18, E20, rfl, H⟩ := hq19
      cases E20
      refine ew_icmp_ge (tgt := 60) dX7_fewest_43 (by decide) (fun c22 => ?_) (fun c22 => ?_)
      · replace H := H.1 c22
        obtain ⟨v23, H⟩ := H
        refine ew_iinc dX7_fewest_60 lm4 (by decide) v23 (lv' := [(4, aI (x4 + 1)), (0, aR (some mT)), (1, aI x1), (2, aI x2), (3, aI x3)]) rfl ?_
        refine ew_sub (List.forall_mem_cons.mpr ⟨lm1, (List.forall_mem_cons.mpr ⟨lm2, (List.forall_mem_cons.mpr ⟨lm3, (List.forall_mem_cons.mpr ⟨lm4, (List.forall_mem_cons.mpr ⟨lm0, e_nm⟩)⟩)⟩)⟩)⟩) ?_
        refine ew_goto (tgt := 20) dX7_fewest_63 (by decide) ?_
        exact ew_sub (List.forall_mem_cons.mpr ⟨lm0, (List.forall_mem_cons.mpr ⟨lm1, (List.forall_mem_cons.mpr ⟨lm2, (List.forall_mem_cons.mpr ⟨lm3, (List.forall_mem_cons.mpr ⟨lm4, e_nm⟩)⟩)⟩)⟩)⟩) H
      · replace H := H.2 c22
        refine ew_aload_n dX7_fewest_46 rfl lm0 ?_
        refine ew_iload dX7_fewest_47 lm4 ?_
        refine ew_iload_n dX7_fewest_49 rfl lm1 ?_
        refine ew_iload_n dX7_fewest_50 rfl lm2 ?_
        refine ew_callV (d := d + 3) (as := [aI x4, aI x1, aI x2]) rfl dX7_fewest_51 me_isOneBy rfl (ci := 1) rfl rfl (mh_o _ _) (Or.inl q1787) q1789 qs93 (Nat.le_of_ble_eq_true rfl) (Nat.le_refl 0) (Nat.le_refl 0) (S_isOneBy (d := d + 0) H) (fun o h' hq25 _ => ?_) (fun E i h' q _ => (mQi_no q).elim)
        obtain ⟨r27, s24, E26, rfl, H⟩ := hq25
        cases E26
        refine ew_if_eq (tgt := 60) dX7_fewest_54 (by decide) (fun c28 => ?_) (fun c28 => ?_)
        · replace H := H.1 c28
          obtain ⟨v29, H⟩ := H
          refine ew_iinc dX7_fewest_60 lm4 (by decide) v29 (lv' := [(4, aI (x4 + 1)), (0, aR (some mT)), (1, aI x1), (2, aI x2), (3, aI x3)]) rfl ?_
          refine ew_sub (List.forall_mem_cons.mpr ⟨lm1, (List.forall_mem_cons.mpr ⟨lm2, (List.forall_mem_cons.mpr ⟨lm3, (List.forall_mem_cons.mpr ⟨lm4, (List.forall_mem_cons.mpr ⟨lm0, e_nm⟩)⟩)⟩)⟩)⟩) ?_
          refine ew_goto (tgt := 20) dX7_fewest_63 (by decide) ?_
          exact ew_sub (List.forall_mem_cons.mpr ⟨lm0, (List.forall_mem_cons.mpr ⟨lm1, (List.forall_mem_cons.mpr ⟨lm2, (List.forall_mem_cons.mpr ⟨lm3, (List.forall_mem_cons.mpr ⟨lm4, e_nm⟩)⟩)⟩)⟩)⟩) H
        · replace H := H.2 c28
          refine ew_iload dX7_fewest_57 lm4 ?_
          refine ew_istore_n dX7_fewest_59 rfl (by decide) (lv' := [(3, aI x4), (0, aR (some mT)), (1, aI x1), (2, aI x2), (4, aI x4)]) rfl ?_
          refine ew_sub (List.forall_mem_cons.mpr ⟨lm1, (List.forall_mem_cons.mpr ⟨lm2, (List.forall_mem_cons.mpr ⟨lm3, (List.forall_mem_cons.mpr ⟨lm0, (List.forall_mem_cons.mpr ⟨lm4, e_nm⟩)⟩)⟩)⟩)⟩) ?_
          obtain ⟨v30, H⟩ := H
          refine ew_iinc dX7_fewest_60 lm4 (by decide) v30 (lv' := [(4, aI (x4 + 1)), (0, aR (some mT)), (1, aI x1), (2, aI x2), (3, aI x4)]) rfl ?_
          refine ew_sub (List.forall_mem_cons.mpr ⟨lm1, (List.forall_mem_cons.mpr ⟨lm2, (List.forall_mem_cons.mpr ⟨lm3, (List.forall_mem_cons.mpr ⟨lm4, (List.forall_mem_cons.mpr ⟨lm0, e_nm⟩)⟩)⟩)⟩)⟩) ?_
          refine ew_goto (tgt := 20) dX7_fewest_63 (by decide) ?_
          exact ew_sub (List.forall_mem_cons.mpr ⟨lm0, (List.forall_mem_cons.mpr ⟨lm1, (List.forall_mem_cons.mpr ⟨lm2, (List.forall_mem_cons.mpr ⟨lm3, (List.forall_mem_cons.mpr ⟨lm4, e_nm⟩)⟩)⟩)⟩)⟩) H
set_option maxHeartbeats 4000000 in
theorem T_fewest_E (d : Nat) (g : AH) (K : Int → MS → Prop) (a : Int) (b : Int) (s0 : MS) (H : B_fewest_E (W_fewest_20 d g K) K a b s0) : EW mm_fewest (d + 4) 0 0 (mQi g K) 0 [(0, aR (some mT)), (1, aI a), (2, aI b)] [] (mh s0 g) := by
  refine ew_aload_n dX7_fewest_0 rfl lm0 ?_
  refine ew_aload_n dX7_fewest_1 rfl lm0 ?_
  refine ew_iload_n dX7_fewest_2 rfl lm1 ?_
  refine ew_iload_n dX7_fewest_3 rfl lm2 ?_
  refine ew_callV (d := d + 3) (as := [aI a, aI b]) rfl dX7_fewest_4 me_whyNotOne rfl (ci := 1) rfl rfl (mh_o _ _) (Or.inl q1815) q1817 qs95 (Nat.le_of_ble_eq_true rfl) (Nat.le_refl 0) (Nat.le_refl 0) (S_whyNotOne (d := d + 1) H) (fun o h' hq2 _ => ?_) (fun E i h' q _ => (mQi_no q).elim)
  obtain ⟨r4, s1, E3, rfl, H⟩ := hq2
  cases E3
  refine ew_callV (d := d + 3) (as := [aI r4]) rfl dX7_fewest_7 me_isRefused rfl (ci := 1) rfl rfl (mh_o _ _) (Or.inl q1594) q1596 qs56 (Nat.le_of_ble_eq_true rfl) (Nat.le_refl 0) (Nat.le_refl 0) (S_isRefused (d := d + 3) H) (fun o h' hq6 _ => ?_) (fun E i h' q _ => (mQi_no q).elim)
  obtain ⟨r8, s5, E7, rfl, H⟩ := hq6
  cases E7
  refine ew_if_eq (tgt := 15) dX7_fewest_10 (by decide) (fun c9 => ?_) (fun c9 => ?_)
  · replace H := H.1 c9
    refine ew_iconst dX7_fewest_15 (inI_of rfl) ?_
    refine ew_istore_n dX7_fewest_16 rfl (by decide) (lv' := [(3, aI (-1)), (0, aR (some mT)), (1, aI a), (2, aI b)]) rfl ?_
    refine ew_sub (List.forall_mem_cons.mpr ⟨lm1, (List.forall_mem_cons.mpr ⟨lm2, (List.forall_mem_cons.mpr ⟨lm3, (List.forall_mem_cons.mpr ⟨lm0, e_nm⟩)⟩)⟩)⟩) ?_
    refine ew_iconst dX7_fewest_17 (inI_of rfl) ?_
    refine ew_istore dX7_fewest_18 (by decide) (lv' := [(4, aI 0), (0, aR (some mT)), (1, aI a), (2, aI b), (3, aI (-1))]) rfl ?_
    refine ew_sub (List.forall_mem_cons.mpr ⟨lm1, (List.forall_mem_cons.mpr ⟨lm2, (List.forall_mem_cons.mpr ⟨lm3, (List.forall_mem_cons.mpr ⟨lm4, (List.forall_mem_cons.mpr ⟨lm0, e_nm⟩)⟩)⟩)⟩)⟩) ?_
    exact ew_sub (List.forall_mem_cons.mpr ⟨lm0, (List.forall_mem_cons.mpr ⟨lm1, (List.forall_mem_cons.mpr ⟨lm2, (List.forall_mem_cons.mpr ⟨lm3, (List.forall_mem_cons.mpr ⟨lm4, e_nm⟩)⟩)⟩)⟩)⟩) H
  · replace H := H.2 c9
    refine ew_iconst dX7_fewest_13 (inI_of rfl) ?_
    exact ew_ret (o := some (aI (-1))) rfl ⟨_, _, rfl, rfl, H⟩ ⟨dX7_fewest_14, .int, rfl, Or.inl rfl, rfl⟩
def C_fewest (a : Int) (b : Int) (s0 : MS) (K : Int → MS → Prop) : Prop := ∀ (X20 : Int → Int → Int → Int → MS → Prop), (∀ (x1 : Int) (x2 : Int) (x3 : Int) (x4 : Int) (s0 : MS), B_fewest_20 X20 K x1 x2 x3 x4 s0 → X20 x1 x2 x3 x4 s0) → B_fewest_E X20 K a b s0
theorem S_fewest {d : Nat} {g : AH} {K : Int → MS → Prop} {a : Int} {b : Int} {s0 : MS} (H : C_fewest a b s0 K) : Sp mm_fewest (d + 4) 0 0 [aR (some mT), aI a, aI b] (mh s0 g) (mQi g K) :=
  ew_sp rfl (Nat.le_of_ble_eq_true rfl) (T_fewest_E d g K a b s0 (H _ (fun x1 x2 x3 x4 s0 H => T_fewest_20 d g K x1 x2 x3 x4 s0 H)))
abbrev mm_needed : EM := (yX7_needed, cX7_needed, 5, some .int, [])
theorem me_needed : e_mth mm_needed 2 := ⟨rfl, q1833, q117, by decide +kernel, by decide⟩
def B_needed_20 (X20 : Int → Int → Int → Int → MS → Prop) (K : Int → MS → Prop) (x1 : Int) (x2 : Int) (x3 : Int) (x4 : Int) (s0 : MS) : Prop :=
  (((s0.1 30) ≤ x4 → K x3 s0) ∧ (¬ (s0.1 30) ≤ x4 → (C_allSames s0 (fun r5 s2 => (C_isOneBy (jand r5 (jxor (jshl 1 x4) (-1))) x1 x2 s2 (fun r9 s6 => ((r9 = 0 → (inI (x4 + 1) ∧ X20 x1 x2 (jor x3 (jshl 1 x4)) (x4 + 1) s6)) ∧ (¬ r9 = 0 → (inI (x4 + 1) ∧ X20 x1 x2 (jor x3 0) (x4 + 1) s6)))))))))
def B_needed_E (X20 : Int → Int → Int → Int → MS → Prop) (K : Int → MS → Prop) (a : Int) (b : Int) (s0 : MS) : Prop :=
  (C_whyNotOne a b s0 (fun r4 s1 => (C_isRefused r4 s1 (fun r8 s5 => ((r8 = 0 → X20 a b 0 0 s5) ∧ (¬ r8 = 0 → K (-1) s5))))))
def W_needed_20 (d : Nat) (g : AH) (K : Int → MS → Prop) (x1 : Int) (x2 : Int) (x3 : Int) (x4 : Int) (s0 : MS) : Prop := EW mm_needed (d + 4) 0 0 (mQi g K) 20 [(0, aR (some mT)), (1, aI x1), (2, aI x2), (3, aI x3), (4, aI x4)] [] (mh s0 g)
set_option maxHeartbeats 4000000 in
theorem T_needed_20 (d : Nat) (g : AH) (K : Int → MS → Prop) (x1 : Int) (x2 : Int) (x3 : Int) (x4 : Int) (s0 : MS) (H : B_needed_20 (W_needed_20 d g K) K x1 x2 x3 x4 s0) : EW mm_needed (d + 4) 0 0 (mQi g K) 20 [(0, aR (some mT)), (1, aI x1), (2, aI x2), (3, aI x3), (4, aI x4)] [] (mh s0 g) := by
  refine ew_iload dX7_needed_20 lm4 ?_
  refine ew_aload_n dX7_needed_22 rfl lm0 ?_
  refine mw_gI dX7_needed_23 (e_fl.a q1436) mf_30 rfl ?_
  refine ew_icmp_ge (tgt := 66) dX7_needed_26 (by decide) (fun c1 => ?_) (fun c1 => ?_)
  · replace H := H.1 c1
    refine ew_iload_n dX7_needed_66 rfl lm3 ?_
    exact ew_ret (o := some (aI x3)) rfl ⟨_, _, rfl, rfl, H⟩ ⟨dX7_needed_67, .int, rfl, Or.inl rfl, rfl⟩
  · replace H := H.2 c1
    refine ew_iload_n dX7_needed_29 rfl lm3 ?_
    refine ew_aload_n dX7_needed_30 rfl lm0 ?_
    refine ew_aload_n dX7_needed_31 rfl lm0 ?_
    refine ew_callV (d := d + 3) (as := []) rfl dX7_needed_32 me_allSames rfl (ci := 1) rfl rfl (mh_o _ _) (Or.inl q1783) q1785 qs92 (Nat.le_of_ble_eq_true rfl) (Nat.le_refl 0) (Nat.le_refl 0) (S_allSames (d := d + 3) H) (fun o h' hq3 _ => ?_) (fun E i h' q _ => (mQi_no q).elim)
    obtain ⟨r5, s2, E4, rfl, H⟩ := hq3
    cases E4
    refine ew_iconst dX7_needed_35 (inI_of rfl) ?_
    refine ew_iload dX7_needed_36 lm4 ?_
    refine ew_ishl dX7_needed_38 ?_
    refine ew_iconst dX7_needed_39 (inI_of rfl) ?_
    refine ew_ixor dX7_needed_40 ?_
    refine ew_iand dX7_needed_41 ?_
    refine ew_iload_n dX7_needed_42 rfl lm1 ?_
    refine ew_iload_n dX7_needed_43 rfl lm2 ?_
    refine ew_callV (d := d + 3) (as := [aI (jand r5 (jxor (jshl 1 x4) (-1))), aI x1, aI x2]) rfl dX7_needed_44 me_isOneBy rfl (ci := 1) rfl rfl (mh_o _ _) (Or.inl q1787) q1789 qs93 (Nat.le_of_ble_eq_true rfl) (Nat.le_refl 0) (Nat.le_refl 0) (S_isOneBy (d := d + 0) H) (fun o h' hq7 _ => ?_) (fun E i h' q _ => (mQi_no q).elim)
    obtain ⟨r9, s6, E8, rfl, H⟩ := hq7
    cases E8
    refine ew_if_eq (tgt := 54) dX7_needed_47 (by decide) (fun c10 => ?_) (fun c10 => ?_)
    · replace H := H.1 c10
      refine ew_iconst dX7_needed_54 (inI_of rfl) ?_
      refine ew_iload dX7_needed_55 lm4 ?_
      refine ew_ishl dX7_needed_57 ?_
      refine ew_ior dX7_needed_58 ?_
      refine ew_istore_n dX7_needed_59 rfl (by decide) (lv' := [(3, aI (jor x3 (jshl 1 x4))), (0, aR (some mT)), (1, aI x1), (2, aI x2), (4, aI x4)]) rfl ?_
      refine ew_sub (List.forall_mem_cons.mpr ⟨lm1, (List.forall_mem_cons.mpr ⟨lm2, (List.forall_mem_cons.mpr ⟨lm3, (List.forall_mem_cons.mpr ⟨lm0, (List.forall_mem_cons.mpr ⟨lm4, e_nm⟩)⟩)⟩)⟩)⟩) ?_
      obtain ⟨v11, H⟩ := H
      refine ew_iinc dX7_needed_60 lm4 (by decide) v11 (lv' := [(4, aI (x4 + 1)), (0, aR (some mT)), (1, aI x1), (2, aI x2), (3, aI (jor x3 (jshl 1 x4)))]) rfl ?_
      refine ew_sub (List.forall_mem_cons.mpr ⟨lm1, (List.forall_mem_cons.mpr ⟨lm2, (List.forall_mem_cons.mpr ⟨lm3, (List.forall_mem_cons.mpr ⟨lm4, (List.forall_mem_cons.mpr ⟨lm0, e_nm⟩)⟩)⟩)⟩)⟩) ?_
      refine ew_goto (tgt := 20) dX7_needed_63 (by decide) ?_
      exact ew_sub (List.forall_mem_cons.mpr ⟨lm0, (List.forall_mem_cons.mpr ⟨lm1, (List.forall_mem_cons.mpr ⟨lm2, (List.forall_mem_cons.mpr ⟨lm3, (List.forall_mem_cons.mpr ⟨lm4, e_nm⟩)⟩)⟩)⟩)⟩) H
    · replace H := H.2 c10
      refine ew_iconst dX7_needed_50 (inI_of rfl) ?_
      refine ew_goto (tgt := 58) dX7_needed_51 (by decide) ?_
      refine ew_ior dX7_needed_58 ?_
      refine ew_istore_n dX7_needed_59 rfl (by decide) (lv' := [(3, aI (jor x3 0)), (0, aR (some mT)), (1, aI x1), (2, aI x2), (4, aI x4)]) rfl ?_
      refine ew_sub (List.forall_mem_cons.mpr ⟨lm1, (List.forall_mem_cons.mpr ⟨lm2, (List.forall_mem_cons.mpr ⟨lm3, (List.forall_mem_cons.mpr ⟨lm0, (List.forall_mem_cons.mpr ⟨lm4, e_nm⟩)⟩)⟩)⟩)⟩) ?_
      obtain ⟨v12, H⟩ := H
      refine ew_iinc dX7_needed_60 lm4 (by decide) v12 (lv' := [(4, aI (x4 + 1)), (0, aR (some mT)), (1, aI x1), (2, aI x2), (3, aI (jor x3 0))]) rfl ?_
      refine ew_sub (List.forall_mem_cons.mpr ⟨lm1, (List.forall_mem_cons.mpr ⟨lm2, (List.forall_mem_cons.mpr ⟨lm3, (List.forall_mem_cons.mpr ⟨lm4, (List.forall_mem_cons.mpr ⟨lm0, e_nm⟩)⟩)⟩)⟩)⟩) ?_
      refine ew_goto (tgt := 20) dX7_needed_63 (by decide) ?_
      exact ew_sub (List.forall_mem_cons.mpr ⟨lm0, (List.forall_mem_cons.mpr ⟨lm1, (List.forall_mem_cons.mpr ⟨lm2, (List.forall_mem_cons.mpr ⟨lm3, (List.forall_mem_cons.mpr ⟨lm4, e_nm⟩)⟩)⟩)⟩)⟩) H
set_option maxHeartbeats 4000000 in
theorem T_needed_E (d : Nat) (g : AH) (K : Int → MS → Prop) (a : Int) (b : Int) (s0 : MS) (H : B_needed_E (W_needed_20 d g K) K a b s0) : EW mm_needed (d + 4) 0 0 (mQi g K) 0 [(0, aR (some mT)), (1, aI a), (2, aI b)] [] (mh s0 g) := by
  refine ew_aload_n dX7_needed_0 rfl lm0 ?_
  refine ew_aload_n dX7_needed_1 rfl lm0 ?_
  refine ew_iload_n dX7_needed_2 rfl lm1 ?_
  refine ew_iload_n dX7_needed_3 rfl lm2 ?_
  refine ew_callV (d := d + 3) (as := [aI a, aI b]) rfl dX7_needed_4 me_whyNotOne rfl (ci := 1) rfl rfl (mh_o _ _) (Or.inl q1815) q1817 qs95 (Nat.le_of_ble_eq_true rfl) (Nat.le_refl 0) (Nat.le_refl 0) (S_whyNotOne (d := d + 1) H) (fun o h' hq2 _ => ?_) (fun E i h' q _ => (mQi_no q).elim)
  obtain ⟨r4, s1, E3, rfl, H⟩ := hq2
  cases E3
  refine ew_callV (d := d + 3) (as := [aI r4]) rfl dX7_needed_7 me_isRefused rfl (ci := 1) rfl rfl (mh_o _ _) (Or.inl q1594) q1596 qs56 (Nat.le_of_ble_eq_true rfl) (Nat.le_refl 0) (Nat.le_refl 0) (S_isRefused (d := d + 3) H) (fun o h' hq6 _ => ?_) (fun E i h' q _ => (mQi_no q).elim)
  obtain ⟨r8, s5, E7, rfl, H⟩ := hq6
  cases E7
  refine ew_if_eq (tgt := 15) dX7_needed_10 (by decide) (fun c9 => ?_) (fun c9 => ?_)
  · replace H := H.1 c9
    refine ew_iconst dX7_needed_15 (inI_of rfl) ?_
    refine ew_istore_n dX7_needed_16 rfl (by decide) (lv' := [(3, aI 0), (0, aR (some mT)), (1, aI a), (2, aI b)]) rfl ?_
    refine ew_sub (List.forall_mem_cons.mpr ⟨lm1, (List.forall_mem_cons.mpr ⟨lm2, (List.forall_mem_cons.mpr ⟨lm3, (List.forall_mem_cons.mpr ⟨lm0, e_nm⟩)⟩)⟩)⟩) ?_
    refine ew_iconst dX7_needed_17 (inI_of rfl) ?_
    refine ew_istore dX7_needed_18 (by decide) (lv' := [(4, aI 0), (0, aR (some mT)), (1, aI a), (2, aI b), (3, aI 0)]) rfl ?_
    refine ew_sub (List.forall_mem_cons.mpr ⟨lm1, (List.forall_mem_cons.mpr ⟨lm2, (List.forall_mem_cons.mpr ⟨lm3, (List.forall_mem_cons.mpr ⟨lm4, (List.forall_mem_cons.mpr ⟨lm0, e_nm⟩)⟩)⟩)⟩)⟩) ?_
    exact ew_sub (List.forall_mem_cons.mpr ⟨lm0, (List.forall_mem_cons.mpr ⟨lm1, (List.forall_mem_cons.mpr ⟨lm2, (List.forall_mem_cons.mpr ⟨lm3, (List.forall_mem_cons.mpr ⟨lm4, e_nm⟩)⟩)⟩)⟩)⟩) H
  · replace H := H.2 c9
    refine ew_iconst dX7_needed_13 (inI_of rfl) ?_
    exact ew_ret (o := some (aI (-1))) rfl ⟨_, _, rfl, rfl, H⟩ ⟨dX7_needed_14, .int, rfl, Or.inl rfl, rfl⟩
def C_needed (a : Int) (b : Int) (s0 : MS) (K : Int → MS → Prop) : Prop := ∀ (X20 : Int → Int → Int → Int → MS → Prop), (∀ (x1 : Int) (x2 : Int) (x3 : Int) (x4 : Int) (s0 : MS), B_needed_20 X20 K x1 x2 x3 x4 s0 → X20 x1 x2 x3 x4 s0) → B_needed_E X20 K a b s0
theorem S_needed {d : Nat} {g : AH} {K : Int → MS → Prop} {a : Int} {b : Int} {s0 : MS} (H : C_needed a b s0 K) : Sp mm_needed (d + 4) 0 0 [aR (some mT), aI a, aI b] (mh s0 g) (mQi g K) :=
  ew_sp rfl (Nat.le_of_ble_eq_true rfl) (T_needed_E d g K a b s0 (H _ (fun x1 x2 x3 x4 s0 H => T_needed_20 d g K x1 x2 x3 x4 s0 H)))
abbrev mm_many : EM := (yX7_many, cX7_many, 7, some .int, [])
theorem me_many : e_mth mm_many 2 := ⟨rfl, q1837, q117, by decide +kernel, by decide⟩
def B_many_20 (X20 : Int → Int → Int → Int → MS → Prop) (X56 : Int → Int → Int → Int → Int → Int → MS → Prop) (K : Int → MS → Prop) (x1 : Int) (x2 : Int) (x3 : Int) (x4 : Int) (s0 : MS) : Prop :=
  (C_allSames s0 (fun r4 s1 => ((r4 < x4 → K x3 s1) ∧ (¬ r4 < x4 → (C_isOneBy x4 x1 x2 s1 (fun r9 s6 => ((r9 = 0 ∨ r9 = 1) ∧ (0 ≤ x4 ∧ x4 < 4096) ∧ ∀ s10 : MS, s10 = ma s6 46 x4 r9 → ((0 ≤ x4 ∧ x4 < 4096) ∧ X56 x1 x2 x3 x4 (s10.2 46 x4) 0 s10))))))))
def B_many_56 (X20 : Int → Int → Int → Int → MS → Prop) (X56 : Int → Int → Int → Int → Int → Int → MS → Prop) (K : Int → MS → Prop) (x1 : Int) (x2 : Int) (x3 : Int) (x4 : Int) (x5 : Int) (x6 : Int) (s0 : MS) : Prop :=
  (((s0.1 30) ≤ x6 → ((x5 = 0 → ((inI (x3 + 0)) ∧ (inI (x4 + 1) ∧ X20 x1 x2 (x3 + 0) (x4 + 1) s0))) ∧ (¬ x5 = 0 → ((inI (x3 + 1)) ∧ (inI (x4 + 1) ∧ X20 x1 x2 (x3 + 1) (x4 + 1) s0))))) ∧ (¬ (s0.1 30) ≤ x6 → ((x5 = 0 → (inI (x6 + 1) ∧ X56 x1 x2 x3 x4 0 (x6 + 1) s0)) ∧ (¬ x5 = 0 → (((jand (jshr x4 x6) 1) = 0 → (inI (x6 + 1) ∧ X56 x1 x2 x3 x4 1 (x6 + 1) s0)) ∧ (¬ (jand (jshr x4 x6) 1) = 0 → ((0 ≤ (jand x4 (jxor (jshl 1 x6) (-1))) ∧ (jand x4 (jxor (jshl 1 x6) (-1))) < 4096) ∧ (((s0.2 46 (jand x4 (jxor (jshl 1 x6) (-1)))) = 0 → (inI (x6 + 1) ∧ X56 x1 x2 x3 x4 1 (x6 + 1) s0)) ∧ (¬ (s0.2 46 (jand x4 (jxor (jshl 1 x6) (-1)))) = 0 → (inI (x6 + 1) ∧ X56 x1 x2 x3 x4 0 (x6 + 1) s0))))))))))
def B_many_E (X20 : Int → Int → Int → Int → MS → Prop) (X56 : Int → Int → Int → Int → Int → Int → MS → Prop) (K : Int → MS → Prop) (a : Int) (b : Int) (s0 : MS) : Prop :=
  (C_whyNotOne a b s0 (fun r4 s1 => (C_isRefused r4 s1 (fun r8 s5 => ((r8 = 0 → X20 a b 0 0 s5) ∧ (¬ r8 = 0 → K (-1) s5))))))
def W_many_20 (d : Nat) (g : AH) (K : Int → MS → Prop) (x1 : Int) (x2 : Int) (x3 : Int) (x4 : Int) (s0 : MS) : Prop := EW mm_many (d + 4) 0 0 (mQi g K) 20 [(0, aR (some mT)), (1, aI x1), (2, aI x2), (3, aI x3), (4, aI x4)] [] (mh s0 g)
def W_many_56 (d : Nat) (g : AH) (K : Int → MS → Prop) (x1 : Int) (x2 : Int) (x3 : Int) (x4 : Int) (x5 : Int) (x6 : Int) (s0 : MS) : Prop := EW mm_many (d + 4) 0 0 (mQi g K) 56 [(0, aR (some mT)), (1, aI x1), (2, aI x2), (3, aI x3), (4, aI x4), (5, aI x5), (6, aI x6)] [] (mh s0 g)
set_option maxHeartbeats 4000000 in
theorem T_many_20 (d : Nat) (g : AH) (K : Int → MS → Prop) (x1 : Int) (x2 : Int) (x3 : Int) (x4 : Int) (s0 : MS) (H : B_many_20 (W_many_20 d g K) (W_many_56 d g K) K x1 x2 x3 x4 s0) : EW mm_many (d + 4) 0 0 (mQi g K) 20 [(0, aR (some mT)), (1, aI x1), (2, aI x2), (3, aI x3), (4, aI x4)] [] (mh s0 g) := by
  refine ew_iload dX7_many_20 lm4 ?_
  refine ew_aload_n dX7_many_22 rfl lm0 ?_
  refine ew_callV (d := d + 3) (as := []) rfl dX7_many_23 me_allSames rfl (ci := 1) rfl rfl (mh_o _ _) (Or.inl q1783) q1785 qs92 (Nat.le_of_ble_eq_true rfl) (Nat.le_refl 0) (Nat.le_refl 0) (S_allSames (d := d + 3) H) (fun o h' hq2 _ => ?_) (fun E i h' q _ => (mQi_no q).elim)
  obtain ⟨r4, s1, E3, rfl, H⟩ := hq2
  cases E3
  refine ew_icmp_gt (tgt := 129) dX7_many_26 (by decide) (fun c5 => ?_) (fun c5 => ?_)
  · replace H := H.1 c5
    refine ew_iload_n dX7_many_129 rfl lm3 ?_
    exact ew_ret (o := some (aI x3)) rfl ⟨_, _, rfl, rfl, H⟩ ⟨dX7_many_130, .int, rfl, Or.inl rfl, rfl⟩
  · replace H := H.2 c5
    refine ew_aload_n dX7_many_29 rfl lm0 ?_
    refine mw_gA dX7_many_30 (e_fl.a q1452) mf_46 rfl ?_
    refine ew_iload dX7_many_33 lm4 ?_
    refine ew_aload_n dX7_many_35 rfl lm0 ?_
    refine ew_iload dX7_many_36 lm4 ?_
    refine ew_iload_n dX7_many_38 rfl lm1 ?_
    refine ew_iload_n dX7_many_39 rfl lm2 ?_
    refine ew_callV (d := d + 3) (as := [aI x4, aI x1, aI x2]) rfl dX7_many_40 me_isOneBy rfl (ci := 1) rfl rfl (mh_o _ _) (Or.inl q1787) q1789 qs93 (Nat.le_of_ble_eq_true rfl) (Nat.le_refl 0) (Nat.le_refl 0) (S_isOneBy (d := d + 0) H) (fun o h' hq7 _ => ?_) (fun E i h' q _ => (mQi_no q).elim)
    obtain ⟨r9, s6, E8, rfl, H⟩ := hq7
    cases E8
    obtain ⟨v12, v12b, H⟩ := H
    refine mw_bast dX7_many_43 rfl v12 v12b.1 v12b.2 (fun s10 e11 => ?_)
    replace H := H s10 e11
    refine ew_aload_n dX7_many_44 rfl lm0 ?_
    refine mw_gA dX7_many_45 (e_fl.a q1452) mf_46 rfl ?_
    refine ew_iload dX7_many_48 lm4 ?_
    obtain ⟨v13, H⟩ := H
    refine mw_bald dX7_many_50 rfl v13.1 v13.2 ?_
    refine ew_istore dX7_many_51 (by decide) (lv' := [(5, aI (s10.2 46 x4)), (0, aR (some mT)), (1, aI x1), (2, aI x2), (3, aI x3), (4, aI x4)]) rfl ?_
    refine ew_sub (List.forall_mem_cons.mpr ⟨lm1, (List.forall_mem_cons.mpr ⟨lm2, (List.forall_mem_cons.mpr ⟨lm3, (List.forall_mem_cons.mpr ⟨lm4, (List.forall_mem_cons.mpr ⟨lm5, (List.forall_mem_cons.mpr ⟨lm0, e_nm⟩)⟩)⟩)⟩)⟩)⟩) ?_
    refine ew_iconst dX7_many_53 (inI_of rfl) ?_
    refine ew_istore dX7_many_54 (by decide) (lv' := [(6, aI 0), (0, aR (some mT)), (1, aI x1), (2, aI x2), (3, aI x3), (4, aI x4), (5, aI (s10.2 46 x4))]) rfl ?_
    refine ew_sub (List.forall_mem_cons.mpr ⟨lm1, (List.forall_mem_cons.mpr ⟨lm2, (List.forall_mem_cons.mpr ⟨lm3, (List.forall_mem_cons.mpr ⟨lm4, (List.forall_mem_cons.mpr ⟨lm5, (List.forall_mem_cons.mpr ⟨lm6, (List.forall_mem_cons.mpr ⟨lm0, e_nm⟩)⟩)⟩)⟩)⟩)⟩)⟩) ?_
    exact ew_sub (List.forall_mem_cons.mpr ⟨lm0, (List.forall_mem_cons.mpr ⟨lm1, (List.forall_mem_cons.mpr ⟨lm2, (List.forall_mem_cons.mpr ⟨lm3, (List.forall_mem_cons.mpr ⟨lm4, (List.forall_mem_cons.mpr ⟨lm5, (List.forall_mem_cons.mpr ⟨lm6, e_nm⟩)⟩)⟩)⟩)⟩)⟩)⟩) H
set_option maxHeartbeats 4000000 in
theorem T_many_56 (d : Nat) (g : AH) (K : Int → MS → Prop) (x1 : Int) (x2 : Int) (x3 : Int) (x4 : Int) (x5 : Int) (x6 : Int) (s0 : MS) (H : B_many_56 (W_many_20 d g K) (W_many_56 d g K) K x1 x2 x3 x4 x5 x6 s0) : EW mm_many (d + 4) 0 0 (mQi g K) 56 [(0, aR (some mT)), (1, aI x1), (2, aI x2), (3, aI x3), (4, aI x4), (5, aI x5), (6, aI x6)] [] (mh s0 g) := by
  refine ew_iload dX7_many_56 lm6 ?_
  refine ew_aload_n dX7_many_58 rfl lm0 ?_
  refine mw_gI dX7_many_59 (e_fl.a q1436) mf_30 rfl ?_
  refine ew_icmp_ge (tgt := 110) dX7_many_62 (by decide) (fun c1 => ?_) (fun c1 => ?_)
  · replace H := H.1 c1
    refine ew_iload_n dX7_many_110 rfl lm3 ?_
    refine ew_iload dX7_many_111 lm5 ?_
    refine ew_if_eq (tgt := 120) dX7_many_113 (by decide) (fun c2 => ?_) (fun c2 => ?_)
    · replace H := H.1 c2
      refine ew_iconst dX7_many_120 (inI_of rfl) ?_
      obtain ⟨v3, H⟩ := H
      refine ew_iadd dX7_many_121 v3 ?_
      refine ew_istore_n dX7_many_122 rfl (by decide) (lv' := [(3, aI (x3 + 0)), (0, aR (some mT)), (1, aI x1), (2, aI x2), (4, aI x4), (5, aI x5), (6, aI x6)]) rfl ?_
      refine ew_sub (List.forall_mem_cons.mpr ⟨lm1, (List.forall_mem_cons.mpr ⟨lm2, (List.forall_mem_cons.mpr ⟨lm3, (List.forall_mem_cons.mpr ⟨lm0, (List.forall_mem_cons.mpr ⟨lm4, (List.forall_mem_cons.mpr ⟨lm5, (List.forall_mem_cons.mpr ⟨lm6, e_nm⟩)⟩)⟩)⟩)⟩)⟩)⟩) ?_
      obtain ⟨v4, H⟩ := H
      refine ew_iinc dX7_many_123 lm4 (by decide) v4 (lv' := [(4, aI (x4 + 1)), (0, aR (some mT)), (1, aI x1), (2, aI x2), (3, aI (x3 + 0)), (5, aI x5), (6, aI x6)]) rfl ?_
      refine ew_sub (List.forall_mem_cons.mpr ⟨lm1, (List.forall_mem_cons.mpr ⟨lm2, (List.forall_mem_cons.mpr ⟨lm3, (List.forall_mem_cons.mpr ⟨lm4, (List.forall_mem_cons.mpr ⟨lm0, (List.forall_mem_cons.mpr ⟨lm5, (List.forall_mem_cons.mpr ⟨lm6, e_nm⟩)⟩)⟩)⟩)⟩)⟩)⟩) ?_
      refine ew_goto (tgt := 20) dX7_many_126 (by decide) ?_
      exact ew_sub (List.forall_mem_cons.mpr ⟨lm0, (List.forall_mem_cons.mpr ⟨lm1, (List.forall_mem_cons.mpr ⟨lm2, (List.forall_mem_cons.mpr ⟨lm3, (List.forall_mem_cons.mpr ⟨lm4, e_nm⟩)⟩)⟩)⟩)⟩) H
    · replace H := H.2 c2
      refine ew_iconst dX7_many_116 (inI_of rfl) ?_
      refine ew_goto (tgt := 121) dX7_many_117 (by decide) ?_
      obtain ⟨v5, H⟩ := H
      refine ew_iadd dX7_many_121 v5 ?_
      refine ew_istore_n dX7_many_122 rfl (by decide) (lv' := [(3, aI (x3 + 1)), (0, aR (some mT)), (1, aI x1), (2, aI x2), (4, aI x4), (5, aI x5), (6, aI x6)]) rfl ?_
      refine ew_sub (List.forall_mem_cons.mpr ⟨lm1, (List.forall_mem_cons.mpr ⟨lm2, (List.forall_mem_cons.mpr ⟨lm3, (List.forall_mem_cons.mpr ⟨lm0, (List.forall_mem_cons.mpr ⟨lm4, (List.forall_mem_cons.mpr ⟨lm5, (List.forall_mem_cons.mpr ⟨lm6, e_nm⟩)⟩)⟩)⟩)⟩)⟩)⟩) ?_
      obtain ⟨v6, H⟩ := H
      refine ew_iinc dX7_many_123 lm4 (by decide) v6 (lv' := [(4, aI (x4 + 1)), (0, aR (some mT)), (1, aI x1), (2, aI x2), (3, aI (x3 + 1)), (5, aI x5), (6, aI x6)]) rfl ?_
      refine ew_sub (List.forall_mem_cons.mpr ⟨lm1, (List.forall_mem_cons.mpr ⟨lm2, (List.forall_mem_cons.mpr ⟨lm3, (List.forall_mem_cons.mpr ⟨lm4, (List.forall_mem_cons.mpr ⟨lm0, (List.forall_mem_cons.mpr ⟨lm5, (List.forall_mem_cons.mpr ⟨lm6, e_nm⟩)⟩)⟩)⟩)⟩)⟩)⟩) ?_
      refine ew_goto (tgt := 20) dX7_many_126 (by decide) ?_
      exact ew_sub (List.forall_mem_cons.mpr ⟨lm0, (List.forall_mem_cons.mpr ⟨lm1, (List.forall_mem_cons.mpr ⟨lm2, (List.forall_mem_cons.mpr ⟨lm3, (List.forall_mem_cons.mpr ⟨lm4, e_nm⟩)⟩)⟩)⟩)⟩) H
  · replace H := H.2 c1
    refine ew_iload dX7_many_65 lm5 ?_
    refine ew_if_eq (tgt := 101) dX7_many_67 (by decide) (fun c7 => ?_) (fun c7 => ?_)
    · replace H := H.1 c7
      refine ew_iconst dX7_many_101 (inI_of rfl) ?_
      refine ew_istore dX7_many_102 (by decide) (lv' := [(5, aI 0), (0, aR (some mT)), (1, aI x1), (2, aI x2), (3, aI x3), (4, aI x4), (6, aI x6)]) rfl ?_
      refine ew_sub (List.forall_mem_cons.mpr ⟨lm1, (List.forall_mem_cons.mpr ⟨lm2, (List.forall_mem_cons.mpr ⟨lm3, (List.forall_mem_cons.mpr ⟨lm4, (List.forall_mem_cons.mpr ⟨lm5, (List.forall_mem_cons.mpr ⟨lm0, (List.forall_mem_cons.mpr ⟨lm6, e_nm⟩)⟩)⟩)⟩)⟩)⟩)⟩) ?_
      obtain ⟨v8, H⟩ := H
      refine ew_iinc dX7_many_104 lm6 (by decide) v8 (lv' := [(6, aI (x6 + 1)), (0, aR (some mT)), (1, aI x1), (2, aI x2), (3, aI x3), (4, aI x4), (5, aI 0)]) rfl ?_
      refine ew_sub (List.forall_mem_cons.mpr ⟨lm1, (List.forall_mem_cons.mpr ⟨lm2, (List.forall_mem_cons.mpr ⟨lm3, (List.forall_mem_cons.mpr ⟨lm4, (List.forall_mem_cons.mpr ⟨lm5, (List.forall_mem_cons.mpr ⟨lm6, (List.forall_mem_cons.mpr ⟨lm0, e_nm⟩)⟩)⟩)⟩)⟩)⟩)⟩) ?_
      refine ew_goto (tgt := 56) dX7_many_107 (by decide) ?_
      exact ew_sub (List.forall_mem_cons.mpr ⟨lm0, (List.forall_mem_cons.mpr ⟨lm1, (List.forall_mem_cons.mpr ⟨lm2, (List.forall_mem_cons.mpr ⟨lm3, (List.forall_mem_cons.mpr ⟨lm4, (List.forall_mem_cons.mpr ⟨lm5, (List.forall_mem_cons.mpr ⟨lm6, e_nm⟩)⟩)⟩)⟩)⟩)⟩)⟩) H
    · replace H := H.2 c7
      refine ew_iload dX7_many_70 lm4 ?_
      refine ew_iload dX7_many_72 lm6 ?_
      refine ew_ishr dX7_many_74 ?_
      refine ew_iconst dX7_many_75 (inI_of rfl) ?_
      refine ew_iand dX7_many_76 ?_
      refine ew_if_eq (tgt := 97) dX7_many_77 (by decide) (fun c9 => ?_) (fun c9 => ?_)
      · replace H := H.1 c9
        refine ew_iconst dX7_many_97 (inI_of rfl) ?_
        refine ew_goto (tgt := 102) dX7_many_98 (by decide) ?_
        refine ew_istore dX7_many_102 (by decide) (lv' := [(5, aI 1), (0, aR (some mT)), (1, aI x1), (2, aI x2), (3, aI x3), (4, aI x4), (6, aI x6)]) rfl ?_
        refine ew_sub (List.forall_mem_cons.mpr ⟨lm1, (List.forall_mem_cons.mpr ⟨lm2, (List.forall_mem_cons.mpr ⟨lm3, (List.forall_mem_cons.mpr ⟨lm4, (List.forall_mem_cons.mpr ⟨lm5, (List.forall_mem_cons.mpr ⟨lm0, (List.forall_mem_cons.mpr ⟨lm6, e_nm⟩)⟩)⟩)⟩)⟩)⟩)⟩) ?_
        obtain ⟨v10, H⟩ := H
        refine ew_iinc dX7_many_104 lm6 (by decide) v10 (lv' := [(6, aI (x6 + 1)), (0, aR (some mT)), (1, aI x1), (2, aI x2), (3, aI x3), (4, aI x4), (5, aI 1)]) rfl ?_
        refine ew_sub (List.forall_mem_cons.mpr ⟨lm1, (List.forall_mem_cons.mpr ⟨lm2, (List.forall_mem_cons.mpr ⟨lm3, (List.forall_mem_cons.mpr ⟨lm4, (List.forall_mem_cons.mpr ⟨lm5, (List.forall_mem_cons.mpr ⟨lm6, (List.forall_mem_cons.mpr ⟨lm0, e_nm⟩)⟩)⟩)⟩)⟩)⟩)⟩) ?_
        refine ew_goto (tgt := 56) dX7_many_107 (by decide) ?_
        exact ew_sub (List.forall_mem_cons.mpr ⟨lm0, (List.forall_mem_cons.mpr ⟨lm1, (List.forall_mem_cons.mpr ⟨lm2, (List.forall_mem_cons.mpr ⟨lm3, (List.forall_mem_cons.mpr ⟨lm4, (List.forall_mem_cons.mpr ⟨lm5, (List.forall_mem_cons.mpr ⟨lm6, e_nm⟩)⟩)⟩)⟩)⟩)⟩)⟩) H
      · replace H := H.2 c9
        refine ew_aload_n dX7_many_80 rfl lm0 ?_
        refine mw_gA dX7_many_81 (e_fl.a q1452) mf_46 rfl ?_
        refine ew_iload dX7_many_84 lm4 ?_
        refine ew_iconst dX7_many_86 (inI_of rfl) ?_
        refine ew_iload dX7_many_87 lm6 ?_
        refine ew_ishl dX7_many_89 ?_
        refine ew_iconst dX7_many_90 (inI_of rfl) ?_
        refine ew_ixor dX7_many_91 ?_
        refine ew_iand dX7_many_92 ?_
        obtain ⟨v11, H⟩ := H
        refine mw_bald dX7_many_93 rfl v11.1 v11.2 ?_
        refine ew_if_ne (tgt := 101) dX7_many_94 (by decide) (fun c12 => ?_) (fun c12 => ?_)
        · replace H := H.2 c12
          refine ew_iconst dX7_many_101 (inI_of rfl) ?_
          refine ew_istore dX7_many_102 (by decide) (lv' := [(5, aI 0), (0, aR (some mT)), (1, aI x1), (2, aI x2), (3, aI x3), (4, aI x4), (6, aI x6)]) rfl ?_
          refine ew_sub (List.forall_mem_cons.mpr ⟨lm1, (List.forall_mem_cons.mpr ⟨lm2, (List.forall_mem_cons.mpr ⟨lm3, (List.forall_mem_cons.mpr ⟨lm4, (List.forall_mem_cons.mpr ⟨lm5, (List.forall_mem_cons.mpr ⟨lm0, (List.forall_mem_cons.mpr ⟨lm6, e_nm⟩)⟩)⟩)⟩)⟩)⟩)⟩) ?_
          obtain ⟨v13, H⟩ := H
          refine ew_iinc dX7_many_104 lm6 (by decide) v13 (lv' := [(6, aI (x6 + 1)), (0, aR (some mT)), (1, aI x1), (2, aI x2), (3, aI x3), (4, aI x4), (5, aI 0)]) rfl ?_
          refine ew_sub (List.forall_mem_cons.mpr ⟨lm1, (List.forall_mem_cons.mpr ⟨lm2, (List.forall_mem_cons.mpr ⟨lm3, (List.forall_mem_cons.mpr ⟨lm4, (List.forall_mem_cons.mpr ⟨lm5, (List.forall_mem_cons.mpr ⟨lm6, (List.forall_mem_cons.mpr ⟨lm0, e_nm⟩)⟩)⟩)⟩)⟩)⟩)⟩) ?_
          refine ew_goto (tgt := 56) dX7_many_107 (by decide) ?_
          exact ew_sub (List.forall_mem_cons.mpr ⟨lm0, (List.forall_mem_cons.mpr ⟨lm1, (List.forall_mem_cons.mpr ⟨lm2, (List.forall_mem_cons.mpr ⟨lm3, (List.forall_mem_cons.mpr ⟨lm4, (List.forall_mem_cons.mpr ⟨lm5, (List.forall_mem_cons.mpr ⟨lm6, e_nm⟩)⟩)⟩)⟩)⟩)⟩)⟩) H
        · replace H := H.1 c12
          refine ew_iconst dX7_many_97 (inI_of rfl) ?_
          refine ew_goto (tgt := 102) dX7_many_98 (by decide) ?_
          refine ew_istore dX7_many_102 (by decide) (lv' := [(5, aI 1), (0, aR (some mT)), (1, aI x1), (2, aI x2), (3, aI x3), (4, aI x4), (6, aI x6)]) rfl ?_
          refine ew_sub (List.forall_mem_cons.mpr ⟨lm1, (List.forall_mem_cons.mpr ⟨lm2, (List.forall_mem_cons.mpr ⟨lm3, (List.forall_mem_cons.mpr ⟨lm4, (List.forall_mem_cons.mpr ⟨lm5, (List.forall_mem_cons.mpr ⟨lm0, (List.forall_mem_cons.mpr ⟨lm6, e_nm⟩)⟩)⟩)⟩)⟩)⟩)⟩) ?_
          obtain ⟨v14, H⟩ := H
          refine ew_iinc dX7_many_104 lm6 (by decide) v14 (lv' := [(6, aI (x6 + 1)), (0, aR (some mT)), (1, aI x1), (2, aI x2), (3, aI x3), (4, aI x4), (5, aI 1)]) rfl ?_
          refine ew_sub (List.forall_mem_cons.mpr ⟨lm1, (List.forall_mem_cons.mpr ⟨lm2, (List.forall_mem_cons.mpr ⟨lm3, (List.forall_mem_cons.mpr ⟨lm4, (List.forall_mem_cons.mpr ⟨lm5, (List.forall_mem_cons.mpr ⟨lm6, (List.forall_mem_cons.mpr ⟨lm0, e_nm⟩)⟩)⟩)⟩)⟩)⟩)⟩) ?_
          refine ew_goto (tgt := 56) dX7_many_107 (by decide) ?_
          exact ew_sub (List.forall_mem_cons.mpr ⟨lm0, (List.forall_mem_cons.mpr ⟨lm1, (List.forall_mem_cons.mpr ⟨lm2, (List.forall_mem_cons.mpr ⟨lm3, (List.forall_mem_cons.mpr ⟨lm4, (List.forall_mem_cons.mpr ⟨lm5, (List.forall_mem_cons.mpr ⟨lm6, e_nm⟩)⟩)⟩)⟩)⟩)⟩)⟩) H
set_option maxHeartbeats 4000000 in
theorem T_many_E (d : Nat) (g : AH) (K : Int → MS → Prop) (a : Int) (b : Int) (s0 : MS) (H : B_many_E (W_many_20 d g K) (W_many_56 d g K) K a b s0) : EW mm_many (d + 4) 0 0 (mQi g K) 0 [(0, aR (some mT)), (1, aI a), (2, aI b)] [] (mh s0 g) := by
  refine ew_aload_n dX7_many_0 rfl lm0 ?_
  refine ew_aload_n dX7_many_1 rfl lm0 ?_
  refine ew_iload_n dX7_many_2 rfl lm1 ?_
  refine ew_iload_n dX7_many_3 rfl lm2 ?_
  refine ew_callV (d := d + 3) (as := [aI a, aI b]) rfl dX7_many_4 me_whyNotOne rfl (ci := 1) rfl rfl (mh_o _ _) (Or.inl q1815) q1817 qs95 (Nat.le_of_ble_eq_true rfl) (Nat.le_refl 0) (Nat.le_refl 0) (S_whyNotOne (d := d + 1) H) (fun o h' hq2 _ => ?_) (fun E i h' q _ => (mQi_no q).elim)
  obtain ⟨r4, s1, E3, rfl, H⟩ := hq2
  cases E3
  refine ew_callV (d := d + 3) (as := [aI r4]) rfl dX7_many_7 me_isRefused rfl (ci := 1) rfl rfl (mh_o _ _) (Or.inl q1594) q1596 qs56 (Nat.le_of_ble_eq_true rfl) (Nat.le_refl 0) (Nat.le_refl 0) (S_isRefused (d := d + 3) H) (fun o h' hq6 _ => ?_) (fun E i h' q _ => (mQi_no q).elim)
  obtain ⟨r8, s5, E7, rfl, H⟩ := hq6
  cases E7
  refine ew_if_eq (tgt := 15) dX7_many_10 (by decide) (fun c9 => ?_) (fun c9 => ?_)
  · replace H := H.1 c9
    refine ew_iconst dX7_many_15 (inI_of rfl) ?_
    refine ew_istore_n dX7_many_16 rfl (by decide) (lv' := [(3, aI 0), (0, aR (some mT)), (1, aI a), (2, aI b)]) rfl ?_
    refine ew_sub (List.forall_mem_cons.mpr ⟨lm1, (List.forall_mem_cons.mpr ⟨lm2, (List.forall_mem_cons.mpr ⟨lm3, (List.forall_mem_cons.mpr ⟨lm0, e_nm⟩)⟩)⟩)⟩) ?_
    refine ew_iconst dX7_many_17 (inI_of rfl) ?_
    refine ew_istore dX7_many_18 (by decide) (lv' := [(4, aI 0), (0, aR (some mT)), (1, aI a), (2, aI b), (3, aI 0)]) rfl ?_
    refine ew_sub (List.forall_mem_cons.mpr ⟨lm1, (List.forall_mem_cons.mpr ⟨lm2, (List.forall_mem_cons.mpr ⟨lm3, (List.forall_mem_cons.mpr ⟨lm4, (List.forall_mem_cons.mpr ⟨lm0, e_nm⟩)⟩)⟩)⟩)⟩) ?_
    exact ew_sub (List.forall_mem_cons.mpr ⟨lm0, (List.forall_mem_cons.mpr ⟨lm1, (List.forall_mem_cons.mpr ⟨lm2, (List.forall_mem_cons.mpr ⟨lm3, (List.forall_mem_cons.mpr ⟨lm4, e_nm⟩)⟩)⟩)⟩)⟩) H
  · replace H := H.2 c9
    refine ew_iconst dX7_many_13 (inI_of rfl) ?_
    exact ew_ret (o := some (aI (-1))) rfl ⟨_, _, rfl, rfl, H⟩ ⟨dX7_many_14, .int, rfl, Or.inl rfl, rfl⟩
def C_many (a : Int) (b : Int) (s0 : MS) (K : Int → MS → Prop) : Prop := ∀ (X20 : Int → Int → Int → Int → MS → Prop) (X56 : Int → Int → Int → Int → Int → Int → MS → Prop), (∀ (x1 : Int) (x2 : Int) (x3 : Int) (x4 : Int) (s0 : MS), B_many_20 X20 X56 K x1 x2 x3 x4 s0 → X20 x1 x2 x3 x4 s0) → (∀ (x1 : Int) (x2 : Int) (x3 : Int) (x4 : Int) (x5 : Int) (x6 : Int) (s0 : MS), B_many_56 X20 X56 K x1 x2 x3 x4 x5 x6 s0 → X56 x1 x2 x3 x4 x5 x6 s0) → B_many_E X20 X56 K a b s0
theorem S_many {d : Nat} {g : AH} {K : Int → MS → Prop} {a : Int} {b : Int} {s0 : MS} (H : C_many a b s0 K) : Sp mm_many (d + 4) 0 0 [aR (some mT), aI a, aI b] (mh s0 g) (mQi g K) :=
  ew_sp rfl (Nat.le_of_ble_eq_true rfl) (T_many_E d g K a b s0 (H _ _ (fun x1 x2 x3 x4 s0 H => T_many_20 d g K x1 x2 x3 x4 s0 H) (fun x1 x2 x3 x4 x5 x6 s0 H => T_many_56 d g K x1 x2 x3 x4 x5 x6 s0 H)))
