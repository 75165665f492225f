set_option maxRecDepth 100000
abbrev mm_core : EM := (yX7_core, cX7_core, 3, some .int, [])
theorem me_core : e_mth mm_core 0 := ⟨rfl, q1893, q117, by decide +kernel, by decide⟩
def B_core_10 (X10 : Int → Int → MS → Prop) (K : Int → MS → Prop) (x1 : Int) (x2 : Int) (s0 : MS) : Prop :=
  (C_allSames s0 (fun r4 s1 => ((r4 < x2 → K x1 s1) ∧ (¬ r4 < x2 → ((x1 = (-2) → (C_closesBy x2 s1 (fun s7 => (C_clashIn 44 s7 (fun r13 s10 => ((r13 = (-2) → (inI (x2 + 1) ∧ X10 x1 (x2 + 1) s10)) ∧ (¬ r13 = (-2) → (inI (x2 + 1) ∧ X10 x2 (x2 + 1) s10)))))))) ∧ (¬ x1 = (-2) → (C_ones x2 s1 (fun r20 s17 => (C_ones x1 s17 (fun r24 s21 => ((r24 ≤ r20 → (inI (x2 + 1) ∧ X10 x1 (x2 + 1) s21)) ∧ (¬ r24 ≤ r20 → (C_closesBy x2 s21 (fun s27 => (C_clashIn 44 s27 (fun r33 s30 => ((r33 = (-2) → (inI (x2 + 1) ∧ X10 x1 (x2 + 1) s30)) ∧ (¬ r33 = (-2) → (inI (x2 + 1) ∧ X10 x2 (x2 + 1) s30)))))))))))))))))))
def B_core_E (X10 : Int → Int → MS → Prop) (K : Int → MS → Prop)  (s0 : MS) : Prop :=
  (∀ s1 : MS, s1 = ms s0 0 0 → X10 (-2) 0 s1)
def W_core_10 (d : Nat) (g : AH) (K : Int → MS → Prop) (x1 : Int) (x2 : Int) (s0 : MS) : Prop := EW mm_core (d + 3) 0 0 (mQi g K) 10 [(0, aR (some mT)), (1, aI x1), (2, aI x2)] [] (mh s0 g)
set_option maxHeartbeats 4000000 in
theorem T_core_10 (d : Nat) (g : AH) (K : Int → MS → Prop) (x1 : Int) (x2 : Int) (s0 : MS) (H : B_core_10 (W_core_10 d g K) K x1 x2 s0) : EW mm_core (d + 3) 0 0 (mQi g K) 10 [(0, aR (some mT)), (1, aI x1), (2, aI x2)] [] (mh s0 g) := by
  refine ew_iload_n dX7_core_10 rfl lm2 ?_
  refine ew_aload_n dX7_core_11 rfl lm0 ?_
  refine ew_callV (d := d + 2) (as := []) rfl dX7_core_12 me_allSames rfl (ci := 1) rfl rfl (mh_o _ _) (Or.inl q1783) q1785 qs92 (Nat.le_of_ble_eq_true rfl) (Nat.le_refl 0) (Nat.le_refl 0) (S_allSames (d := d + 2) H) (fun o h' hq2 _ => ?_) (fun E i h' q _ => (mQi_no q).elim)
  obtain ⟨r4, s1, E3, rfl, H⟩ := hq2
  cases E3
  refine ew_icmp_gt (tgt := 65) dX7_core_15 (by decide) (fun c5 => ?_) (fun c5 => ?_)
  · replace H := H.1 c5
    refine ew_iload_n dX7_core_65 rfl lm1 ?_
    exact ew_ret (o := some (aI x1)) rfl ⟨_, _, rfl, rfl, H⟩ ⟨dX7_core_66, .int, rfl, Or.inl rfl, rfl⟩
  · replace H := H.2 c5
    refine ew_iload_n dX7_core_18 rfl lm1 ?_
    refine ew_bipush dX7_core_19 (inI_of rfl) (by decide) ?_
    refine ew_icmp_eq (tgt := 35) dX7_core_21 (by decide) (fun c6 => ?_) (fun c6 => ?_)
    · replace H := H.1 c6
      refine ew_aload_n dX7_core_35 rfl lm0 ?_
      refine ew_iload_n dX7_core_36 rfl lm2 ?_
      refine ew_callV (d := d + 2) (as := [aI x2]) rfl dX7_core_37 me_closesBy rfl (ci := 1) rfl rfl (mh_o _ _) (Or.inl q1791) q1793 qs94 (Nat.le_of_ble_eq_true rfl) (Nat.le_refl 0) (Nat.le_refl 0) (S_closesBy (d := d + 0) H) (fun o h' hq8 _ => ?_) (fun E i h' q _ => (mQ_no q).elim)
      obtain ⟨s7, E9, rfl, H⟩ := hq8
      cases E9
      refine ew_aload_n dX7_core_40 rfl lm0 ?_
      refine ew_aload_n dX7_core_41 rfl lm0 ?_
      refine mw_gA dX7_core_42 (e_fl.a q1450) mf_44 rfl ?_
      refine ew_callV (d := d + 2) (as := [aR (some (0, 1, 44))]) rfl dX7_core_45 me_clashIn rfl (ci := 1) rfl rfl (mh_o _ _) (Or.inl q1739) q1741 qs87 (Nat.le_of_ble_eq_true rfl) (Nat.le_refl 0) (Nat.le_refl 0) (S_clashIn (d := d + 2) H) (fun o h' hq11 _ => ?_) (fun E i h' q _ => (mQi_no q).elim)
      obtain ⟨r13, s10, E12, rfl, H⟩ := hq11
      cases E12
      refine ew_bipush dX7_core_48 (inI_of rfl) (by decide) ?_
      refine ew_icmp_eq (tgt := 57) dX7_core_50 (by decide) (fun c14 => ?_) (fun c14 => ?_)
      · replace H := H.1 c14
        refine ew_iload_n dX7_core_57 rfl lm1 ?_
        refine ew_istore_n dX7_core_58 rfl (by decide) (lv' := [(1, aI x1), (0, aR (some mT)), (2, aI x2)]) rfl ?_
        refine ew_sub (List.forall_mem_cons.mpr ⟨lm1, (List.forall_mem_cons.mpr ⟨lm0, (List.forall_mem_cons.mpr ⟨lm2, e_nm⟩)⟩)⟩) ?_
        obtain ⟨v15, H⟩ := H
        refine ew_iinc dX7_core_59 lm2 (by decide) v15 (lv' := [(2, aI (x2 + 1)), (0, aR (some mT)), (1, aI x1)]) rfl ?_
        refine ew_sub (List.forall_mem_cons.mpr ⟨lm1, (List.forall_mem_cons.mpr ⟨lm2, (List.forall_mem_cons.mpr ⟨lm0, e_nm⟩)⟩)⟩) ?_
        refine ew_goto (tgt := 10) dX7_core_62 (by decide) ?_
        exact ew_sub (List.forall_mem_cons.mpr ⟨lm0, (List.forall_mem_cons.mpr ⟨lm1, (List.forall_mem_cons.mpr ⟨lm2, e_nm⟩)⟩)⟩) H
      · replace H := H.2 c14
        refine ew_iload_n dX7_core_53 rfl lm2 ?_
        refine ew_goto (tgt := 58) dX7_core_54 (by decide) ?_
        refine ew_istore_n dX7_core_58 rfl (by decide) (lv' := [(1, aI x2), (0, aR (some mT)), (2, aI x2)]) rfl ?_
        refine ew_sub (List.forall_mem_cons.mpr ⟨lm1, (List.forall_mem_cons.mpr ⟨lm0, (List.forall_mem_cons.mpr ⟨lm2, e_nm⟩)⟩)⟩) ?_
        obtain ⟨v16, H⟩ := H
        refine ew_iinc dX7_core_59 lm2 (by decide) v16 (lv' := [(2, aI (x2 + 1)), (0, aR (some mT)), (1, aI x2)]) rfl ?_
        refine ew_sub (List.forall_mem_cons.mpr ⟨lm1, (List.forall_mem_cons.mpr ⟨lm2, (List.forall_mem_cons.mpr ⟨lm0, e_nm⟩)⟩)⟩) ?_
        refine ew_goto (tgt := 10) dX7_core_62 (by decide) ?_
        exact ew_sub (List.forall_mem_cons.mpr ⟨lm0, (List.forall_mem_cons.mpr ⟨lm1, (List.forall_mem_cons.mpr ⟨lm2, e_nm⟩)⟩)⟩) H
    · replace H := H.2 c6
      refine ew_iload_n dX7_core_24 rfl lm2 ?_
      refine ew_callS (d := d + 2) (as := [aI x2]) rfl dX7_core_25 me_ones rfl (Or.inl q1827) q1828 (Nat.le_of_ble_eq_true rfl) (Nat.le_refl 0) (Nat.le_refl 0) (S_ones (d := d + 2) H) (fun o h' hq18 _ => ?_) (fun E i h' q _ => (mQi_no q).elim)
      obtain ⟨r20, s17, E19, rfl, H⟩ := hq18
      cases E19
      refine ew_iload_n dX7_core_28 rfl lm1 ?_
      refine ew_callS (d := d + 2) (as := [aI x1]) rfl dX7_core_29 me_ones rfl (Or.inl q1827) q1828 (Nat.le_of_ble_eq_true rfl) (Nat.le_refl 0) (Nat.le_refl 0) (S_ones (d := d + 2) H) (fun o h' hq22 _ => ?_) (fun E i h' q _ => (mQi_no q).elim)
      obtain ⟨r24, s21, E23, rfl, H⟩ := hq22
      cases E23
      refine ew_icmp_ge (tgt := 59) dX7_core_32 (by decide) (fun c25 => ?_) (fun c25 => ?_)
      · replace H := H.1 c25
        obtain ⟨v26, H⟩ := H
        refine ew_iinc dX7_core_59 lm2 (by decide) v26 (lv' := [(2, aI (x2 + 1)), (0, aR (some mT)), (1, aI x1)]) rfl ?_
        refine ew_sub (List.forall_mem_cons.mpr ⟨lm1, (List.forall_mem_cons.mpr ⟨lm2, (List.forall_mem_cons.mpr ⟨lm0, e_nm⟩)⟩)⟩) ?_
        refine ew_goto (tgt := 10) dX7_core_62 (by decide) ?_
        exact ew_sub (List.forall_mem_cons.mpr ⟨lm0, (List.forall_mem_cons.mpr ⟨lm1, (List.forall_mem_cons.mpr ⟨lm2, e_nm⟩)⟩)⟩) H
      · replace H := H.2 c25
        refine ew_aload_n dX7_core_35 rfl lm0 ?_
        refine ew_iload_n dX7_core_36 rfl lm2 ?_
        refine ew_callV (d := d + 2) (as := [aI x2]) rfl dX7_core_37 me_closesBy rfl (ci := 1) rfl rfl (mh_o _ _) (Or.inl q1791) q1793 qs94 (Nat.le_of_ble_eq_true rfl) (Nat.le_refl 0) (Nat.le_refl 0) (S_closesBy (d := d + 0) H) (fun o h' hq28 _ => ?_) (fun E i h' q _ => (mQ_no q).elim)
        obtain ⟨s27, E29, rfl, H⟩ := hq28
        cases E29
        refine ew_aload_n dX7_core_40 rfl lm0 ?_
        refine ew_aload_n dX7_core_41 rfl lm0 ?_
        refine mw_gA dX7_core_42 (e_fl.a q1450) mf_44 rfl ?_
        refine ew_callV (d := d + 2) (as := [aR (some (0, 1, 44))]) rfl dX7_core_45 me_clashIn rfl (ci := 1) rfl rfl (mh_o _ _) (Or.inl q1739) q1741 qs87 (Nat.le_of_ble_eq_true rfl) (Nat.le_refl 0) (Nat.le_refl 0) (S_clashIn (d := d + 2) H) (fun o h' hq31 _ => ?_) (fun E i h' q _ => (mQi_no q).elim)
        obtain ⟨r33, s30, E32, rfl, H⟩ := hq31
        cases E32
        refine ew_bipush dX7_core_48 (inI_of rfl) (by decide) ?_
        refine ew_icmp_eq (tgt := 57) dX7_core_50 (by decide) (fun c34 => ?_) (fun c34 => ?_)
        · replace H := H.1 c34
          refine ew_iload_n dX7_core_57 rfl lm1 ?_
          refine ew_istore_n dX7_core_58 rfl (by decide) (lv' := [(1, aI x1), (0, aR (some mT)), (2, aI x2)]) rfl ?_
          refine ew_sub (List.forall_mem_cons.mpr ⟨lm1, (List.forall_mem_cons.mpr ⟨lm0, (List.forall_mem_cons.mpr ⟨lm2, e_nm⟩)⟩)⟩) ?_
          obtain ⟨v35, H⟩ := H
          refine ew_iinc dX7_core_59 lm2 (by decide) v35 (lv' := [(2, aI (x2 + 1)), (0, aR (some mT)), (1, aI x1)]) rfl ?_
          refine ew_sub (List.forall_mem_cons.mpr ⟨lm1, (List.forall_mem_cons.mpr ⟨lm2, (List.forall_mem_cons.mpr ⟨lm0, e_nm⟩)⟩)⟩) ?_
          refine ew_goto (tgt := 10) dX7_core_62 (by decide) ?_
          exact ew_sub (List.forall_mem_cons.mpr ⟨lm0, (List.forall_mem_cons.mpr ⟨lm1, (List.forall_mem_cons.mpr ⟨lm2, e_nm⟩)⟩)⟩) H
        · replace H := H.2 c34
          refine ew_iload_n dX7_core_53 rfl lm2 ?_
          refine ew_goto (tgt := 58) dX7_core_54 (by decide) ?_
          refine ew_istore_n dX7_core_58 rfl (by decide) (lv' := [(1, aI x2), (0, aR (some mT)), (2, aI x2)]) rfl ?_
          refine ew_sub (List.forall_mem_cons.mpr ⟨lm1, (List.forall_mem_cons.mpr ⟨lm0, (List.forall_mem_cons.mpr ⟨lm2, e_nm⟩)⟩)⟩) ?_
          obtain ⟨v36, H⟩ := H
          refine ew_iinc dX7_core_59 lm2 (by decide) v36 (lv' := [(2, aI (x2 + 1)), (0, aR (some mT)), (1, aI x2)]) rfl ?_
          refine ew_sub (List.forall_mem_cons.mpr ⟨lm1, (List.forall_mem_cons.mpr ⟨lm2, (List.forall_mem_cons.mpr ⟨lm0, e_nm⟩)⟩)⟩) ?_
          refine ew_goto (tgt := 10) dX7_core_62 (by decide) ?_
          exact ew_sub (List.forall_mem_cons.mpr ⟨lm0, (List.forall_mem_cons.mpr ⟨lm1, (List.forall_mem_cons.mpr ⟨lm2, e_nm⟩)⟩)⟩) H
set_option maxHeartbeats 4000000 in
theorem T_core_E (d : Nat) (g : AH) (K : Int → MS → Prop)  (s0 : MS) (H : B_core_E (W_core_10 d g K) K  s0) : EW mm_core (d + 3) 0 0 (mQi g K) 0 [(0, aR (some mT))] [] (mh s0 g) := by
  refine ew_aload_n dX7_core_0 rfl lm0 ?_
  refine ew_iconst dX7_core_1 (inI_of rfl) ?_
  refine mw_pI dX7_core_2 (e_fl.a q1406) mf_0 (Or.inl rfl) (ty := .int) (by decide +kernel) trivial (fun s1 e2 => ?_)
  replace H := H s1 e2
  refine ew_bipush dX7_core_5 (inI_of rfl) (by decide) ?_
  refine ew_istore_n dX7_core_7 rfl (by decide) (lv' := [(1, aI (-2)), (0, aR (some mT))]) rfl ?_
  refine ew_sub (List.forall_mem_cons.mpr ⟨lm1, (List.forall_mem_cons.mpr ⟨lm0, e_nm⟩)⟩) ?_
  refine ew_iconst dX7_core_8 (inI_of rfl) ?_
  refine ew_istore_n dX7_core_9 rfl (by decide) (lv' := [(2, aI 0), (0, aR (some mT)), (1, aI (-2))]) rfl ?_
  refine ew_sub (List.forall_mem_cons.mpr ⟨lm1, (List.forall_mem_cons.mpr ⟨lm2, (List.forall_mem_cons.mpr ⟨lm0, e_nm⟩)⟩)⟩) ?_
  exact ew_sub (List.forall_mem_cons.mpr ⟨lm0, (List.forall_mem_cons.mpr ⟨lm1, (List.forall_mem_cons.mpr ⟨lm2, e_nm⟩)⟩)⟩) H
def C_core  (s0 : MS) (K : Int → MS → Prop) : Prop := ∀ (X10 : Int → Int → MS → Prop), (∀ (x1 : Int) (x2 : Int) (s0 : MS), B_core_10 X10 K x1 x2 s0 → X10 x1 x2 s0) → B_core_E X10 K  s0
theorem S_core {d : Nat} {g : AH} {K : Int → MS → Prop}  {s0 : MS} (H : C_core  s0 K) : Sp mm_core (d + 3) 0 0 [aR (some mT)] (mh s0 g) (mQi g K) :=
  ew_sp rfl (Nat.le_of_ble_eq_true rfl) (T_core_E d g K  s0 (H _ (fun x1 x2 s0 H => T_core_10 d g K x1 x2 s0 H)))
abbrev mm_closesWith : EM := (yX7_closesWith, cX7_closesWith, 3, none, [])
theorem me_closesWith : e_mth mm_closesWith 2 := ⟨rfl, q1901, q117, by decide +kernel, by decide⟩
def B_closesWith_E  (K : MS → Prop) (a : Int) (b : Int) (s0 : MS) : Prop :=
  ((0 ≤ (s0.1 30) ∧ (s0.1 30) < 13) ∧ ∀ s1 : MS, s1 = ma s0 31 (s0.1 30) a → ((0 ≤ (s1.1 30) ∧ (s1.1 30) < 13) ∧ ∀ s4 : MS, s4 = ma s1 32 (s1.1 30) b → (C_allSames s4 (fun r10 s7 => (C_closesBy (jor r10 (jshl 1 (s7.1 30))) s7 (fun s11 => K s11))))))
set_option maxHeartbeats 4000000 in
theorem T_closesWith_E (d : Nat) (g : AH) (K : MS → Prop) (a : Int) (b : Int) (s0 : MS) (H : B_closesWith_E  K a b s0) : EW mm_closesWith (d + 3) 0 0 (mQ g K) 0 [(0, aR (some mT)), (1, aI a), (2, aI b)] [] (mh s0 g) := by
  refine ew_aload_n dX7_closesWith_0 rfl lm0 ?_
  refine mw_gA dX7_closesWith_1 (e_fl.a q1437) mf_31 rfl ?_
  refine ew_aload_n dX7_closesWith_4 rfl lm0 ?_
  refine mw_gI dX7_closesWith_5 (e_fl.a q1436) mf_30 rfl ?_
  refine ew_iload_n dX7_closesWith_8 rfl lm1 ?_
  obtain ⟨v3, H⟩ := H
  refine mw_iast dX7_closesWith_9 rfl v3.1 v3.2 (fun s1 e2 => ?_)
  replace H := H s1 e2
  refine ew_aload_n dX7_closesWith_10 rfl lm0 ?_
  refine mw_gA dX7_closesWith_11 (e_fl.a q1438) mf_32 rfl ?_
  refine ew_aload_n dX7_closesWith_14 rfl lm0 ?_
  refine mw_gI dX7_closesWith_15 (e_fl.a q1436) mf_30 rfl ?_
  refine ew_iload_n dX7_closesWith_18 rfl lm2 ?_
  obtain ⟨v6, H⟩ := H
  refine mw_iast dX7_closesWith_19 rfl v6.1 v6.2 (fun s4 e5 => ?_)
  replace H := H s4 e5
  refine ew_aload_n dX7_closesWith_20 rfl lm0 ?_
  refine ew_aload_n dX7_closesWith_21 rfl lm0 ?_
  refine ew_callV (d := d + 2) (as := []) rfl dX7_closesWith_22 me_allSames rfl (ci := 1) rfl rfl (mh_o _ _) (Or.inl q1783) q1785 qs92 (Nat.le_of_ble_eq_true rfl) (Nat.le_refl 0) (Nat.le_refl 0) (S_allSames (d := d + 2) H) (fun o h' hq8 _ => ?_) (fun E i h' q _ => (mQi_no q).elim)
  obtain ⟨r10, s7, E9, rfl, H⟩ := hq8
  cases E9
  refine ew_iconst dX7_closesWith_25 (inI_of rfl) ?_
  refine ew_aload_n dX7_closesWith_26 rfl lm0 ?_
  refine mw_gI dX7_closesWith_27 (e_fl.a q1436) mf_30 rfl ?_
  refine ew_ishl dX7_closesWith_30 ?_
  refine ew_ior dX7_closesWith_31 ?_
  refine ew_callV (d := d + 2) (as := [aI (jor r10 (jshl 1 (s7.1 30)))]) rfl dX7_closesWith_32 me_closesBy rfl (ci := 1) rfl rfl (mh_o _ _) (Or.inl q1791) q1793 qs94 (Nat.le_of_ble_eq_true rfl) (Nat.le_refl 0) (Nat.le_refl 0) (S_closesBy (d := d + 0) H) (fun o h' hq12 _ => ?_) (fun E i h' q _ => (mQ_no q).elim)
  obtain ⟨s11, E13, rfl, H⟩ := hq12
  cases E13
  exact ew_ret (o := none) rfl ⟨_, rfl, rfl, H⟩ ⟨rfl, dX7_closesWith_35⟩
def C_closesWith (a : Int) (b : Int) (s0 : MS) (K : MS → Prop) : Prop := B_closesWith_E  K a b s0
theorem S_closesWith {d : Nat} {g : AH} {K : MS → Prop} {a : Int} {b : Int} {s0 : MS} (H : C_closesWith a b s0 K) : Sp mm_closesWith (d + 3) 0 0 [aR (some mT), aI a, aI b] (mh s0 g) (mQ g K) :=
  ew_sp rfl (Nat.le_of_ble_eq_true rfl) (T_closesWith_E d g K a b s0 (H  ))
abbrev mm_would : EM := (yX7_would, cX7_would, 4, some .int, [])
theorem me_would : e_mth mm_would 3 := ⟨rfl, q1897, q117, by decide +kernel, by decide⟩
def B_would_E  (K : Int → MS → Prop) (a : Int) (b : Int) (c : Int) (s0 : MS) : Prop :=
  (C_isTerm a s0 (fun r4 s1 => ((r4 = 0 → (C_unless 0 s1 (fun r9 s6 => (C_isRefused r9 s6 (fun r13 s10 => ((r13 = 0 → (C_closesWith a b s10 (fun s15 => ((c = 0 → (C_groupsIn 44 s15 (fun r36 s33 => K r36 s33))) ∧ (¬ c = 0 → ((c = 1 → (C_clashIn 44 s15 (fun r32 s29 => K r32 s29))) ∧ (¬ c = 1 → (C_groupsIn 36 s15 (fun r23 s20 => (C_groupsIn 44 s20 (fun r27 s24 => ((inI (r23 - r27)) ∧ K (r23 - r27) s24)))))))))))) ∧ (¬ r13 = 0 → K (-1) s10))))))) ∧ (¬ r4 = 0 → (C_isTerm b s1 (fun r40 s37 => ((r40 = 0 → (C_unless 0 s37 (fun r45 s42 => (C_isRefused r45 s42 (fun r49 s46 => ((r49 = 0 → (C_closesWith a b s46 (fun s51 => ((c = 0 → (C_groupsIn 44 s51 (fun r72 s69 => K r72 s69))) ∧ (¬ c = 0 → ((c = 1 → (C_clashIn 44 s51 (fun r68 s65 => K r68 s65))) ∧ (¬ c = 1 → (C_groupsIn 36 s51 (fun r59 s56 => (C_groupsIn 44 s56 (fun r63 s60 => ((inI (r59 - r63)) ∧ K (r59 - r63) s60)))))))))))) ∧ (¬ r49 = 0 → K (-1) s46))))))) ∧ (¬ r40 = 0 → (C_in c 0 2 s37 (fun r76 s73 => ((r76 = 0 → (C_unless 0 s73 (fun r81 s78 => (C_isRefused r81 s78 (fun r85 s82 => ((r85 = 0 → (C_closesWith a b s82 (fun s87 => ((c = 0 → (C_groupsIn 44 s87 (fun r108 s105 => K r108 s105))) ∧ (¬ c = 0 → ((c = 1 → (C_clashIn 44 s87 (fun r104 s101 => K r104 s101))) ∧ (¬ c = 1 → (C_groupsIn 36 s87 (fun r95 s92 => (C_groupsIn 44 s92 (fun r99 s96 => ((inI (r95 - r99)) ∧ K (r95 - r99) s96)))))))))))) ∧ (¬ r85 = 0 → K (-1) s82))))))) ∧ (¬ r76 = 0 → (C_unless 1 s73 (fun r112 s109 => (C_isRefused r112 s109 (fun r116 s113 => ((r116 = 0 → (C_closesWith a b s113 (fun s118 => ((c = 0 → (C_groupsIn 44 s118 (fun r139 s136 => K r139 s136))) ∧ (¬ c = 0 → ((c = 1 → (C_clashIn 44 s118 (fun r135 s132 => K r135 s132))) ∧ (¬ c = 1 → (C_groupsIn 36 s118 (fun r126 s123 => (C_groupsIn 44 s123 (fun r130 s127 => ((inI (r126 - r130)) ∧ K (r126 - r130) s127)))))))))))) ∧ (¬ r116 = 0 → K (-1) s113))))))))))))))))))
set_option maxHeartbeats 4000000 in
theorem T_would_E (d : Nat) (g : AH) (K : Int → MS → Prop) (a : Int) (b : Int) (c : Int) (s0 : MS) (H : B_would_E  K a b c s0) : EW mm_would (d + 4) 0 0 (mQi g K) 0 [(0, aR (some mT)), (1, aI a), (2, aI b), (3, aI c)] [] (mh s0 g) := by
  refine ew_aload_n dX7_would_0 rfl lm0 ?_
  refine ew_aload_n dX7_would_1 rfl lm0 ?_
  refine ew_iload_n dX7_would_2 rfl lm1 ?_
  refine ew_callV (d := d + 3) (as := [aI a]) rfl dX7_would_3 me_isTerm rfl (ci := 1) rfl rfl (mh_o _ _) (Or.inl q1751) q1753 qs88 (Nat.le_of_ble_eq_true rfl) (Nat.le_refl 0) (Nat.le_refl 0) (S_isTerm (d := d + 2) H) (fun o h' hq2 _ => ?_) (fun E i h' q _ => (mQi_no q).elim)
  obtain ⟨r4, s1, E3, rfl, H⟩ := hq2
  cases E3
  refine ew_if_eq (tgt := 30) dX7_would_6 (by decide) (fun c5 => ?_) (fun c5 => ?_)
  · replace H := H.1 c5
    refine ew_iconst dX7_would_30 (inI_of rfl) ?_
    refine ew_callS (d := d + 3) (as := [aI 0]) rfl dX7_would_31 me_unless rfl (Or.inl q1732) q1733 (Nat.le_of_ble_eq_true rfl) (Nat.le_refl 0) (Nat.le_refl 0) (S_unless (d := d + 3) H) (fun o h' hq7 _ => ?_) (fun E i h' q _ => (mQi_no q).elim)
    obtain ⟨r9, s6, E8, rfl, H⟩ := hq7
    cases E8
    refine ew_callV (d := d + 3) (as := [aI r9]) rfl dX7_would_34 me_isRefused rfl (ci := 1) rfl rfl (mh_o _ _) (Or.inl q1594) q1596 qs56 (Nat.le_of_ble_eq_true rfl) (Nat.le_refl 0) (Nat.le_refl 0) (S_isRefused (d := d + 3) H) (fun o h' hq11 _ => ?_) (fun E i h' q _ => (mQi_no q).elim)
    obtain ⟨r13, s10, E12, rfl, H⟩ := hq11
    cases E12
    refine ew_if_eq (tgt := 42) dX7_would_37 (by decide) (fun c14 => ?_) (fun c14 => ?_)
    · replace H := H.1 c14
      refine ew_aload_n dX7_would_42 rfl lm0 ?_
      refine ew_iload_n dX7_would_43 rfl lm1 ?_
      refine ew_iload_n dX7_would_44 rfl lm2 ?_
      refine ew_callV (d := d + 3) (as := [aI a, aI b]) rfl dX7_would_45 me_closesWith rfl (ci := 1) rfl rfl (mh_o _ _) (Or.inl q1898) q1900 qs101 (Nat.le_of_ble_eq_true rfl) (Nat.le_refl 0) (Nat.le_refl 0) (S_closesWith (d := d + 0) H) (fun o h' hq16 _ => ?_) (fun E i h' q _ => (mQ_no q).elim)
      obtain ⟨s15, E17, rfl, H⟩ := hq16
      cases E17
      refine ew_iload_n dX7_would_48 rfl lm3 ?_
      refine ew_if_ne (tgt := 63) dX7_would_49 (by decide) (fun c18 => ?_) (fun c18 => ?_)
      · replace H := H.2 c18
        refine ew_iload_n dX7_would_63 rfl lm3 ?_
        refine ew_iconst dX7_would_64 (inI_of rfl) ?_
        refine ew_icmp_ne (tgt := 79) dX7_would_65 (by decide) (fun c19 => ?_) (fun c19 => ?_)
        · replace H := H.2 c19
          refine ew_aload_n dX7_would_79 rfl lm0 ?_
          refine ew_aload_n dX7_would_80 rfl lm0 ?_
          refine mw_gA dX7_would_81 (e_fl.a q1442) mf_36 rfl ?_
          refine ew_callV (d := d + 3) (as := [aR (some (0, 1, 36))]) rfl dX7_would_84 me_groupsIn rfl (ci := 1) rfl rfl (mh_o _ _) (Or.inl q1735) q1737 qs86 (Nat.le_of_ble_eq_true rfl) (Nat.le_refl 0) (Nat.le_refl 0) (S_groupsIn (d := d + 3) H) (fun o h' hq21 _ => ?_) (fun E i h' q _ => (mQi_no q).elim)
          obtain ⟨r23, s20, E22, rfl, H⟩ := hq21
          cases E22
          refine ew_aload_n dX7_would_87 rfl lm0 ?_
          refine ew_aload_n dX7_would_88 rfl lm0 ?_
          refine mw_gA dX7_would_89 (e_fl.a q1450) mf_44 rfl ?_
          refine ew_callV (d := d + 3) (as := [aR (some (0, 1, 44))]) rfl dX7_would_92 me_groupsIn rfl (ci := 1) rfl rfl (mh_o _ _) (Or.inl q1735) q1737 qs86 (Nat.le_of_ble_eq_true rfl) (Nat.le_refl 0) (Nat.le_refl 0) (S_groupsIn (d := d + 3) H) (fun o h' hq25 _ => ?_) (fun E i h' q _ => (mQi_no q).elim)
          obtain ⟨r27, s24, E26, rfl, H⟩ := hq25
          cases E26
          obtain ⟨v28, H⟩ := H
          refine ew_isub dX7_would_95 v28 ?_
          exact ew_ret (o := some (aI (r23 - r27))) rfl ⟨_, _, rfl, rfl, H⟩ ⟨dX7_would_96, .int, rfl, Or.inl rfl, rfl⟩
        · replace H := H.1 c19
          refine ew_aload_n dX7_would_68 rfl lm0 ?_
          refine ew_aload_n dX7_would_69 rfl lm0 ?_
          refine mw_gA dX7_would_70 (e_fl.a q1450) mf_44 rfl ?_
          refine ew_callV (d := d + 3) (as := [aR (some (0, 1, 44))]) rfl dX7_would_73 me_clashIn rfl (ci := 1) rfl rfl (mh_o _ _) (Or.inl q1739) q1741 qs87 (Nat.le_of_ble_eq_true rfl) (Nat.le_refl 0) (Nat.le_refl 0) (S_clashIn (d := d + 3) H) (fun o h' hq30 _ => ?_) (fun E i h' q _ => (mQi_no q).elim)
          obtain ⟨r32, s29, E31, rfl, H⟩ := hq30
          cases E31
          refine ew_goto (tgt := 96) dX7_would_76 (by decide) ?_
          exact ew_ret (o := some (aI r32)) rfl ⟨_, _, rfl, rfl, H⟩ ⟨dX7_would_96, .int, rfl, Or.inl rfl, rfl⟩
      · replace H := H.1 c18
        refine ew_aload_n dX7_would_52 rfl lm0 ?_
        refine ew_aload_n dX7_would_53 rfl lm0 ?_
        refine mw_gA dX7_would_54 (e_fl.a q1450) mf_44 rfl ?_
        refine ew_callV (d := d + 3) (as := [aR (some (0, 1, 44))]) rfl dX7_would_57 me_groupsIn rfl (ci := 1) rfl rfl (mh_o _ _) (Or.inl q1735) q1737 qs86 (Nat.le_of_ble_eq_true rfl) (Nat.le_refl 0) (Nat.le_refl 0) (S_groupsIn (d := d + 3) H) (fun o h' hq34 _ => ?_) (fun E i h' q _ => (mQi_no q).elim)
        obtain ⟨r36, s33, E35, rfl, H⟩ := hq34
        cases E35
        refine ew_goto (tgt := 96) dX7_would_60 (by decide) ?_
        exact ew_ret (o := some (aI r36)) rfl ⟨_, _, rfl, rfl, H⟩ ⟨dX7_would_96, .int, rfl, Or.inl rfl, rfl⟩
    · replace H := H.2 c14
      refine ew_iconst dX7_would_40 (inI_of rfl) ?_
      exact ew_ret (o := some (aI (-1))) rfl ⟨_, _, rfl, rfl, H⟩ ⟨dX7_would_41, .int, rfl, Or.inl rfl, rfl⟩
  · replace H := H.2 c5
    refine ew_aload_n dX7_would_9 rfl lm0 ?_
    refine ew_iload_n dX7_would_10 rfl lm2 ?_
    refine ew_callV (d := d + 3) (as := [aI b]) rfl dX7_would_11 me_isTerm rfl (ci := 1) rfl rfl (mh_o _ _) (Or.inl q1751) q1753 qs88 (Nat.le_of_ble_eq_true rfl) (Nat.le_refl 0) (Nat.le_refl 0) (S_isTerm (d := d + 2) H) (fun o h' hq38 _ => ?_) (fun E i h' q _ => (mQi_no q).elim)
    obtain ⟨r40, s37, E39, rfl, H⟩ := hq38
    cases E39
    refine ew_if_eq (tgt := 30) dX7_would_14 (by decide) (fun c41 => ?_) (fun c41 => ?_)
    · replace H := H.1 c41
      refine ew_iconst dX7_would_30 (inI_of rfl) ?_
      refine ew_callS (d := d + 3) (as := [aI 0]) rfl dX7_would_31 me_unless rfl (Or.inl q1732) q1733 (Nat.le_of_ble_eq_true rfl) (Nat.le_refl 0) (Nat.le_refl 0) (S_unless (d := d + 3) H) (fun o h' hq43 _ => ?_) (fun E i h' q _ => (mQi_no q).elim)
      obtain ⟨r45, s42, E44, rfl, H⟩ := hq43
      cases E44
      refine ew_callV (d := d + 3) (as := [aI r45]) rfl dX7_would_34 me_isRefused rfl (ci := 1) rfl rfl (mh_o _ _) (Or.inl q1594) q1596 qs56 (Nat.le_of_ble_eq_true rfl) (Nat.le_refl 0) (Nat.le_refl 0) (S_isRefused (d := d + 3) H) (fun o h' hq47 _ => ?_) (fun E i h' q _ => (mQi_no q).elim)
      obtain ⟨r49, s46, E48, rfl, H⟩ := hq47
      cases E48
      refine ew_if_eq (tgt := 42) dX7_would_37 (by decide) (fun c50 => ?_) (fun c50 => ?_)
      · replace H := H.1 c50
        refine ew_aload_n dX7_would_42 rfl lm0 ?_
        refine ew_iload_n dX7_would_43 rfl lm1 ?_
        refine ew_iload_n dX7_would_44 rfl lm2 ?_
        refine ew_callV (d := d + 3) (as := [aI a, aI b]) rfl dX7_would_45 me_closesWith rfl (ci := 1) rfl rfl (mh_o _ _) (Or.inl q1898) q1900 qs101 (Nat.le_of_ble_eq_true rfl) (Nat.le_refl 0) (Nat.le_refl 0) (S_closesWith (d := d + 0) H) (fun o h' hq52 _ => ?_) (fun E i h' q _ => (mQ_no q).elim)
        obtain ⟨s51, E53, rfl, H⟩ := hq52
        cases E53
        refine ew_iload_n dX7_would_48 rfl lm3 ?_
        refine ew_if_ne (tgt := 63) dX7_would_49 (by decide) (fun c54 => ?_) (fun c54 => ?_)
        · replace H := H.2 c54
          refine ew_iload_n dX7_would_63 rfl lm3 ?_
          refine ew_iconst dX7_would_64 (inI_of rfl) ?_
          refine ew_icmp_ne (tgt := 79) dX7_would_65 (by decide) (fun c55 => ?_) (fun c55 => ?_)
          · replace H := H.2 c55
            refine ew_aload_n dX7_would_79 rfl lm0 ?_
            refine ew_aload_n dX7_would_80 rfl lm0 ?_
            refine mw_gA dX7_would_81 (e_fl.a q1442) mf_36 rfl ?_
            refine ew_callV (d := d + 3) (as := [aR (some (0, 1, 36))]) rfl dX7_would_84 me_groupsIn rfl (ci := 1) rfl rfl (mh_o _ _) (Or.inl q1735) q1737 qs86 (Nat.le_of_ble_eq_true rfl) (Nat.le_refl 0) (Nat.le_refl 0) (S_groupsIn (d := d + 3) H) (fun o h' hq57 _ => ?_) (fun E i h' q _ => (mQi_no q).elim)
            obtain ⟨r59, s56, E58, rfl, H⟩ := hq57
            cases E58
            refine ew_aload_n dX7_would_87 rfl lm0 ?_
            refine ew_aload_n dX7_would_88 rfl lm0 ?_
            refine mw_gA dX7_would_89 (e_fl.a q1450) mf_44 rfl ?_
            refine ew_callV (d := d + 3) (as := [aR (some (0, 1, 44))]) rfl dX7_would_92 me_groupsIn rfl (ci := 1) rfl rfl (mh_o _ _) (Or.inl q1735) q1737 qs86 (Nat.le_of_ble_eq_true rfl) (Nat.le_refl 0) (Nat.le_refl 0) (S_groupsIn (d := d + 3) H) (fun o h' hq61 _ => ?_) (fun E i h' q _ => (mQi_no q).elim)
            obtain ⟨r63, s60, E62, rfl, H⟩ := hq61
            cases E62
            obtain ⟨v64, H⟩ := H
            refine ew_isub dX7_would_95 v64 ?_
            exact ew_ret (o := some (aI (r59 - r63))) rfl ⟨_, _, rfl, rfl, H⟩ ⟨dX7_would_96, .int, rfl, Or.inl rfl, rfl⟩
          · replace H := H.1 c55
            refine ew_aload_n dX7_would_68 rfl lm0 ?_
            refine ew_aload_n dX7_would_69 rfl lm0 ?_
            refine mw_gA dX7_would_70 (e_fl.a q1450) mf_44 rfl ?_
            refine ew_callV (d := d + 3) (as := [aR (some (0, 1, 44))]) rfl dX7_would_73 me_clashIn rfl (ci := 1) rfl rfl (mh_o _ _) (Or.inl q1739) q1741 qs87 (Nat.le_of_ble_eq_true rfl) (Nat.le_refl 0) (Nat.le_refl 0) (S_clashIn (d := d + 3) H) (fun o h' hq66 _ => ?_) (fun E i h' q _ => (mQi_no q).elim)
            obtain ⟨r68, s65, E67, rfl, H⟩ := hq66
            cases E67
            refine ew_goto (tgt := 96) dX7_would_76 (by decide) ?_
            exact ew_ret (o := some (aI r68)) rfl ⟨_, _, rfl, rfl, H⟩ ⟨dX7_would_96, .int, rfl, Or.inl rfl, rfl⟩
        · replace H := H.1 c54
          refine ew_aload_n dX7_would_52 rfl lm0 ?_
          refine ew_aload_n dX7_would_53 rfl lm0 ?_
          refine mw_gA dX7_would_54 (e_fl.a q1450) mf_44 rfl ?_
          refine ew_callV (d := d + 3) (as := [aR (some (0, 1, 44))]) rfl dX7_would_57 me_groupsIn rfl (ci := 1) rfl rfl (mh_o _ _) (Or.inl q1735) q1737 qs86 (Nat.le_of_ble_eq_true rfl) (Nat.le_refl 0) (Nat.le_refl 0) (S_groupsIn (d := d + 3) H) (fun o h' hq70 _ => ?_) (fun E i h' q _ => (mQi_no q).elim)
          obtain ⟨r72, s69, E71, rfl, H⟩ := hq70
          cases E71
          refine ew_goto (tgt := 96) dX7_would_60 (by decide) ?_
          exact ew_ret (o := some (aI r72)) rfl ⟨_, _, rfl, rfl, H⟩ ⟨dX7_would_96, .int, rfl, Or.inl rfl, rfl⟩
      · replace H := H.2 c50
        refine ew_iconst dX7_would_40 (inI_of rfl) ?_
        exact ew_ret (o := some (aI (-1))) rfl ⟨_, _, rfl, rfl, H⟩ ⟨dX7_would_41, .int, rfl, Or.inl rfl, rfl⟩
    · replace H := H.2 c41
      refine ew_iload_n dX7_would_17 rfl lm3 ?_
      refine ew_iconst dX7_would_18 (inI_of rfl) ?_
      refine ew_iconst dX7_would_19 (inI_of rfl) ?_
      refine ew_callS (d := d + 3) (as := [aI c, aI 0, aI 2]) rfl dX7_would_20 me_in rfl (Or.inl q1591) q1592 (Nat.le_of_ble_eq_true rfl) (Nat.le_refl 0) (Nat.le_refl 0) (S_in (d := d + 3) H) (fun o h' hq74 _ => ?_) (fun E i h' q _ => (mQi_no q).elim)
      obtain ⟨r76, s73, E75, rfl, H⟩ := hq74
      cases E75
      refine ew_if_eq (tgt := 30) dX7_would_23 (by decide) (fun c77 => ?_) (fun c77 => ?_)
      · replace H := H.1 c77
        refine ew_iconst dX7_would_30 (inI_of rfl) ?_
        refine ew_callS (d := d + 3) (as := [aI 0]) rfl dX7_would_31 me_unless rfl (Or.inl q1732) q1733 (Nat.le_of_ble_eq_true rfl) (Nat.le_refl 0) (Nat.le_refl 0) (S_unless (d := d + 3) H) (fun o h' hq79 _ => ?_) (fun E i h' q _ => (mQi_no q).elim)
        obtain ⟨r81, s78, E80, rfl, H⟩ := hq79
        cases E80
        refine ew_callV (d := d + 3) (as := [aI r81]) rfl dX7_would_34 me_isRefused rfl (ci := 1) rfl rfl (mh_o _ _) (Or.inl q1594) q1596 qs56 (Nat.le_of_ble_eq_true rfl) (Nat.le_refl 0) (Nat.le_refl 0) (S_isRefused (d := d + 3) H) (fun o h' hq83 _ => ?_) (fun E i h' q _ => (mQi_no q).elim)
        obtain ⟨r85, s82, E84, rfl, H⟩ := hq83
        cases E84
        refine ew_if_eq (tgt := 42) dX7_would_37 (by decide) (fun c86 => ?_) (fun c86 => ?_)
        · replace H := H.1 c86
          refine ew_aload_n dX7_would_42 rfl lm0 ?_
          refine ew_iload_n dX7_would_43 rfl lm1 ?_
          refine ew_iload_n dX7_would_44 rfl lm2 ?_
          refine ew_callV (d := d + 3) (as := [aI a, aI b]) rfl dX7_would_45 me_closesWith rfl (ci := 1) rfl rfl (mh_o _ _) (Or.inl q1898) q1900 qs101 (Nat.le_of_ble_eq_true rfl) (Nat.le_refl 0) (Nat.le_refl 0) (S_closesWith (d := d + 0) H) (fun o h' hq88 _ => ?_) (fun E i h' q _ => (mQ_no q).elim)
          obtain ⟨s87, E89, rfl, H⟩ := hq88
          cases E89
          refine ew_iload_n dX7_would_48 rfl lm3 ?_
          refine ew_if_ne (tgt := 63) dX7_would_49 (by decide) (fun c90 => ?_) (fun c90 => ?_)
          · replace H := H.2 c90
            refine ew_iload_n dX7_would_63 rfl lm3 ?_
            refine ew_iconst dX7_would_64 (inI_of rfl) ?_
            refine ew_icmp_ne (tgt := 79) dX7_would_65 (by decide) (fun c91 => ?_) (fun c91 => ?_)
            · replace H := H.2 c91
              refine ew_aload_n dX7_would_79 rfl lm0 ?_
              refine ew_aload_n dX7_would_80 rfl lm0 ?_
              refine mw_gA dX7_would_81 (e_fl.a q1442) mf_36 rfl ?_
              refine ew_callV (d := d + 3) (as := [aR (some (0, 1, 36))]) rfl dX7_would_84 me_groupsIn rfl (ci := 1) rfl rfl (mh_o _ _) (Or.inl q1735) q1737 qs86 (Nat.le_of_ble_eq_true rfl) (Nat.le_refl 0) (Nat.le_refl 0) (S_groupsIn (d := d + 3) H) (fun o h' hq93 _ => ?_) (fun E i h' q _ => (mQi_no q).elim)
              obtain ⟨r95, s92, E94, rfl, H⟩ := hq93
              cases E94
              refine ew_aload_n dX7_would_87 rfl lm0 ?_
              refine ew_aload_n dX7_would_88 rfl lm0 ?_
              refine mw_gA dX7_would_89 (e_fl.a q1450) mf_44 rfl ?_
              refine ew_callV (d := d + 3) (as := [aR (some (0, 1, 44))]) rfl dX7_would_92 me_groupsIn rfl (ci := 1) rfl rfl (mh_o _ _) (Or.inl q1735) q1737 qs86 (Nat.le_of_ble_eq_true rfl) (Nat.le_refl 0) (Nat.le_refl 0) (S_groupsIn (d := d + 3) H) (fun o h' hq97 _ => ?_) (fun E i h' q _ => (mQi_no q).elim)
              obtain ⟨r99, s96, E98, rfl, H⟩ := hq97
              cases E98
              obtain ⟨v100, H⟩ := H
              refine ew_isub dX7_would_95 v100 ?_
              exact ew_ret (o := some (aI (r95 - r99))) rfl ⟨_, _, rfl, rfl, H⟩ ⟨dX7_would_96, .int, rfl, Or.inl rfl, rfl⟩
            · replace H := H.1 c91
              refine ew_aload_n dX7_would_68 rfl lm0 ?_
              refine ew_aload_n dX7_would_69 rfl lm0 ?_
              refine mw_gA dX7_would_70 (e_fl.a q1450) mf_44 rfl ?_
              refine ew_callV (d := d + 3) (as := [aR (some (0, 1, 44))]) rfl dX7_would_73 me_clashIn rfl (ci := 1) rfl rfl (mh_o _ _) (Or.inl q1739) q1741 qs87 (Nat.le_of_ble_eq_true rfl) (Nat.le_refl 0) (Nat.le_refl 0) (S_clashIn (d := d + 3) H) (fun o h' hq102 _ => ?_) (fun E i h' q _ => (mQi_no q).elim)
              obtain ⟨r104, s101, E103, rfl, H⟩ := hq102
              cases E103
              refine ew_goto (tgt := 96) dX7_would_76 (by decide) ?_
              exact ew_ret (o := some (aI r104)) rfl ⟨_, _, rfl, rfl, H⟩ ⟨dX7_would_96, .int, rfl, Or.inl rfl, rfl⟩
          · replace H := H.1 c90
            refine ew_aload_n dX7_would_52 rfl lm0 ?_
            refine ew_aload_n dX7_would_53 rfl lm0 ?_
            refine mw_gA dX7_would_54 (e_fl.a q1450) mf_44 rfl ?_
            refine ew_callV (d := d + 3) (as := [aR (some (0, 1, 44))]) rfl dX7_would_57 me_groupsIn rfl (ci := 1) rfl rfl (mh_o _ _) (Or.inl q1735) q1737 qs86 (Nat.le_of_ble_eq_true rfl) (Nat.le_refl 0) (Nat.le_refl 0) (S_groupsIn (d := d + 3) H) (fun o h' hq106 _ => ?_) (fun E i h' q _ => (mQi_no q).elim)
            obtain ⟨r108, s105, E107, rfl, H⟩ := hq106
            cases E107
            refine ew_goto (tgt := 96) dX7_would_60 (by decide) ?_
            exact ew_ret (o := some (aI r108)) rfl ⟨_, _, rfl, rfl, H⟩ ⟨dX7_would_96, .int, rfl, Or.inl rfl, rfl⟩
        · replace H := H.2 c86
          refine ew_iconst dX7_would_40 (inI_of rfl) ?_
          exact ew_ret (o := some (aI (-1))) rfl ⟨_, _, rfl, rfl, H⟩ ⟨dX7_would_41, .int, rfl, Or.inl rfl, rfl⟩
      · replace H := H.2 c77
        refine ew_iconst dX7_would_26 (inI_of rfl) ?_
        refine ew_goto (tgt := 31) dX7_would_27 (by decide) ?_
        refine ew_callS (d := d + 3) (as := [aI 1]) rfl dX7_would_31 me_unless rfl (Or.inl q1732) q1733 (Nat.le_of_ble_eq_true rfl) (Nat.le_refl 0) (Nat.le_refl 0) (S_unless (d := d + 3) H) (fun o h' hq110 _ => ?_) (fun E i h' q _ => (mQi_no q).elim)
        obtain ⟨r112, s109, E111, rfl, H⟩ := hq110
        cases E111
        refine ew_callV (d := d + 3) (as := [aI r112]) rfl dX7_would_34 me_isRefused rfl (ci := 1) rfl rfl (mh_o _ _) (Or.inl q1594) q1596 qs56 (Nat.le_of_ble_eq_true rfl) (Nat.le_refl 0) (Nat.le_refl 0) (S_isRefused (d := d + 3) H) (fun o h' hq114 _ => ?_) (fun E i h' q _ => (mQi_no q).elim)
        obtain ⟨r116, s113, E115, rfl, H⟩ := hq114
        cases E115
        refine ew_if_eq (tgt := 42) dX7_would_37 (by decide) (fun c117 => ?_) (fun c117 => ?_)
        · replace H := H.1 c117
          refine ew_aload_n dX7_would_42 rfl lm0 ?_
          refine ew_iload_n dX7_would_43 rfl lm1 ?_
          refine ew_iload_n dX7_would_44 rfl lm2 ?_
          refine ew_callV (d := d + 3) (as := [aI a, aI b]) rfl dX7_would_45 me_closesWith rfl (ci := 1) rfl rfl (mh_o _ _) (Or.inl q1898) q1900 qs101 (Nat.le_of_ble_eq_true rfl) (Nat.le_refl 0) (Nat.le_refl 0) (S_closesWith (d := d + 0) H) (fun o h' hq119 _ => ?_) (fun E i h' q _ => (mQ_no q).elim)
          obtain ⟨s118, E120, rfl, H⟩ := hq119
          cases E120
          refine ew_iload_n dX7_would_48 rfl lm3 ?_
          refine ew_if_ne (tgt := 63) dX7_would_49 (by decide) (fun c121 => ?_) (fun c121 => ?_)
          · replace H := H.2 c121
            refine ew_iload_n dX7_would_63 rfl lm3 ?_
            refine ew_iconst dX7_would_64 (inI_of rfl) ?_
            refine ew_icmp_ne (tgt := 79) dX7_would_65 (by decide) (fun c122 => ?_) (fun c122 => ?_)
            · replace H := H.2 c122
              refine ew_aload_n dX7_would_79 rfl lm0 ?_
              refine ew_aload_n dX7_would_80 rfl lm0 ?_
              refine mw_gA dX7_would_81 (e_fl.a q1442) mf_36 rfl ?_
              refine ew_callV (d := d + 3) (as := [aR (some (0, 1, 36))]) rfl dX7_would_84 me_groupsIn rfl (ci := 1) rfl rfl (mh_o _ _) (Or.inl q1735) q1737 qs86 (Nat.le_of_ble_eq_true rfl) (Nat.le_refl 0) (Nat.le_refl 0) (S_groupsIn (d := d + 3) H) (fun o h' hq124 _ => ?_) (fun E i h' q _ => (mQi_no q).elim)
              obtain ⟨r126, s123, E125, rfl, H⟩ := hq124
              cases E125
              refine ew_aload_n dX7_would_87 rfl lm0 ?_
              refine ew_aload_n dX7_would_88 rfl lm0 ?_
              refine mw_gA dX7_would_89 (e_fl.a q1450) mf_44 rfl ?_
              refine ew_callV (d := d + 3) (as := [aR (some (0, 1, 44))]) rfl dX7_would_92 me_groupsIn rfl (ci := 1) rfl rfl (mh_o _ _) (Or.inl q1735) q1737 qs86 (Nat.le_of_ble_eq_true rfl) (Nat.le_refl 0) (Nat.le_refl 0) (S_groupsIn (d := d + 3) H) (fun o h' hq128 _ => ?_) (fun E i h' q _ => (mQi_no q).elim)
              obtain ⟨r130, s127, E129, rfl, H⟩ := hq128
              cases E129
              obtain ⟨v131, H⟩ := H
              refine ew_isub dX7_would_95 v131 ?_
              exact ew_ret (o := some (aI (r126 - r130))) rfl ⟨_, _, rfl, rfl, H⟩ ⟨dX7_would_96, .int, rfl, Or.inl rfl, rfl⟩
            · replace H := H.1 c122
              refine ew_aload_n dX7_would_68 rfl lm0 ?_
              refine ew_aload_n dX7_would_69 rfl lm0 ?_
              refine mw_gA dX7_would_70 (e_fl.a q1450) mf_44 rfl ?_
              refine ew_callV (d := d + 3) (as := [aR (some (0, 1, 44))]) rfl dX7_would_73 me_clashIn rfl (ci := 1) rfl rfl (mh_o _ _) (Or.inl q1739) q1741 qs87 (Nat.le_of_ble_eq_true rfl) (Nat.le_refl 0) (Nat.le_refl 0) (S_clashIn (d := d + 3) H) (fun o h' hq133 _ => ?_) (fun E i h' q _ => (mQi_no q).elim)
              obtain ⟨r135, s132, E134, rfl, H⟩ := hq133
              cases E134
              refine ew_goto (tgt := 96) dX7_would_76 (by decide) ?_
              exact ew_ret (o := some (aI r135)) rfl ⟨_, _, rfl, rfl, H⟩ ⟨dX7_would_96, .int, rfl, Or.inl rfl, rfl⟩
          · replace H := H.1 c121
            refine ew_aload_n dX7_would_52 rfl lm0 ?_
            refine ew_aload_n dX7_would_53 rfl lm0 ?_
            refine mw_gA dX7_would_54 (e_fl.a q1450) mf_44 rfl ?_
            refine ew_callV (d := d + 3) (as := [aR (some (0, 1, 44))]) rfl dX7_would_57 me_groupsIn rfl (ci := 1) rfl rfl (mh_o _ _) (Or.inl q1735) q1737 qs86 (Nat.le_of_ble_eq_true rfl) (Nat.le_refl 0) (Nat.le_refl 0) (S_groupsIn (d := d + 3) H) (fun o h' hq137 _ => ?_) (fun E i h' q _ => (mQi_no q).elim)
            obtain ⟨r139, s136, E138, rfl, H⟩ := hq137
            cases E138
            refine ew_goto (tgt := 96) dX7_would_60 (by decide) ?_
            exact ew_ret (o := some (aI r139)) rfl ⟨_, _, rfl, rfl, H⟩ ⟨dX7_would_96, .int, rfl, Or.inl rfl, rfl⟩
        · replace H := H.2 c117
          refine ew_iconst dX7_would_40 (inI_of rfl) ?_
          exact ew_ret (o := some (aI (-1))) rfl ⟨_, _, rfl, rfl, H⟩ ⟨dX7_would_41, .int, rfl, Or.inl rfl, rfl⟩
def C_would (a : Int) (b : Int) (c : Int) (s0 : MS) (K : Int → MS → Prop) : Prop := B_would_E  K a b c s0
theorem S_would {d : Nat} {g : AH} {K : Int → MS → Prop} {a : Int} {b : Int} {c : Int} {s0 : MS} (H : C_would a b c s0 K) : Sp mm_would (d + 4) 0 0 [aR (some mT), aI a, aI b, aI c] (mh s0 g) (mQi g K) :=
  ew_sp rfl (Nat.le_of_ble_eq_true rfl) (T_would_E d g K a b c s0 (H  ))
abbrev mm_nextJoin : EM := (yX7_nextJoin, cX7_nextJoin, 3, none, [])
theorem me_nextJoin : e_mth mm_nextJoin 2 := ⟨rfl, q1913, q117, by decide +kernel, by decide⟩
def B_nextJoin_E  (K : MS → Prop) (a : Int) (b : Int) (s0 : MS) : Prop :=
  ((0 ≤ (s0.1 55) ∧ (s0.1 55) < 24) ∧ ∀ s1 : MS, s1 = ma s0 53 (s0.1 55) a → ((0 ≤ (s1.1 55) ∧ (s1.1 55) < 24) ∧ ∀ s4 : MS, s4 = ma s1 54 (s1.1 55) b → ((inI ((s4.1 55) + 1)) ∧ (∀ s8 : MS, s8 = ms s4 55 ((s4.1 55) + 1) → (C_unites 44 a b s8 (fun s10 => K s10))))))
set_option maxHeartbeats 4000000 in
theorem T_nextJoin_E (d : Nat) (g : AH) (K : MS → Prop) (a : Int) (b : Int) (s0 : MS) (H : B_nextJoin_E  K a b s0) : EW mm_nextJoin (d + 1) 0 0 (mQ g K) 0 [(0, aR (some mT)), (1, aI a), (2, aI b)] [] (mh s0 g) := by
  refine ew_aload_n dX7_nextJoin_0 rfl lm0 ?_
  refine mw_gA dX7_nextJoin_1 (e_fl.a q1459) mf_53 rfl ?_
  refine ew_aload_n dX7_nextJoin_4 rfl lm0 ?_
  refine mw_gI dX7_nextJoin_5 (e_fl.a q1461) mf_55 rfl ?_
  refine ew_iload_n dX7_nextJoin_8 rfl lm1 ?_
  obtain ⟨v3, H⟩ := H
  refine mw_iast dX7_nextJoin_9 rfl v3.1 v3.2 (fun s1 e2 => ?_)
  replace H := H s1 e2
  refine ew_aload_n dX7_nextJoin_10 rfl lm0 ?_
  refine mw_gA dX7_nextJoin_11 (e_fl.a q1460) mf_54 rfl ?_
  refine ew_aload_n dX7_nextJoin_14 rfl lm0 ?_
  refine mw_gI dX7_nextJoin_15 (e_fl.a q1461) mf_55 rfl ?_
  refine ew_iload_n dX7_nextJoin_18 rfl lm2 ?_
  obtain ⟨v6, H⟩ := H
  refine mw_iast dX7_nextJoin_19 rfl v6.1 v6.2 (fun s4 e5 => ?_)
  replace H := H s4 e5
  refine ew_aload_n dX7_nextJoin_20 rfl lm0 ?_
  refine ew_dup dX7_nextJoin_21 rfl ?_
  refine mw_gI dX7_nextJoin_22 (e_fl.a q1461) mf_55 rfl ?_
  refine ew_iconst dX7_nextJoin_25 (inI_of rfl) ?_
  obtain ⟨v7, H⟩ := H
  refine ew_iadd dX7_nextJoin_26 v7 ?_
  refine mw_pI dX7_nextJoin_27 (e_fl.a q1461) mf_55 (Or.inl rfl) (ty := .int) (by decide +kernel) trivial (fun s8 e9 => ?_)
  replace H := H s8 e9
  refine ew_aload_n dX7_nextJoin_30 rfl lm0 ?_
  refine ew_aload_n dX7_nextJoin_31 rfl lm0 ?_
  refine mw_gA dX7_nextJoin_32 (e_fl.a q1450) mf_44 rfl ?_
  refine ew_iload_n dX7_nextJoin_35 rfl lm1 ?_
  refine ew_iload_n dX7_nextJoin_36 rfl lm2 ?_
  refine ew_callV (d := d + 0) (as := [aR (some (0, 1, 44)), aI a, aI b]) rfl dX7_nextJoin_37 me_unites rfl (ci := 1) rfl rfl (mh_o _ _) (Or.inl q1712) q1714 qs84 (Nat.le_of_ble_eq_true rfl) (Nat.le_refl 0) (Nat.le_refl 0) (S_unites (d := d + 0) H) (fun o h' hq11 _ => ?_) (fun E i h' q _ => (mQ_no q).elim)
  obtain ⟨s10, E12, rfl, H⟩ := hq11
  cases E12
  exact ew_ret (o := none) rfl ⟨_, rfl, rfl, H⟩ ⟨rfl, dX7_nextJoin_40⟩
def C_nextJoin (a : Int) (b : Int) (s0 : MS) (K : MS → Prop) : Prop := B_nextJoin_E  K a b s0
theorem S_nextJoin {d : Nat} {g : AH} {K : MS → Prop} {a : Int} {b : Int} {s0 : MS} (H : C_nextJoin a b s0 K) : Sp mm_nextJoin (d + 1) 0 0 [aR (some mT), aI a, aI b] (mh s0 g) (mQ g K) :=
  ew_sp rfl (Nat.le_of_ble_eq_true rfl) (T_nextJoin_E d g K a b s0 (H  ))
