/-! ReasonCloser: methods as predicates, by program (gen/gxx.py) -/
set_option maxRecDepth 100000
abbrev mm_X1_hung : EM := (yX1_hung, cX1_hung, 5, (Option.some .int), [])
theorem me_X1_hung : e_mth mm_X1_hung 2 := ⟨rfl, q1144, q108, by decide +kernel, by decide⟩
def B_X1_hung_29 (X29 : Int → Int → Int → XS → Prop) (K : Int → XS → Prop) (x1 : Int) (x3 : Int) (x4 : Int) (s0 : XS) : Prop :=
  (C_X1_terms s0 (fun r1 => ((r1 ≤ x4 → (C_X1_fine (-2) s0 (fun r6 s7 => K r6 s7))) ∧ (¬ r1 ≤ x4 → ((0 ≤ x4 ∧ x4 < 24) ∧ ((((s0.2 4).2 5 x4) = x1 → ((x3 = 0 → (C_X1_fine x4 s0 (fun r15 s16 => K r15 s16))) ∧ (¬ x3 = 0 → (inI (x3 + (-1)) ∧ (inI (x4 + 1) ∧ X29 x1 (x3 + (-1)) (x4 + 1) s0))))) ∧ (¬ ((s0.2 4).2 5 x4) = x1 → (inI (x4 + 1) ∧ X29 x1 x3 (x4 + 1) s0))))))))
def B_X1_hung_E (X29 : Int → Int → Int → XS → Prop) (K : Int → XS → Prop) (a : Int) (b : Int) (s0 : XS) : Prop :=
  (C_X1_isTerm 1 (iup (fun _ => 0) 0 a) s0 (fun r1 => ((r1 = 0 → (C_X1_refused 1 s0 (fun r6 s7 => K r6 s7))) ∧ (¬ r1 = 0 → ((0 ≤ b → X29 a b 0 s0) ∧ (¬ 0 ≤ b → (C_X1_refused 1 s0 (fun r11 s12 => K r11 s12))))))))
def W_X1_hung_29 (d : Nat) (V : XV) (g : AH) (K : Int → XS → Prop) (x1 : Int) (x3 : Int) (x4 : Int) (s0 : XS) : Prop := ∀ g1, eX g g1 → EW mm_X1_hung (d + 3) 0 0 (tQi V g K) 29 [(0, aR (some xT)), (1, aI x1), (3, aI x3), (4, aI x4)] [] (xh V s0 g1)
set_option maxHeartbeats 4000000 in
theorem T_X1_hung_29 (d : Nat) (V : XV) (g : AH) (hg : xf 3 g) (hr : xfree V g) (K : Int → XS → Prop) (x1 : Int) (x3 : Int) (x4 : Int) (s0 : XS) (g1 : AH) (hx : eX g g1) (H : B_X1_hung_29 (W_X1_hung_29 d V g K) K x1 x3 x4 s0) : EW mm_X1_hung (d + 3) 0 0 (tQi V g K) 29 [(0, aR (some xT)), (1, aI x1), (3, aI x3), (4, aI x4)] [] (xh V s0 g1) := by
  refine ew_iload dX1_hung_29 lm3 ?_
  refine ew_aload_n dX1_hung_31 rfl lm0 ?_
  refine ew_callV (d := d + 2) (as := []) rfl dX1_hung_32 me_X1_terms rfl (ci := 0) rfl rfl xh_x (Or.inl q1048) q1050 qs25 (Nat.le_of_ble_eq_true rfl) (Nat.zero_le _) (Nat.zero_le _) (S_X1_terms (d := d + 1) H) (fun o h' hq3 _ => ?_) (fun E i h' q _ => (cQ_no q).elim)
  obtain ⟨r1, E4, rfl, H⟩ := hq3
  cases E4
  refine ew_icmp_ge (tgt := 75) dX1_hung_35 (by decide) (fun c5 => ?_) (fun c5 => ?_)
  · replace H := H.1 c5
    refine ew_aload_n dX1_hung_75 rfl lm0 ?_
    refine ew_bipush dX1_hung_76 (inI_of rfl) (by decide) ?_
    refine ew_callV (d := d + 2) (as := [aI (-2)]) rfl dX1_hung_78 me_X1_fine rfl (ci := 0) rfl rfl xh_x (Or.inl q1032) q1034 qs24 (Nat.le_of_ble_eq_true rfl) (Nat.zero_le _) (Nat.zero_le _) (S_X1_fine (d := d + 2) H) (fun o h' hq8 _ => ?_) (fun E i h' q _ => (xQi_no q).elim)
    obtain ⟨r6, s7, E9, rfl, H⟩ := hq8
    cases E9
    exact ew_ret (o := some (aI r6)) rfl ⟨_, _, _, rfl, rfl, hx, H⟩ ⟨dX1_hung_81, .int, rfl, Or.inl rfl, rfl⟩
  · replace H := H.2 c5
    refine ew_aload_n dX1_hung_38 rfl lm0 ?_
    refine xw_get (v := aR (some (sI V 4 99))) dX1_hung_39 (e_fl.a q334) xf_6 rfl ?_
    refine yw_get (cs := [5]) (v := aR (some (sI V 4 5))) dX1_hung_42 (by decide) (e_fl.b q234 q233) yf_5 (by decide) rfl ?_
    refine ew_iload dX1_hung_45 lm3 ?_
    obtain ⟨v10, H⟩ := H
    refine yw_iald dX1_hung_47 (by decide) rfl v10.1 v10.2 ?_
    refine ew_iload_n dX1_hung_48 rfl lm1 ?_
    refine ew_icmp_eq (tgt := 55) dX1_hung_49 (by decide) (fun c11 => ?_) (fun c11 => ?_)
    · replace H := H.1 c11
      refine ew_iload_n dX1_hung_55 rfl lm2 ?_
      refine ew_if_ne (tgt := 66) dX1_hung_56 (by decide) (fun c12 => ?_) (fun c12 => ?_)
      · replace H := H.2 c12
        obtain ⟨v13, H⟩ := H
        refine ew_iinc dX1_hung_66 lm2 (by decide) v13 (lv' := [(3, aI (x3 + (-1))), (0, aR (some xT)), (1, aI x1), (4, aI x4)]) rfl ?_
        refine ew_sub (List.forall_mem_cons.mpr ⟨lm1, (List.forall_mem_cons.mpr ⟨lm2, (List.forall_mem_cons.mpr ⟨lm0, (List.forall_mem_cons.mpr ⟨lm3, e_nm⟩)⟩)⟩)⟩) ?_
        obtain ⟨v14, H⟩ := H
        refine ew_iinc dX1_hung_69 lm3 (by decide) v14 (lv' := [(4, aI (x4 + 1)), (0, aR (some xT)), (1, aI x1), (3, aI (x3 + (-1)))]) rfl ?_
        refine ew_sub (List.forall_mem_cons.mpr ⟨lm1, (List.forall_mem_cons.mpr ⟨lm2, (List.forall_mem_cons.mpr ⟨lm3, (List.forall_mem_cons.mpr ⟨lm0, e_nm⟩)⟩)⟩)⟩) ?_
        refine ew_goto (tgt := 29) dX1_hung_72 (by decide) ?_
        exact ew_room (Nat.le_refl _) (Nat.zero_le _) (Nat.zero_le _) (ew_sub (List.forall_mem_cons.mpr ⟨lm0, (List.forall_mem_cons.mpr ⟨lm1, (List.forall_mem_cons.mpr ⟨lm2, (List.forall_mem_cons.mpr ⟨lm3, e_nm⟩)⟩)⟩)⟩) (H _ hx))
      · replace H := H.1 c12
        refine ew_aload_n dX1_hung_59 rfl lm0 ?_
        refine ew_iload dX1_hung_60 lm3 ?_
        refine ew_callV (d := d + 2) (as := [aI x4]) rfl dX1_hung_62 me_X1_fine rfl (ci := 0) rfl rfl xh_x (Or.inl q1032) q1034 qs24 (Nat.le_of_ble_eq_true rfl) (Nat.zero_le _) (Nat.zero_le _) (S_X1_fine (d := d + 2) H) (fun o h' hq17 _ => ?_) (fun E i h' q _ => (xQi_no q).elim)
        obtain ⟨r15, s16, E18, rfl, H⟩ := hq17
        cases E18
        exact ew_ret (o := some (aI r15)) rfl ⟨_, _, _, rfl, rfl, hx, H⟩ ⟨dX1_hung_65, .int, rfl, Or.inl rfl, rfl⟩
    · replace H := H.2 c11
      refine ew_goto (tgt := 69) dX1_hung_52 (by decide) ?_
      obtain ⟨v19, H⟩ := H
      refine ew_iinc dX1_hung_69 lm3 (by decide) v19 (lv' := [(4, aI (x4 + 1)), (0, aR (some xT)), (1, aI x1), (3, aI x3)]) rfl ?_
      refine ew_sub (List.forall_mem_cons.mpr ⟨lm1, (List.forall_mem_cons.mpr ⟨lm2, (List.forall_mem_cons.mpr ⟨lm3, (List.forall_mem_cons.mpr ⟨lm0, e_nm⟩)⟩)⟩)⟩) ?_
      refine ew_goto (tgt := 29) dX1_hung_72 (by decide) ?_
      exact ew_room (Nat.le_refl _) (Nat.zero_le _) (Nat.zero_le _) (ew_sub (List.forall_mem_cons.mpr ⟨lm0, (List.forall_mem_cons.mpr ⟨lm1, (List.forall_mem_cons.mpr ⟨lm2, (List.forall_mem_cons.mpr ⟨lm3, e_nm⟩)⟩)⟩)⟩) (H _ hx))
set_option maxHeartbeats 4000000 in
theorem T_X1_hung_E (d : Nat) (V : XV) (g : AH) (hg : xf 3 g) (hr : xfree V g) (K : Int → XS → Prop) (a : Int) (b : Int) (s0 : XS) (H : B_X1_hung_E (W_X1_hung_29 d V g K) K a b s0) : EW mm_X1_hung (d + 3) 1 1 (tQi V g K) 0 [(0, aR (some xT)), (1, aI a), (2, aI b)] [] (xh V s0 g) := by
  refine ew_aload_n dX1_hung_0 rfl lm0 ?_
  refine ew_iconst dX1_hung_1 (inI_of rfl) ?_
  refine ew_newIB (t := 0) (N := 1) (i := (1, 3, 0)) dX1_hung_2 rfl (by decide) q302 rfl (by decide) ((xh_g (xC_1 rfl)).trans (hg _ rfl (Nat.le_refl _))) (by decide) (Nat.le_of_ble_eq_true rfl) (Nat.le_of_ble_eq_true rfl) ?_
  rw [xh_upg (xC_1 rfl)]
  refine ew_dup dX1_hung_4 rfl ?_
  refine ew_iconst dX1_hung_5 (inI_of rfl) ?_
  refine ew_iload_n dX1_hung_6 rfl lm1 ?_
  refine ew_iast dX1_hung_7 ((xh_g (xC_1 rfl)).trans (hup_self _ _ _)) (by decide) (by decide) ?_
  rw [xh_upg (xC_1 rfl), hup_hup]
  refine ew_callV (d := d + 2) (as := [aR (some (1, 3, 0))]) rfl dX1_hung_8 me_X1_isTerm rfl (ci := 0) rfl rfl xh_x (Or.inl q1081) q1083 qs29 (Nat.le_of_ble_eq_true rfl) (Nat.zero_le _) (Nat.zero_le _) (S_X1_isTerm (d := d + 0) ((xh_g (xC_1 rfl)).trans (hup_self _ _ _)) (by decide) H) (fun o h' hq3 _ => ?_) (fun E i h' q _ => (cQ_no q).elim)
  obtain ⟨r1, E4, rfl, H⟩ := hq3
  cases E4
  refine ew_if_eq (tgt := 18) dX1_hung_11 (by decide) (fun c5 => ?_) (fun c5 => ?_)
  · replace H := H.1 c5
    refine ew_aload_n dX1_hung_18 rfl lm0 ?_
    refine ew_iconst dX1_hung_19 (inI_of rfl) ?_
    refine ew_callV (d := d + 2) (as := [aI 1]) rfl dX1_hung_20 me_X1_refused rfl (ci := 0) rfl rfl xh_x (Or.inl q406) q408 qs1 (Nat.le_of_ble_eq_true rfl) (Nat.zero_le _) (Nat.zero_le _) (S_X1_refused (d := d + 2) H) (fun o h' hq8 _ => ?_) (fun E i h' q _ => (xQi_no q).elim)
    obtain ⟨r6, s7, E9, rfl, H⟩ := hq8
    cases E9
    exact ew_ret (o := some (aI r6)) rfl ⟨_, _, _, rfl, rfl, (eX.hup eX.rf rfl (hg _ rfl (Nat.le_refl _))), H⟩ ⟨dX1_hung_23, .int, rfl, Or.inl rfl, rfl⟩
  · replace H := H.2 c5
    refine ew_iload_n dX1_hung_14 rfl lm2 ?_
    refine ew_if_ge (tgt := 24) dX1_hung_15 (by decide) (fun c10 => ?_) (fun c10 => ?_)
    · replace H := H.1 c10
      refine ew_iload_n dX1_hung_24 rfl lm2 ?_
      refine ew_istore_n dX1_hung_25 rfl (by decide) (lv' := [(3, aI b), (0, aR (some xT)), (1, aI a), (2, aI b)]) rfl ?_
      refine ew_sub (List.forall_mem_cons.mpr ⟨lm1, (List.forall_mem_cons.mpr ⟨lm2, (List.forall_mem_cons.mpr ⟨lm3, (List.forall_mem_cons.mpr ⟨lm0, e_nm⟩)⟩)⟩)⟩) ?_
      refine ew_iconst dX1_hung_26 (inI_of rfl) ?_
      refine ew_istore dX1_hung_27 (by decide) (lv' := [(4, aI 0), (0, aR (some xT)), (1, aI a), (2, aI b), (3, aI b)]) rfl ?_
      refine ew_sub (List.forall_mem_cons.mpr ⟨lm1, (List.forall_mem_cons.mpr ⟨lm2, (List.forall_mem_cons.mpr ⟨lm3, (List.forall_mem_cons.mpr ⟨lm4, (List.forall_mem_cons.mpr ⟨lm0, e_nm⟩)⟩)⟩)⟩)⟩) ?_
      exact ew_room (Nat.le_refl _) (Nat.zero_le _) (Nat.zero_le _) (ew_sub (List.forall_mem_cons.mpr ⟨lm0, (List.forall_mem_cons.mpr ⟨lm1, (List.forall_mem_cons.mpr ⟨lm3, (List.forall_mem_cons.mpr ⟨lm4, e_nm⟩)⟩)⟩)⟩) (H _ (eX.hup eX.rf rfl (hg _ rfl (Nat.le_refl _)))))
    · replace H := H.2 c10
      refine ew_aload_n dX1_hung_18 rfl lm0 ?_
      refine ew_iconst dX1_hung_19 (inI_of rfl) ?_
      refine ew_callV (d := d + 2) (as := [aI 1]) rfl dX1_hung_20 me_X1_refused rfl (ci := 0) rfl rfl xh_x (Or.inl q406) q408 qs1 (Nat.le_of_ble_eq_true rfl) (Nat.zero_le _) (Nat.zero_le _) (S_X1_refused (d := d + 2) H) (fun o h' hq13 _ => ?_) (fun E i h' q _ => (xQi_no q).elim)
      obtain ⟨r11, s12, E14, rfl, H⟩ := hq13
      cases E14
      exact ew_ret (o := some (aI r11)) rfl ⟨_, _, _, rfl, rfl, (eX.hup eX.rf rfl (hg _ rfl (Nat.le_refl _))), H⟩ ⟨dX1_hung_23, .int, rfl, Or.inl rfl, rfl⟩
def C_X1_hung (a : Int) (b : Int) (s0 : XS) (K : Int → XS → Prop) : Prop := ∀ (X29 : Int → Int → Int → XS → Prop), (∀ (x1 : Int) (x3 : Int) (x4 : Int) (s0 : XS), B_X1_hung_29 X29 K x1 x3 x4 s0 → X29 x1 x3 x4 s0) → B_X1_hung_E X29 K a b s0
theorem S_X1_hung {d : Nat} {V : XV} {g : AH} {K : Int → XS → Prop} {a : Int} {b : Int} {s0 : XS} (hg : xf 3 g) (hr : xfree V g) (H : C_X1_hung a b s0 K) : Sp mm_X1_hung (d + 3) 1 1 [aR (some xT), aI a, aI b] (xh V s0 g) (xQi V g K) :=
  Sp.forget hr tQi_x (ew_sp rfl (Nat.le_of_ble_eq_true rfl) (T_X1_hung_E d V g hg hr K a b s0 (H _ (fun x1 x3 x4 s0 H g1 hx => T_X1_hung_29 d V g hg hr K x1 x3 x4 s0 g1 hx H))))
abbrev mm_X1_equal : EM := (yX1_equal, cX1_equal, 3, (Option.some .int), [])
theorem me_X1_equal : e_mth mm_X1_equal 2 := ⟨rfl, q1148, q108, by decide +kernel, by decide⟩
def B_X1_equal_E (K : Int → XS → Prop) (a : Int) (b : Int) (s0 : XS) : Prop :=
  (C_X1_isTerm 2 (iup (iup (fun _ => 0) 0 a) 1 b) s0 (fun r1 => ((r1 = 0 → (C_X1_refused 1 s0 (fun r6 s7 => K r6 s7))) ∧ (¬ r1 = 0 → (C_X3_areOne_G a b 4 s0 (fun r10 => ((r10 = 0 → (C_X1_fine 0 s0 (fun r15 s16 => K r15 s16))) ∧ (¬ r10 = 0 → (C_X1_fine 1 s0 (fun r19 s20 => K r19 s20))))))))))
set_option maxHeartbeats 4000000 in
theorem T_X1_equal_E (d : Nat) (V : XV) (g : AH) (hg : xf 3 g) (hr : xfree V g) (K : Int → XS → Prop) (a : Int) (b : Int) (s0 : XS) (H : B_X1_equal_E K a b s0) : EW mm_X1_equal (d + 3) 1 2 (tQi V g K) 0 [(0, aR (some xT)), (1, aI a), (2, aI b)] [] (xh V s0 g) := by
  refine ew_aload_n dX1_equal_0 rfl lm0 ?_
  refine ew_iconst dX1_equal_1 (inI_of rfl) ?_
  refine ew_newIB (t := 0) (N := 2) (i := (1, 3, 0)) dX1_equal_2 rfl (by decide) q302 rfl (by decide) ((xh_g (xC_1 rfl)).trans (hg _ rfl (Nat.le_refl _))) (by decide) (Nat.le_of_ble_eq_true rfl) (Nat.le_of_ble_eq_true rfl) ?_
  rw [xh_upg (xC_1 rfl)]
  refine ew_dup dX1_equal_4 rfl ?_
  refine ew_iconst dX1_equal_5 (inI_of rfl) ?_
  refine ew_iload_n dX1_equal_6 rfl lm1 ?_
  refine ew_iast dX1_equal_7 ((xh_g (xC_1 rfl)).trans (hup_self _ _ _)) (by decide) (by decide) ?_
  rw [xh_upg (xC_1 rfl), hup_hup]
  refine ew_dup dX1_equal_8 rfl ?_
  refine ew_iconst dX1_equal_9 (inI_of rfl) ?_
  refine ew_iload_n dX1_equal_10 rfl lm2 ?_
  refine ew_iast dX1_equal_11 ((xh_g (xC_1 rfl)).trans (hup_self _ _ _)) (by decide) (by decide) ?_
  rw [xh_upg (xC_1 rfl), hup_hup]
  refine ew_callV (d := d + 2) (as := [aR (some (1, 3, 0))]) rfl dX1_equal_12 me_X1_isTerm rfl (ci := 0) rfl rfl xh_x (Or.inl q1081) q1083 qs29 (Nat.le_of_ble_eq_true rfl) (Nat.zero_le _) (Nat.zero_le _) (S_X1_isTerm (d := d + 0) ((xh_g (xC_1 rfl)).trans (hup_self _ _ _)) (by decide) H) (fun o h' hq3 _ => ?_) (fun E i h' q _ => (cQ_no q).elim)
  obtain ⟨r1, E4, rfl, H⟩ := hq3
  cases E4
  refine ew_if_eq (tgt := 42) dX1_equal_15 (by decide) (fun c5 => ?_) (fun c5 => ?_)
  · replace H := H.1 c5
    refine ew_aload_n dX1_equal_42 rfl lm0 ?_
    refine ew_iconst dX1_equal_43 (inI_of rfl) ?_
    refine ew_callV (d := d + 2) (as := [aI 1]) rfl dX1_equal_44 me_X1_refused rfl (ci := 0) rfl rfl xh_x (Or.inl q406) q408 qs1 (Nat.le_of_ble_eq_true rfl) (Nat.zero_le _) (Nat.zero_le _) (S_X1_refused (d := d + 2) H) (fun o h' hq8 _ => ?_) (fun E i h' q _ => (xQi_no q).elim)
    obtain ⟨r6, s7, E9, rfl, H⟩ := hq8
    cases E9
    exact ew_ret (o := some (aI r6)) rfl ⟨_, _, _, rfl, rfl, (eX.hup eX.rf rfl (hg _ rfl (Nat.le_refl _))), H⟩ ⟨dX1_equal_47, .int, rfl, Or.inl rfl, rfl⟩
  · replace H := H.2 c5
    refine ew_aload_n dX1_equal_18 rfl lm0 ?_
    refine ew_aload_n dX1_equal_19 rfl lm0 ?_
    refine xw_get (v := aR (some (sI V 4 99))) dX1_equal_20 (e_fl.a q334) xf_6 rfl ?_
    refine ew_iload_n dX1_equal_23 rfl lm1 ?_
    refine ew_iload_n dX1_equal_24 rfl lm2 ?_
    refine ew_callY (x := ⟨"ReasonCloser$Reasons", "areOne", "(II)Z"⟩) (d := d + 2) (as := [aI a, aI b]) rfl dX1_equal_25 me_X3_areOne rfl (by decide) rfl q1085 q1086 (ysel5_4 (P := fun c => Cond.selects c _ _ ∈ lw_all) q1087) q981 (Or.inl q978) (by decide) (Nat.le_of_ble_eq_true rfl) (Nat.zero_le _) (Nat.zero_le _) (S_X3_areOne_G (d := d + 2) (by decide) H) (fun o h' hq12 _ => ?_) (fun E i h' q _ => (cQ_no q).elim)
    obtain ⟨r10, E13, rfl, H⟩ := hq12
    cases E13
    refine ew_if_eq (tgt := 35) dX1_equal_28 (by decide) (fun c14 => ?_) (fun c14 => ?_)
    · replace H := H.1 c14
      refine ew_iconst dX1_equal_35 (inI_of rfl) ?_
      refine ew_callV (d := d + 2) (as := [aI 0]) rfl dX1_equal_36 me_X1_fine rfl (ci := 0) rfl rfl xh_x (Or.inl q1032) q1034 qs24 (Nat.le_of_ble_eq_true rfl) (Nat.zero_le _) (Nat.zero_le _) (S_X1_fine (d := d + 2) H) (fun o h' hq17 _ => ?_) (fun E i h' q _ => (xQi_no q).elim)
      obtain ⟨r15, s16, E18, rfl, H⟩ := hq17
      cases E18
      refine ew_goto (tgt := 47) dX1_equal_39 (by decide) ?_
      exact ew_ret (o := some (aI r15)) rfl ⟨_, _, _, rfl, rfl, (eX.hup eX.rf rfl (hg _ rfl (Nat.le_refl _))), H⟩ ⟨dX1_equal_47, .int, rfl, Or.inl rfl, rfl⟩
    · replace H := H.2 c14
      refine ew_iconst dX1_equal_31 (inI_of rfl) ?_
      refine ew_goto (tgt := 36) dX1_equal_32 (by decide) ?_
      refine ew_callV (d := d + 2) (as := [aI 1]) rfl dX1_equal_36 me_X1_fine rfl (ci := 0) rfl rfl xh_x (Or.inl q1032) q1034 qs24 (Nat.le_of_ble_eq_true rfl) (Nat.zero_le _) (Nat.zero_le _) (S_X1_fine (d := d + 2) H) (fun o h' hq21 _ => ?_) (fun E i h' q _ => (xQi_no q).elim)
      obtain ⟨r19, s20, E22, rfl, H⟩ := hq21
      cases E22
      refine ew_goto (tgt := 47) dX1_equal_39 (by decide) ?_
      exact ew_ret (o := some (aI r19)) rfl ⟨_, _, _, rfl, rfl, (eX.hup eX.rf rfl (hg _ rfl (Nat.le_refl _))), H⟩ ⟨dX1_equal_47, .int, rfl, Or.inl rfl, rfl⟩
def C_X1_equal (a : Int) (b : Int) (s0 : XS) (K : Int → XS → Prop) : Prop := B_X1_equal_E K a b s0
theorem S_X1_equal {d : Nat} {V : XV} {g : AH} {K : Int → XS → Prop} {a : Int} {b : Int} {s0 : XS} (hg : xf 3 g) (hr : xfree V g) (H : C_X1_equal a b s0 K) : Sp mm_X1_equal (d + 3) 1 2 [aR (some xT), aI a, aI b] (xh V s0 g) (xQi V g K) :=
  Sp.forget hr tQi_x (ew_sp rfl (Nat.le_of_ble_eq_true rfl) (T_X1_equal_E d V g hg hr K a b s0 (H )))
abbrev mm_X1_apart : EM := (yX1_apart, cX1_apart, 5, (Option.some .int), [])
theorem me_X1_apart : e_mth mm_X1_apart 2 := ⟨rfl, q1152, q108, by decide +kernel, by decide⟩
def B_X1_apart_26 (X26 : Int → Int → Int → XS → Prop) (K : Int → XS → Prop) (x1 : Int) (x2 : Int) (x3 : Int) (s0 : XS) : Prop :=
  (((s0.1.1 33) ≤ x3 → (C_X1_fine 0 s0 (fun r2 s3 => K r2 s3))) ∧ (¬ (s0.1.1 33) ≤ x3 → (((0 ≤ x3 ∧ x3 < s0.1.1 33) ∧ xok s0 3) ∧ ((0 ≤ x3 ∧ x3 < s0.1.1 43) ∧ ((0 ≤ x3 ∧ x3 < s0.1.1 43) ∧ (C_X3_areOne_G (s0.1.2 42 x3) x1 4 s0 (fun r9 => ((r9 = 0 → ((0 ≤ x3 ∧ x3 < s0.1.1 43) ∧ (C_X3_areOne_G (s0.1.2 42 x3) x2 4 s0 (fun r15 => ((r15 = 0 → (inI (x3 + 1) ∧ X26 x1 x2 (x3 + 1) s0)) ∧ (¬ r15 = 0 → ((0 ≤ x3 ∧ x3 < s0.1.1 43) ∧ (C_X3_areOne_G (s0.1.2 43 x3) x1 4 s0 (fun r22 => ((r22 = 0 → (inI (x3 + 1) ∧ X26 x1 x2 (x3 + 1) s0)) ∧ (¬ r22 = 0 → (C_X1_fine 1 s0 (fun r28 s29 => K r28 s29))))))))))))) ∧ (¬ r9 = 0 → ((0 ≤ x3 ∧ x3 < s0.1.1 43) ∧ (C_X3_areOne_G (s0.1.2 43 x3) x2 4 s0 (fun r33 => ((r33 = 0 → ((0 ≤ x3 ∧ x3 < s0.1.1 43) ∧ (C_X3_areOne_G (s0.1.2 42 x3) x2 4 s0 (fun r43 => ((r43 = 0 → (inI (x3 + 1) ∧ X26 x1 x2 (x3 + 1) s0)) ∧ (¬ r43 = 0 → ((0 ≤ x3 ∧ x3 < s0.1.1 43) ∧ (C_X3_areOne_G (s0.1.2 43 x3) x1 4 s0 (fun r50 => ((r50 = 0 → (inI (x3 + 1) ∧ X26 x1 x2 (x3 + 1) s0)) ∧ (¬ r50 = 0 → (C_X1_fine 1 s0 (fun r56 s57 => K r56 s57))))))))))))) ∧ (¬ r33 = 0 → (C_X1_fine 1 s0 (fun r38 s39 => K r38 s39))))))))))))))))
def B_X1_apart_E (X26 : Int → Int → Int → XS → Prop) (K : Int → XS → Prop) (a : Int) (b : Int) (s0 : XS) : Prop :=
  (C_X1_isTerm 2 (iup (iup (fun _ => 0) 0 a) 1 b) s0 (fun r1 => ((r1 = 0 → (C_X1_refused 1 s0 (fun r6 s7 => K r6 s7))) ∧ (¬ r1 = 0 → X26 a b 0 s0))))
def W_X1_apart_26 (d : Nat) (V : XV) (g : AH) (K : Int → XS → Prop) (x1 : Int) (x2 : Int) (x3 : Int) (s0 : XS) : Prop := ∀ g1, eX g g1 → EW mm_X1_apart (d + 3) 0 0 (tQi V g K) 26 [(0, aR (some xT)), (1, aI x1), (2, aI x2), (3, aI x3)] [] (xh V s0 g1)
set_option maxHeartbeats 4000000 in
theorem T_X1_apart_26 (d : Nat) (V : XV) (g : AH) (hg : xf 3 g) (hr : xfree V g) (K : Int → XS → Prop) (x1 : Int) (x2 : Int) (x3 : Int) (s0 : XS) (g1 : AH) (hx : eX g g1) (H : B_X1_apart_26 (W_X1_apart_26 d V g K) K x1 x2 x3 s0) : EW mm_X1_apart (d + 3) 0 0 (tQi V g K) 26 [(0, aR (some xT)), (1, aI x1), (2, aI x2), (3, aI x3)] [] (xh V s0 g1) := by
  refine ew_iload_n dX1_apart_26 rfl lm3 ?_
  refine ew_aload_n dX1_apart_27 rfl lm0 ?_
  refine xw_get (v := aR (some (bI V 1 0))) dX1_apart_28 (e_fl.a q333) xf_5 rfl ?_
  refine xw_book dX1_apart_31 (e_fl.c q197) bf_3 ?_
  refine lw_size (d := d + 2) (j := 3) dX1_apart_34 (by decide) q1030 (Nat.le_of_ble_eq_true rfl) ?_
  refine ew_icmp_ge (tgt := 136) dX1_apart_39 (by decide) (fun c1 => ?_) (fun c1 => ?_)
  · replace H := H.1 c1
    refine ew_aload_n dX1_apart_136 rfl lm0 ?_
    refine ew_iconst dX1_apart_137 (inI_of rfl) ?_
    refine ew_callV (d := d + 2) (as := [aI 0]) rfl dX1_apart_138 me_X1_fine rfl (ci := 0) rfl rfl xh_x (Or.inl q1032) q1034 qs24 (Nat.le_of_ble_eq_true rfl) (Nat.zero_le _) (Nat.zero_le _) (S_X1_fine (d := d + 2) H) (fun o h' hq4 _ => ?_) (fun E i h' q _ => (xQi_no q).elim)
    obtain ⟨r2, s3, E5, rfl, H⟩ := hq4
    cases E5
    exact ew_ret (o := some (aI r2)) rfl ⟨_, _, _, rfl, rfl, hx, H⟩ ⟨dX1_apart_141, .int, rfl, Or.inl rfl, rfl⟩
  · replace H := H.2 c1
    refine ew_aload_n dX1_apart_42 rfl lm0 ?_
    refine xw_get (v := aR (some (bI V 1 0))) dX1_apart_43 (e_fl.a q333) xf_5 rfl ?_
    refine xw_book dX1_apart_46 (e_fl.c q197) bf_3 ?_
    refine ew_iload_n dX1_apart_49 rfl lm3 ?_
    obtain ⟨v6, H⟩ := H
    refine lw_g3 (d := d + 0) dX1_apart_50 q1021 (Nat.le_of_ble_eq_true rfl) v6.1 v6.2 ?_
    obtain ⟨v7, H⟩ := H
    refine cd_cast (f := x3) dX1_apart_55 q1022 v7 ?_
    refine ew_astore dX1_apart_58 (by decide) (lv' := [(4, aR (some (bI V 13 (x3).toNat))), (0, aR (some xT)), (1, aI x1), (2, aI x2), (3, aI x3)]) rfl ?_
    refine ew_sub (List.forall_mem_cons.mpr ⟨lm1, (List.forall_mem_cons.mpr ⟨lm2, (List.forall_mem_cons.mpr ⟨lm3, (List.forall_mem_cons.mpr ⟨lm4, (List.forall_mem_cons.mpr ⟨lm0, e_nm⟩)⟩)⟩)⟩)⟩) ?_
    refine ew_aload_n dX1_apart_60 rfl lm0 ?_
    refine xw_get (v := aR (some (sI V 4 99))) dX1_apart_61 (e_fl.a q334) xf_6 rfl ?_
    refine ew_aload dX1_apart_64 lm4 ?_
    obtain ⟨v8, H⟩ := H
    refine gd_0 (f := x3) dX1_apart_66 (e_fl.c q865) sf_0 v8 ?_
    refine ew_iload_n dX1_apart_69 rfl lm1 ?_
    refine ew_callY (x := ⟨"ReasonCloser$Reasons", "areOne", "(II)Z"⟩) (d := d + 2) (as := [aI (s0.1.2 42 x3), aI x1]) rfl dX1_apart_70 me_X3_areOne rfl (by decide) rfl q1085 q1086 (ysel5_4 (P := fun c => Cond.selects c _ _ ∈ lw_all) q1087) q981 (Or.inl q978) (by decide) (Nat.le_of_ble_eq_true rfl) (Nat.zero_le _) (Nat.zero_le _) (S_X3_areOne_G (d := d + 2) (by decide) H) (fun o h' hq11 _ => ?_) (fun E i h' q _ => (cQ_no q).elim)
    obtain ⟨r9, E12, rfl, H⟩ := hq11
    cases E12
    refine ew_if_eq (tgt := 92) dX1_apart_73 (by decide) (fun c13 => ?_) (fun c13 => ?_)
    · replace H := H.1 c13
      refine ew_aload_n dX1_apart_92 rfl lm0 ?_
      refine xw_get (v := aR (some (sI V 4 99))) dX1_apart_93 (e_fl.a q334) xf_6 rfl ?_
      refine ew_aload dX1_apart_96 lm4 ?_
      obtain ⟨v14, H⟩ := H
      refine gd_0 (f := x3) dX1_apart_98 (e_fl.c q865) sf_0 v14 ?_
      refine ew_iload_n dX1_apart_101 rfl lm2 ?_
      refine ew_callY (x := ⟨"ReasonCloser$Reasons", "areOne", "(II)Z"⟩) (d := d + 2) (as := [aI (s0.1.2 42 x3), aI x2]) rfl dX1_apart_102 me_X3_areOne rfl (by decide) rfl q1085 q1086 (ysel5_4 (P := fun c => Cond.selects c _ _ ∈ lw_all) q1087) q981 (Or.inl q978) (by decide) (Nat.le_of_ble_eq_true rfl) (Nat.zero_le _) (Nat.zero_le _) (S_X3_areOne_G (d := d + 2) (by decide) H) (fun o h' hq17 _ => ?_) (fun E i h' q _ => (cQ_no q).elim)
      obtain ⟨r15, E18, rfl, H⟩ := hq17
      cases E18
      refine ew_if_eq (tgt := 130) dX1_apart_105 (by decide) (fun c19 => ?_) (fun c19 => ?_)
      · replace H := H.1 c19
        obtain ⟨v20, H⟩ := H
        refine ew_iinc dX1_apart_130 lm3 (by decide) v20 (lv' := [(3, aI (x3 + 1)), (0, aR (some xT)), (1, aI x1), (2, aI x2), (4, aR (some (bI V 13 (x3).toNat)))]) rfl ?_
        refine ew_sub (List.forall_mem_cons.mpr ⟨lm1, (List.forall_mem_cons.mpr ⟨lm2, (List.forall_mem_cons.mpr ⟨lm3, (List.forall_mem_cons.mpr ⟨lm0, (List.forall_mem_cons.mpr ⟨lm4, e_nm⟩)⟩)⟩)⟩)⟩) ?_
        refine ew_goto (tgt := 26) dX1_apart_133 (by decide) ?_
        exact ew_room (Nat.le_refl _) (Nat.zero_le _) (Nat.zero_le _) (ew_sub (List.forall_mem_cons.mpr ⟨lm0, (List.forall_mem_cons.mpr ⟨lm1, (List.forall_mem_cons.mpr ⟨lm2, (List.forall_mem_cons.mpr ⟨lm3, e_nm⟩)⟩)⟩)⟩) (H _ hx))
      · replace H := H.2 c19
        refine ew_aload_n dX1_apart_108 rfl lm0 ?_
        refine xw_get (v := aR (some (sI V 4 99))) dX1_apart_109 (e_fl.a q334) xf_6 rfl ?_
        refine ew_aload dX1_apart_112 lm4 ?_
        obtain ⟨v21, H⟩ := H
        refine gd_1 (f := x3) dX1_apart_114 (e_fl.c q867) sf_1 v21 ?_
        refine ew_iload_n dX1_apart_117 rfl lm1 ?_
        refine ew_callY (x := ⟨"ReasonCloser$Reasons", "areOne", "(II)Z"⟩) (d := d + 2) (as := [aI (s0.1.2 43 x3), aI x1]) rfl dX1_apart_118 me_X3_areOne rfl (by decide) rfl q1085 q1086 (ysel5_4 (P := fun c => Cond.selects c _ _ ∈ lw_all) q1087) q981 (Or.inl q978) (by decide) (Nat.le_of_ble_eq_true rfl) (Nat.zero_le _) (Nat.zero_le _) (S_X3_areOne_G (d := d + 2) (by decide) H) (fun o h' hq24 _ => ?_) (fun E i h' q _ => (cQ_no q).elim)
        obtain ⟨r22, E25, rfl, H⟩ := hq24
        cases E25
        refine ew_if_eq (tgt := 130) dX1_apart_121 (by decide) (fun c26 => ?_) (fun c26 => ?_)
        · replace H := H.1 c26
          obtain ⟨v27, H⟩ := H
          refine ew_iinc dX1_apart_130 lm3 (by decide) v27 (lv' := [(3, aI (x3 + 1)), (0, aR (some xT)), (1, aI x1), (2, aI x2), (4, aR (some (bI V 13 (x3).toNat)))]) rfl ?_
          refine ew_sub (List.forall_mem_cons.mpr ⟨lm1, (List.forall_mem_cons.mpr ⟨lm2, (List.forall_mem_cons.mpr ⟨lm3, (List.forall_mem_cons.mpr ⟨lm0, (List.forall_mem_cons.mpr ⟨lm4, e_nm⟩)⟩)⟩)⟩)⟩) ?_
          refine ew_goto (tgt := 26) dX1_apart_133 (by decide) ?_
          exact ew_room (Nat.le_refl _) (Nat.zero_le _) (Nat.zero_le _) (ew_sub (List.forall_mem_cons.mpr ⟨lm0, (List.forall_mem_cons.mpr ⟨lm1, (List.forall_mem_cons.mpr ⟨lm2, (List.forall_mem_cons.mpr ⟨lm3, e_nm⟩)⟩)⟩)⟩) (H _ hx))
        · replace H := H.2 c26
          refine ew_aload_n dX1_apart_124 rfl lm0 ?_
          refine ew_iconst dX1_apart_125 (inI_of rfl) ?_
          refine ew_callV (d := d + 2) (as := [aI 1]) rfl dX1_apart_126 me_X1_fine rfl (ci := 0) rfl rfl xh_x (Or.inl q1032) q1034 qs24 (Nat.le_of_ble_eq_true rfl) (Nat.zero_le _) (Nat.zero_le _) (S_X1_fine (d := d + 2) H) (fun o h' hq30 _ => ?_) (fun E i h' q _ => (xQi_no q).elim)
          obtain ⟨r28, s29, E31, rfl, H⟩ := hq30
          cases E31
          exact ew_ret (o := some (aI r28)) rfl ⟨_, _, _, rfl, rfl, hx, H⟩ ⟨dX1_apart_129, .int, rfl, Or.inl rfl, rfl⟩
    · replace H := H.2 c13
      refine ew_aload_n dX1_apart_76 rfl lm0 ?_
      refine xw_get (v := aR (some (sI V 4 99))) dX1_apart_77 (e_fl.a q334) xf_6 rfl ?_
      refine ew_aload dX1_apart_80 lm4 ?_
      obtain ⟨v32, H⟩ := H
      refine gd_1 (f := x3) dX1_apart_82 (e_fl.c q867) sf_1 v32 ?_
      refine ew_iload_n dX1_apart_85 rfl lm2 ?_
      refine ew_callY (x := ⟨"ReasonCloser$Reasons", "areOne", "(II)Z"⟩) (d := d + 2) (as := [aI (s0.1.2 43 x3), aI x2]) rfl dX1_apart_86 me_X3_areOne rfl (by decide) rfl q1085 q1086 (ysel5_4 (P := fun c => Cond.selects c _ _ ∈ lw_all) q1087) q981 (Or.inl q978) (by decide) (Nat.le_of_ble_eq_true rfl) (Nat.zero_le _) (Nat.zero_le _) (S_X3_areOne_G (d := d + 2) (by decide) H) (fun o h' hq35 _ => ?_) (fun E i h' q _ => (cQ_no q).elim)
      obtain ⟨r33, E36, rfl, H⟩ := hq35
      cases E36
      refine ew_if_ne (tgt := 124) dX1_apart_89 (by decide) (fun c37 => ?_) (fun c37 => ?_)
      · replace H := H.2 c37
        refine ew_aload_n dX1_apart_124 rfl lm0 ?_
        refine ew_iconst dX1_apart_125 (inI_of rfl) ?_
        refine ew_callV (d := d + 2) (as := [aI 1]) rfl dX1_apart_126 me_X1_fine rfl (ci := 0) rfl rfl xh_x (Or.inl q1032) q1034 qs24 (Nat.le_of_ble_eq_true rfl) (Nat.zero_le _) (Nat.zero_le _) (S_X1_fine (d := d + 2) H) (fun o h' hq40 _ => ?_) (fun E i h' q _ => (xQi_no q).elim)
        obtain ⟨r38, s39, E41, rfl, H⟩ := hq40
        cases E41
        exact ew_ret (o := some (aI r38)) rfl ⟨_, _, _, rfl, rfl, hx, H⟩ ⟨dX1_apart_129, .int, rfl, Or.inl rfl, rfl⟩
      · replace H := H.1 c37
        refine ew_aload_n dX1_apart_92 rfl lm0 ?_
        refine xw_get (v := aR (some (sI V 4 99))) dX1_apart_93 (e_fl.a q334) xf_6 rfl ?_
        refine ew_aload dX1_apart_96 lm4 ?_
        obtain ⟨v42, H⟩ := H
        refine gd_0 (f := x3) dX1_apart_98 (e_fl.c q865) sf_0 v42 ?_
        refine ew_iload_n dX1_apart_101 rfl lm2 ?_
        refine ew_callY (x := ⟨"ReasonCloser$Reasons", "areOne", "(II)Z"⟩) (d := d + 2) (as := [aI (s0.1.2 42 x3), aI x2]) rfl dX1_apart_102 me_X3_areOne rfl (by decide) rfl q1085 q1086 (ysel5_4 (P := fun c => Cond.selects c _ _ ∈ lw_all) q1087) q981 (Or.inl q978) (by decide) (Nat.le_of_ble_eq_true rfl) (Nat.zero_le _) (Nat.zero_le _) (S_X3_areOne_G (d := d + 2) (by decide) H) (fun o h' hq45 _ => ?_) (fun E i h' q _ => (cQ_no q).elim)
        obtain ⟨r43, E46, rfl, H⟩ := hq45
        cases E46
        refine ew_if_eq (tgt := 130) dX1_apart_105 (by decide) (fun c47 => ?_) (fun c47 => ?_)
        · replace H := H.1 c47
          obtain ⟨v48, H⟩ := H
          refine ew_iinc dX1_apart_130 lm3 (by decide) v48 (lv' := [(3, aI (x3 + 1)), (0, aR (some xT)), (1, aI x1), (2, aI x2), (4, aR (some (bI V 13 (x3).toNat)))]) rfl ?_
          refine ew_sub (List.forall_mem_cons.mpr ⟨lm1, (List.forall_mem_cons.mpr ⟨lm2, (List.forall_mem_cons.mpr ⟨lm3, (List.forall_mem_cons.mpr ⟨lm0, (List.forall_mem_cons.mpr ⟨lm4, e_nm⟩)⟩)⟩)⟩)⟩) ?_
          refine ew_goto (tgt := 26) dX1_apart_133 (by decide) ?_
          exact ew_room (Nat.le_refl _) (Nat.zero_le _) (Nat.zero_le _) (ew_sub (List.forall_mem_cons.mpr ⟨lm0, (List.forall_mem_cons.mpr ⟨lm1, (List.forall_mem_cons.mpr ⟨lm2, (List.forall_mem_cons.mpr ⟨lm3, e_nm⟩)⟩)⟩)⟩) (H _ hx))
        · replace H := H.2 c47
          refine ew_aload_n dX1_apart_108 rfl lm0 ?_
          refine xw_get (v := aR (some (sI V 4 99))) dX1_apart_109 (e_fl.a q334) xf_6 rfl ?_
          refine ew_aload dX1_apart_112 lm4 ?_
          obtain ⟨v49, H⟩ := H
          refine gd_1 (f := x3) dX1_apart_114 (e_fl.c q867) sf_1 v49 ?_
          refine ew_iload_n dX1_apart_117 rfl lm1 ?_
          refine ew_callY (x := ⟨"ReasonCloser$Reasons", "areOne", "(II)Z"⟩) (d := d + 2) (as := [aI (s0.1.2 43 x3), aI x1]) rfl dX1_apart_118 me_X3_areOne rfl (by decide) rfl q1085 q1086 (ysel5_4 (P := fun c => Cond.selects c _ _ ∈ lw_all) q1087) q981 (Or.inl q978) (by decide) (Nat.le_of_ble_eq_true rfl) (Nat.zero_le _) (Nat.zero_le _) (S_X3_areOne_G (d := d + 2) (by decide) H) (fun o h' hq52 _ => ?_) (fun E i h' q _ => (cQ_no q).elim)
          obtain ⟨r50, E53, rfl, H⟩ := hq52
          cases E53
          refine ew_if_eq (tgt := 130) dX1_apart_121 (by decide) (fun c54 => ?_) (fun c54 => ?_)
          · replace H := H.1 c54
            obtain ⟨v55, H⟩ := H
            refine ew_iinc dX1_apart_130 lm3 (by decide) v55 (lv' := [(3, aI (x3 + 1)), (0, aR (some xT)), (1, aI x1), (2, aI x2), (4, aR (some (bI V 13 (x3).toNat)))]) rfl ?_
            refine ew_sub (List.forall_mem_cons.mpr ⟨lm1, (List.forall_mem_cons.mpr ⟨lm2, (List.forall_mem_cons.mpr ⟨lm3, (List.forall_mem_cons.mpr ⟨lm0, (List.forall_mem_cons.mpr ⟨lm4, e_nm⟩)⟩)⟩)⟩)⟩) ?_
            refine ew_goto (tgt := 26) dX1_apart_133 (by decide) ?_
            exact ew_room (Nat.le_refl _) (Nat.zero_le _) (Nat.zero_le _) (ew_sub (List.forall_mem_cons.mpr ⟨lm0, (List.forall_mem_cons.mpr ⟨lm1, (List.forall_mem_cons.mpr ⟨lm2, (List.forall_mem_cons.mpr ⟨lm3, e_nm⟩)⟩)⟩)⟩) (H _ hx))
          · replace H := H.2 c54
            refine ew_aload_n dX1_apart_124 rfl lm0 ?_
            refine ew_iconst dX1_apart_125 (inI_of rfl) ?_
            refine ew_callV (d := d + 2) (as := [aI 1]) rfl dX1_apart_126 me_X1_fine rfl (ci := 0) rfl rfl xh_x (Or.inl q1032) q1034 qs24 (Nat.le_of_ble_eq_true rfl) (Nat.zero_le _) (Nat.zero_le _) (S_X1_fine (d := d + 2) H) (fun o h' hq58 _ => ?_) (fun E i h' q _ => (xQi_no q).elim)
            obtain ⟨r56, s57, E59, rfl, H⟩ := hq58
            cases E59
            exact ew_ret (o := some (aI r56)) rfl ⟨_, _, _, rfl, rfl, hx, H⟩ ⟨dX1_apart_129, .int, rfl, Or.inl rfl, rfl⟩
set_option maxHeartbeats 4000000 in
theorem T_X1_apart_E (d : Nat) (V : XV) (g : AH) (hg : xf 3 g) (hr : xfree V g) (K : Int → XS → Prop) (a : Int) (b : Int) (s0 : XS) (H : B_X1_apart_E (W_X1_apart_26 d V g K) K a b s0) : EW mm_X1_apart (d + 3) 1 2 (tQi V g K) 0 [(0, aR (some xT)), (1, aI a), (2, aI b)] [] (xh V s0 g) := by
  refine ew_aload_n dX1_apart_0 rfl lm0 ?_
  refine ew_iconst dX1_apart_1 (inI_of rfl) ?_
  refine ew_newIB (t := 0) (N := 2) (i := (1, 3, 0)) dX1_apart_2 rfl (by decide) q302 rfl (by decide) ((xh_g (xC_1 rfl)).trans (hg _ rfl (Nat.le_refl _))) (by decide) (Nat.le_of_ble_eq_true rfl) (Nat.le_of_ble_eq_true rfl) ?_
  rw [xh_upg (xC_1 rfl)]
  refine ew_dup dX1_apart_4 rfl ?_
  refine ew_iconst dX1_apart_5 (inI_of rfl) ?_
  refine ew_iload_n dX1_apart_6 rfl lm1 ?_
  refine ew_iast dX1_apart_7 ((xh_g (xC_1 rfl)).trans (hup_self _ _ _)) (by decide) (by decide) ?_
  rw [xh_upg (xC_1 rfl), hup_hup]
  refine ew_dup dX1_apart_8 rfl ?_
  refine ew_iconst dX1_apart_9 (inI_of rfl) ?_
  refine ew_iload_n dX1_apart_10 rfl lm2 ?_
  refine ew_iast dX1_apart_11 ((xh_g (xC_1 rfl)).trans (hup_self _ _ _)) (by decide) (by decide) ?_
  rw [xh_upg (xC_1 rfl), hup_hup]
  refine ew_callV (d := d + 2) (as := [aR (some (1, 3, 0))]) rfl dX1_apart_12 me_X1_isTerm rfl (ci := 0) rfl rfl xh_x (Or.inl q1081) q1083 qs29 (Nat.le_of_ble_eq_true rfl) (Nat.zero_le _) (Nat.zero_le _) (S_X1_isTerm (d := d + 0) ((xh_g (xC_1 rfl)).trans (hup_self _ _ _)) (by decide) H) (fun o h' hq3 _ => ?_) (fun E i h' q _ => (cQ_no q).elim)
  obtain ⟨r1, E4, rfl, H⟩ := hq3
  cases E4
  refine ew_if_ne (tgt := 24) dX1_apart_15 (by decide) (fun c5 => ?_) (fun c5 => ?_)
  · replace H := H.2 c5
    refine ew_iconst dX1_apart_24 (inI_of rfl) ?_
    refine ew_istore_n dX1_apart_25 rfl (by decide) (lv' := [(3, aI 0), (0, aR (some xT)), (1, aI a), (2, aI b)]) rfl ?_
    refine ew_sub (List.forall_mem_cons.mpr ⟨lm1, (List.forall_mem_cons.mpr ⟨lm2, (List.forall_mem_cons.mpr ⟨lm3, (List.forall_mem_cons.mpr ⟨lm0, e_nm⟩)⟩)⟩)⟩) ?_
    exact ew_room (Nat.le_refl _) (Nat.zero_le _) (Nat.zero_le _) (ew_sub (List.forall_mem_cons.mpr ⟨lm0, (List.forall_mem_cons.mpr ⟨lm1, (List.forall_mem_cons.mpr ⟨lm2, (List.forall_mem_cons.mpr ⟨lm3, e_nm⟩)⟩)⟩)⟩) (H _ (eX.hup eX.rf rfl (hg _ rfl (Nat.le_refl _)))))
  · replace H := H.1 c5
    refine ew_aload_n dX1_apart_18 rfl lm0 ?_
    refine ew_iconst dX1_apart_19 (inI_of rfl) ?_
    refine ew_callV (d := d + 2) (as := [aI 1]) rfl dX1_apart_20 me_X1_refused rfl (ci := 0) rfl rfl xh_x (Or.inl q406) q408 qs1 (Nat.le_of_ble_eq_true rfl) (Nat.zero_le _) (Nat.zero_le _) (S_X1_refused (d := d + 2) H) (fun o h' hq8 _ => ?_) (fun E i h' q _ => (xQi_no q).elim)
    obtain ⟨r6, s7, E9, rfl, H⟩ := hq8
    cases E9
    exact ew_ret (o := some (aI r6)) rfl ⟨_, _, _, rfl, rfl, (eX.hup eX.rf rfl (hg _ rfl (Nat.le_refl _))), H⟩ ⟨dX1_apart_23, .int, rfl, Or.inl rfl, rfl⟩
def C_X1_apart (a : Int) (b : Int) (s0 : XS) (K : Int → XS → Prop) : Prop := ∀ (X26 : Int → Int → Int → XS → Prop), (∀ (x1 : Int) (x2 : Int) (x3 : Int) (s0 : XS), B_X1_apart_26 X26 K x1 x2 x3 s0 → X26 x1 x2 x3 s0) → B_X1_apart_E X26 K a b s0
theorem S_X1_apart {d : Nat} {V : XV} {g : AH} {K : Int → XS → Prop} {a : Int} {b : Int} {s0 : XS} (hg : xf 3 g) (hr : xfree V g) (H : C_X1_apart a b s0 K) : Sp mm_X1_apart (d + 3) 1 2 [aR (some xT), aI a, aI b] (xh V s0 g) (xQi V g K) :=
  Sp.forget hr tQi_x (ew_sp rfl (Nat.le_of_ble_eq_true rfl) (T_X1_apart_E d V g hg hr K a b s0 (H _ (fun x1 x2 x3 s0 H g1 hx => T_X1_apart_26 d V g hg hr K x1 x2 x3 s0 g1 hx H))))
