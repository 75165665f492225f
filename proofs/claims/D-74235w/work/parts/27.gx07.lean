/-! ReasonCloser: methods as predicates, by program (gen/gxx.py) -/
set_option maxRecDepth 100000
abbrev mm_X1_pruned : EM := (yX1_pruned, cX1_pruned, 6, (Option.some .int), [])
theorem me_X1_pruned : e_mth mm_X1_pruned 2 := ⟨rfl, q1183, q108, by decide +kernel, by decide⟩
def B_X1_pruned_31 (X31 : Int → Int → Int → Int → XS → Prop) (K : Int → XS → Prop) (x1 : Int) (x2 : Int) (x4 : Int) (x5 : Int) (s0 : XS) : Prop :=
  ((x5 < 0 → (C_X1_fine x4 s0 (fun r2 s3 => K r2 s3))) ∧ (¬ x5 < 0 → (C_X1_by (jand x4 (jxor (jshl 1 x5) (-1))) s0 (fun s7 => (C_X3_areOne_G x1 x2 3 s7 (fun r10 => ((r10 = 0 → (inI (x5 + (-1)) ∧ X31 x1 x2 x4 (x5 + (-1)) s7)) ∧ (¬ r10 = 0 → (inI (x5 + (-1)) ∧ X31 x1 x2 (jand x4 (jxor (jshl 1 x5) (-1))) (x5 + (-1)) s7)))))))))
def B_X1_pruned_E (X31 : Int → Int → Int → Int → XS → Prop) (K : Int → XS → Prop) (a : Int) (b : Int) (s0 : XS) : Prop :=
  (C_X1_why a b s0 (fun r1 => ((r1 ≤ 0 → (C_X1_every s0 (fun r6 => (C_X1_sames s0 (fun r10 => ((inI (r10 - 1)) ∧ X31 a b r6 (r10 - 1) s0)))))) ∧ (¬ r1 ≤ 0 → (C_X1_refused r1 s0 (fun r15 s16 => K r15 s16))))))
def W_X1_pruned_31 (d : Nat) (V : XV) (g : AH) (K : Int → XS → Prop) (x1 : Int) (x2 : Int) (x4 : Int) (x5 : Int) (s0 : XS) : Prop := ∀ g1, eX g g1 → EW mm_X1_pruned (d + 8) 0 0 (tQi V g K) 31 [(0, aR (some xT)), (1, aI x1), (2, aI x2), (4, aI x4), (5, aI x5)] [] (xh V s0 g1)
set_option maxHeartbeats 4000000 in
theorem T_X1_pruned_31 (d : Nat) (V : XV) (g : AH) (hg : xf 8 g) (hr : xfree V g) (K : Int → XS → Prop) (x1 : Int) (x2 : Int) (x4 : Int) (x5 : Int) (s0 : XS) (g1 : AH) (hx : eX g g1) (H : B_X1_pruned_31 (W_X1_pruned_31 d V g K) K x1 x2 x4 x5 s0) : EW mm_X1_pruned (d + 8) 0 0 (tQi V g K) 31 [(0, aR (some xT)), (1, aI x1), (2, aI x2), (4, aI x4), (5, aI x5)] [] (xh V s0 g1) := by
  refine ew_iload dX1_pruned_31 lm4 ?_
  refine ew_if_lt (tgt := 74) dX1_pruned_33 (by decide) (fun c1 => ?_) (fun c1 => ?_)
  · replace H := H.1 c1
    refine ew_aload_n dX1_pruned_74 rfl lm0 ?_
    refine ew_iload dX1_pruned_75 lm3 ?_
    refine ew_callV (d := d + 7) (as := [aI x4]) rfl dX1_pruned_77 me_X1_fine rfl (ci := 0) rfl rfl xh_x (Or.inl q1032) q1034 qs24 (Nat.le_of_ble_eq_true rfl) (Nat.zero_le _) (Nat.zero_le _) (S_X1_fine (d := d + 7) H) (fun o h' hq4 _ => ?_) (fun E i h' q _ => (xQi_no q).elim)
    obtain ⟨r2, s3, E5, rfl, H⟩ := hq4
    cases E5
    exact ew_ret (o := some (aI r2)) rfl ⟨_, _, _, rfl, rfl, hx, H⟩ ⟨dX1_pruned_80, .int, rfl, Or.inl rfl, rfl⟩
  · replace H := H.2 c1
    refine ew_aload_n dX1_pruned_36 rfl lm0 ?_
    refine ew_iload dX1_pruned_37 lm3 ?_
    refine ew_iconst dX1_pruned_39 (inI_of rfl) ?_
    refine ew_iload dX1_pruned_40 lm4 ?_
    refine ew_ishl dX1_pruned_42 ?_
    refine ew_iconst dX1_pruned_43 (inI_of rfl) ?_
    refine ew_ixor dX1_pruned_44 ?_
    refine ew_iand dX1_pruned_45 ?_
    refine ew_callV (d := d + 7) (as := [aI (jand x4 (jxor (jshl 1 x5) (-1)))]) rfl dX1_pruned_46 me_X1_by rfl (ci := 0) rfl rfl xh_x (Or.inl q1113) q1115 qs34 (Nat.le_of_ble_eq_true rfl) (Nat.zero_le _) (Nat.zero_le _) (S_X1_by (d := d + 0) H) (fun o h' hq8 _ => ?_) (fun E i h' q _ => (xQp_no q).elim)
    obtain ⟨s7, E9, rfl, H⟩ := hq8
    cases E9
    refine ew_iload_n dX1_pruned_49 rfl lm1 ?_
    refine ew_iload_n dX1_pruned_50 rfl lm2 ?_
    refine ew_callY (x := ⟨"ReasonCloser$Closed", "areOne", "(II)Z"⟩) (d := d + 7) (as := [aI x1, aI x2]) rfl dX1_pruned_51 me_X3_areOne rfl (by decide) rfl q1128 q977 (ysel4_3 (P := fun c => Cond.selects c _ _ ∈ lw_all) q979) q981 (Or.inl q978) (by decide) (Nat.le_of_ble_eq_true rfl) (Nat.zero_le _) (Nat.zero_le _) (S_X3_areOne_G (d := d + 7) (by decide) H) (fun o h' hq12 _ => ?_) (fun E i h' q _ => (cQ_no q).elim)
    obtain ⟨r10, E13, rfl, H⟩ := hq12
    cases E13
    refine ew_if_eq (tgt := 68) dX1_pruned_54 (by decide) (fun c14 => ?_) (fun c14 => ?_)
    · replace H := H.1 c14
      obtain ⟨v15, H⟩ := H
      refine ew_iinc dX1_pruned_68 lm4 (by decide) v15 (lv' := [(5, aI (x5 + (-1))), (0, aR (some xT)), (1, aI x1), (2, aI x2), (4, aI x4)]) rfl ?_
      refine ew_sub (List.forall_mem_cons.mpr ⟨lm1, (List.forall_mem_cons.mpr ⟨lm2, (List.forall_mem_cons.mpr ⟨lm3, (List.forall_mem_cons.mpr ⟨lm4, (List.forall_mem_cons.mpr ⟨lm0, e_nm⟩)⟩)⟩)⟩)⟩) ?_
      refine ew_goto (tgt := 31) dX1_pruned_71 (by decide) ?_
      exact ew_room (Nat.le_refl _) (Nat.zero_le _) (Nat.zero_le _) (ew_sub (List.forall_mem_cons.mpr ⟨lm0, (List.forall_mem_cons.mpr ⟨lm1, (List.forall_mem_cons.mpr ⟨lm2, (List.forall_mem_cons.mpr ⟨lm3, (List.forall_mem_cons.mpr ⟨lm4, e_nm⟩)⟩)⟩)⟩)⟩) (H _ hx))
    · replace H := H.2 c14
      refine ew_iload dX1_pruned_57 lm3 ?_
      refine ew_iconst dX1_pruned_59 (inI_of rfl) ?_
      refine ew_iload dX1_pruned_60 lm4 ?_
      refine ew_ishl dX1_pruned_62 ?_
      refine ew_iconst dX1_pruned_63 (inI_of rfl) ?_
      refine ew_ixor dX1_pruned_64 ?_
      refine ew_iand dX1_pruned_65 ?_
      refine ew_istore dX1_pruned_66 (by decide) (lv' := [(4, aI (jand x4 (jxor (jshl 1 x5) (-1)))), (0, aR (some xT)), (1, aI x1), (2, aI x2), (5, aI x5)]) rfl ?_
      refine ew_sub (List.forall_mem_cons.mpr ⟨lm1, (List.forall_mem_cons.mpr ⟨lm2, (List.forall_mem_cons.mpr ⟨lm3, (List.forall_mem_cons.mpr ⟨lm0, (List.forall_mem_cons.mpr ⟨lm4, e_nm⟩)⟩)⟩)⟩)⟩) ?_
      obtain ⟨v16, H⟩ := H
      refine ew_iinc dX1_pruned_68 lm4 (by decide) v16 (lv' := [(5, aI (x5 + (-1))), (0, aR (some xT)), (1, aI x1), (2, aI x2), (4, aI (jand x4 (jxor (jshl 1 x5) (-1))))]) rfl ?_
      refine ew_sub (List.forall_mem_cons.mpr ⟨lm1, (List.forall_mem_cons.mpr ⟨lm2, (List.forall_mem_cons.mpr ⟨lm3, (List.forall_mem_cons.mpr ⟨lm4, (List.forall_mem_cons.mpr ⟨lm0, e_nm⟩)⟩)⟩)⟩)⟩) ?_
      refine ew_goto (tgt := 31) dX1_pruned_71 (by decide) ?_
      exact ew_room (Nat.le_refl _) (Nat.zero_le _) (Nat.zero_le _) (ew_sub (List.forall_mem_cons.mpr ⟨lm0, (List.forall_mem_cons.mpr ⟨lm1, (List.forall_mem_cons.mpr ⟨lm2, (List.forall_mem_cons.mpr ⟨lm3, (List.forall_mem_cons.mpr ⟨lm4, e_nm⟩)⟩)⟩)⟩)⟩) (H _ hx))
set_option maxHeartbeats 4000000 in
theorem T_X1_pruned_E (d : Nat) (V : XV) (g : AH) (hg : xf 8 g) (hr : xfree V g) (K : Int → XS → Prop) (a : Int) (b : Int) (s0 : XS) (H : B_X1_pruned_E (W_X1_pruned_31 d V g K) K a b s0) : EW mm_X1_pruned (d + 8) 1 2 (tQi V g K) 0 [(0, aR (some xT)), (1, aI a), (2, aI b)] [] (xh V s0 g) := by
  refine ew_aload_n dX1_pruned_0 rfl lm0 ?_
  refine ew_iload_n dX1_pruned_1 rfl lm1 ?_
  refine ew_iload_n dX1_pruned_2 rfl lm2 ?_
  refine ew_callV (d := d + 7) (as := [aI a, aI b]) rfl dX1_pruned_3 me_X1_why rfl (ci := 0) rfl rfl xh_x (Or.inl q1157) q1159 qs35 (Nat.le_of_ble_eq_true rfl) (Nat.le_of_ble_eq_true rfl) (Nat.le_of_ble_eq_true rfl) (S_X1_why (d := d + 4) (xf.le hg (Nat.le_of_ble_eq_true rfl)) hr H) (fun o h' hq3 _ => ?_) (fun E i h' q _ => (cQ_no q).elim)
  obtain ⟨r1, E4, rfl, H⟩ := hq3
  cases E4
  refine ew_istore_n dX1_pruned_6 rfl (by decide) (lv' := [(3, aI r1), (0, aR (some xT)), (1, aI a), (2, aI b)]) rfl ?_
  refine ew_sub (List.forall_mem_cons.mpr ⟨lm1, (List.forall_mem_cons.mpr ⟨lm2, (List.forall_mem_cons.mpr ⟨lm3, (List.forall_mem_cons.mpr ⟨lm0, e_nm⟩)⟩)⟩)⟩) ?_
  refine ew_iload_n dX1_pruned_7 rfl lm3 ?_
  refine ew_if_le (tgt := 17) dX1_pruned_8 (by decide) (fun c5 => ?_) (fun c5 => ?_)
  · replace H := H.1 c5
    refine ew_aload_n dX1_pruned_17 rfl lm0 ?_
    refine ew_callV (d := d + 7) (as := []) rfl dX1_pruned_18 me_X1_every rfl (ci := 0) rfl rfl xh_x (Or.inl q1109) q1111 qs33 (Nat.le_of_ble_eq_true rfl) (Nat.zero_le _) (Nat.zero_le _) (S_X1_every (d := d + 5) H) (fun o h' hq8 _ => ?_) (fun E i h' q _ => (cQ_no q).elim)
    obtain ⟨r6, E9, rfl, H⟩ := hq8
    cases E9
    refine ew_istore dX1_pruned_21 (by decide) (lv' := [(4, aI r6), (0, aR (some xT)), (1, aI a), (2, aI b), (3, aI r1)]) rfl ?_
    refine ew_sub (List.forall_mem_cons.mpr ⟨lm1, (List.forall_mem_cons.mpr ⟨lm2, (List.forall_mem_cons.mpr ⟨lm3, (List.forall_mem_cons.mpr ⟨lm4, (List.forall_mem_cons.mpr ⟨lm0, e_nm⟩)⟩)⟩)⟩)⟩) ?_
    refine ew_aload_n dX1_pruned_23 rfl lm0 ?_
    refine ew_callV (d := d + 7) (as := []) rfl dX1_pruned_24 me_X1_sames rfl (ci := 0) rfl rfl xh_x (Or.inl q1052) q1054 qs26 (Nat.le_of_ble_eq_true rfl) (Nat.zero_le _) (Nat.zero_le _) (S_X1_sames (d := d + 6) H) (fun o h' hq12 _ => ?_) (fun E i h' q _ => (cQ_no q).elim)
    obtain ⟨r10, E13, rfl, H⟩ := hq12
    cases E13
    refine ew_iconst dX1_pruned_27 (inI_of rfl) ?_
    obtain ⟨v14, H⟩ := H
    refine ew_isub dX1_pruned_28 v14 ?_
    refine ew_istore dX1_pruned_29 (by decide) (lv' := [(5, aI (r10 - 1)), (0, aR (some xT)), (1, aI a), (2, aI b), (3, aI r1), (4, aI r6)]) rfl ?_
    refine ew_sub (List.forall_mem_cons.mpr ⟨lm1, (List.forall_mem_cons.mpr ⟨lm2, (List.forall_mem_cons.mpr ⟨lm3, (List.forall_mem_cons.mpr ⟨lm4, (List.forall_mem_cons.mpr ⟨lm5, (List.forall_mem_cons.mpr ⟨lm0, e_nm⟩)⟩)⟩)⟩)⟩)⟩) ?_
    exact ew_room (Nat.le_refl _) (Nat.zero_le _) (Nat.zero_le _) (ew_sub (List.forall_mem_cons.mpr ⟨lm0, (List.forall_mem_cons.mpr ⟨lm1, (List.forall_mem_cons.mpr ⟨lm2, (List.forall_mem_cons.mpr ⟨lm4, (List.forall_mem_cons.mpr ⟨lm5, e_nm⟩)⟩)⟩)⟩)⟩) (H _ eX.rf))
  · replace H := H.2 c5
    refine ew_aload_n dX1_pruned_11 rfl lm0 ?_
    refine ew_iload_n dX1_pruned_12 rfl lm3 ?_
    refine ew_callV (d := d + 7) (as := [aI r1]) rfl dX1_pruned_13 me_X1_refused rfl (ci := 0) rfl rfl xh_x (Or.inl q406) q408 qs1 (Nat.le_of_ble_eq_true rfl) (Nat.zero_le _) (Nat.zero_le _) (S_X1_refused (d := d + 7) H) (fun o h' hq17 _ => ?_) (fun E i h' q _ => (xQi_no q).elim)
    obtain ⟨r15, s16, E18, rfl, H⟩ := hq17
    cases E18
    exact ew_ret (o := some (aI r15)) rfl ⟨_, _, _, rfl, rfl, eX.rf, H⟩ ⟨dX1_pruned_16, .int, rfl, Or.inl rfl, rfl⟩
def C_X1_pruned (a : Int) (b : Int) (s0 : XS) (K : Int → XS → Prop) : Prop := ∀ (X31 : Int → Int → Int → Int → XS → Prop), (∀ (x1 : Int) (x2 : Int) (x4 : Int) (x5 : Int) (s0 : XS), B_X1_pruned_31 X31 K x1 x2 x4 x5 s0 → X31 x1 x2 x4 x5 s0) → B_X1_pruned_E X31 K a b s0
theorem S_X1_pruned {d : Nat} {V : XV} {g : AH} {K : Int → XS → Prop} {a : Int} {b : Int} {s0 : XS} (hg : xf 8 g) (hr : xfree V g) (H : C_X1_pruned a b s0 K) : Sp mm_X1_pruned (d + 8) 1 2 [aR (some xT), aI a, aI b] (xh V s0 g) (xQi V g K) :=
  Sp.forget hr tQi_x (ew_sp rfl (Nat.le_of_ble_eq_true rfl) (T_X1_pruned_E d V g hg hr K a b s0 (H _ (fun x1 x2 x4 x5 s0 H g1 hx => T_X1_pruned_31 d V g hg hr K x1 x2 x4 x5 s0 g1 hx H))))
abbrev mm_X1_proves : EM := (yX1_proves, cX1_proves, 4, (Option.some .int), [])
theorem me_X1_proves : e_mth mm_X1_proves 3 := ⟨rfl, q1207, q108, by decide +kernel, by decide⟩
def B_X1_proves_E (K : Int → XS → Prop) (a : Int) (b : Int) (c : Int) (s0 : XS) : Prop :=
  (C_X1_isTerm 2 (iup (iup (fun _ => 0) 0 b) 1 c) s0 (fun r1 => ((r1 = 0 → (C_X1_refused 1 s0 (fun r35 s36 => K r35 s36))) ∧ (¬ r1 = 0 → (C_X1_every s0 (fun r6 => (C_X1_isIn a 0 r6 (fun r10 => ((r10 = 0 → (C_X1_refused 2 s0 (fun r14 s15 => K r14 s15))) ∧ (¬ r10 = 0 → (C_X1_by a s0 (fun s19 => (C_X3_areOne_G b c 3 s19 (fun r22 => ((r22 = 0 → (C_X1_fine 0 s19 (fun r27 s28 => K r27 s28))) ∧ (¬ r22 = 0 → (C_X1_fine 1 s19 (fun r31 s32 => K r31 s32))))))))))))))))))
set_option maxHeartbeats 4000000 in
theorem T_X1_proves_E (d : Nat) (V : XV) (g : AH) (hg : xf 8 g) (hr : xfree V g) (K : Int → XS → Prop) (a : Int) (b : Int) (c : Int) (s0 : XS) (H : B_X1_proves_E K a b c s0) : EW mm_X1_proves (d + 8) 1 2 (tQi V g K) 0 [(0, aR (some xT)), (1, aI a), (2, aI b), (3, aI c)] [] (xh V s0 g) := by
  refine ew_aload_n dX1_proves_0 rfl lm0 ?_
  refine ew_iconst dX1_proves_1 (inI_of rfl) ?_
  refine ew_newIB (t := 0) (N := 2) (i := (1, 8, 0)) dX1_proves_2 rfl (by decide) q302 rfl (by decide) ((xh_g (xC_1 rfl)).trans (hg _ rfl (Nat.le_refl _))) (by decide) (Nat.le_of_ble_eq_true rfl) (Nat.le_of_ble_eq_true rfl) ?_
  rw [xh_upg (xC_1 rfl)]
  refine ew_dup dX1_proves_4 rfl ?_
  refine ew_iconst dX1_proves_5 (inI_of rfl) ?_
  refine ew_iload_n dX1_proves_6 rfl lm2 ?_
  refine ew_iast dX1_proves_7 ((xh_g (xC_1 rfl)).trans (hup_self _ _ _)) (by decide) (by decide) ?_
  rw [xh_upg (xC_1 rfl), hup_hup]
  refine ew_dup dX1_proves_8 rfl ?_
  refine ew_iconst dX1_proves_9 (inI_of rfl) ?_
  refine ew_iload_n dX1_proves_10 rfl lm3 ?_
  refine ew_iast dX1_proves_11 ((xh_g (xC_1 rfl)).trans (hup_self _ _ _)) (by decide) (by decide) ?_
  rw [xh_upg (xC_1 rfl), hup_hup]
  refine ew_callV (d := d + 7) (as := [aR (some (1, 8, 0))]) rfl dX1_proves_12 me_X1_isTerm rfl (ci := 0) rfl rfl xh_x (Or.inl q1081) q1083 qs29 (Nat.le_of_ble_eq_true rfl) (Nat.zero_le _) (Nat.zero_le _) (S_X1_isTerm (d := d + 5) ((xh_g (xC_1 rfl)).trans (hup_self _ _ _)) (by decide) H) (fun o h' hq3 _ => ?_) (fun E i h' q _ => (cQ_no q).elim)
  obtain ⟨r1, E4, rfl, H⟩ := hq3
  cases E4
  refine ew_if_ne (tgt := 24) dX1_proves_15 (by decide) (fun c5 => ?_) (fun c5 => ?_)
  · replace H := H.2 c5
    refine ew_iload_n dX1_proves_24 rfl lm1 ?_
    refine ew_iconst dX1_proves_25 (inI_of rfl) ?_
    refine ew_aload_n dX1_proves_26 rfl lm0 ?_
    refine ew_callV (d := d + 7) (as := []) rfl dX1_proves_27 me_X1_every rfl (ci := 0) rfl rfl xh_x (Or.inl q1109) q1111 qs33 (Nat.le_of_ble_eq_true rfl) (Nat.zero_le _) (Nat.zero_le _) (S_X1_every (d := d + 5) H) (fun o h' hq8 _ => ?_) (fun E i h' q _ => (cQ_no q).elim)
    obtain ⟨r6, E9, rfl, H⟩ := hq8
    cases E9
    refine ew_callS (d := d + 7) (as := [aI a, aI 0, aI r6]) rfl dX1_proves_30 me_X1_isIn rfl (Or.inl q403) q404 (Nat.le_of_ble_eq_true rfl) (Nat.zero_le _) (Nat.zero_le _) (S_X1_isIn (d := d + 7) H) (fun o h' hq11 _ => ?_) (fun E i h' q _ => (cQ_no q).elim)
    obtain ⟨r10, E12, rfl, H⟩ := hq11
    cases E12
    refine ew_if_eq (tgt := 61) dX1_proves_33 (by decide) (fun c13 => ?_) (fun c13 => ?_)
    · replace H := H.1 c13
      refine ew_aload_n dX1_proves_61 rfl lm0 ?_
      refine ew_iconst dX1_proves_62 (inI_of rfl) ?_
      refine ew_callV (d := d + 7) (as := [aI 2]) rfl dX1_proves_63 me_X1_refused rfl (ci := 0) rfl rfl xh_x (Or.inl q406) q408 qs1 (Nat.le_of_ble_eq_true rfl) (Nat.zero_le _) (Nat.zero_le _) (S_X1_refused (d := d + 7) H) (fun o h' hq16 _ => ?_) (fun E i h' q _ => (xQi_no q).elim)
      obtain ⟨r14, s15, E17, rfl, H⟩ := hq16
      cases E17
      exact ew_ret (o := some (aI r14)) rfl ⟨_, _, _, rfl, rfl, (eX.hup eX.rf rfl (hg _ rfl (Nat.le_refl _))), H⟩ ⟨dX1_proves_66, .int, rfl, Or.inl rfl, rfl⟩
    · replace H := H.2 c13
      refine ew_aload_n dX1_proves_36 rfl lm0 ?_
      refine ew_aload_n dX1_proves_37 rfl lm0 ?_
      refine ew_iload_n dX1_proves_38 rfl lm1 ?_
      refine ew_callV (d := d + 7) (as := [aI a]) rfl dX1_proves_39 me_X1_by rfl (ci := 0) rfl rfl xh_x (Or.inl q1113) q1115 qs34 (Nat.le_of_ble_eq_true rfl) (Nat.zero_le _) (Nat.zero_le _) (S_X1_by (d := d + 0) H) (fun o h' hq20 _ => ?_) (fun E i h' q _ => (xQp_no q).elim)
      obtain ⟨s19, E21, rfl, H⟩ := hq20
      cases E21
      refine ew_iload_n dX1_proves_42 rfl lm2 ?_
      refine ew_iload_n dX1_proves_43 rfl lm3 ?_
      refine ew_callY (x := ⟨"ReasonCloser$Closed", "areOne", "(II)Z"⟩) (d := d + 7) (as := [aI b, aI c]) rfl dX1_proves_44 me_X3_areOne rfl (by decide) rfl q1128 q977 (ysel4_3 (P := fun c => Cond.selects c _ _ ∈ lw_all) q979) q981 (Or.inl q978) (by decide) (Nat.le_of_ble_eq_true rfl) (Nat.zero_le _) (Nat.zero_le _) (S_X3_areOne_G (d := d + 7) (by decide) H) (fun o h' hq24 _ => ?_) (fun E i h' q _ => (cQ_no q).elim)
      obtain ⟨r22, E25, rfl, H⟩ := hq24
      cases E25
      refine ew_if_eq (tgt := 54) dX1_proves_47 (by decide) (fun c26 => ?_) (fun c26 => ?_)
      · replace H := H.1 c26
        refine ew_iconst dX1_proves_54 (inI_of rfl) ?_
        refine ew_callV (d := d + 7) (as := [aI 0]) rfl dX1_proves_55 me_X1_fine rfl (ci := 0) rfl rfl xh_x (Or.inl q1032) q1034 qs24 (Nat.le_of_ble_eq_true rfl) (Nat.zero_le _) (Nat.zero_le _) (S_X1_fine (d := d + 7) H) (fun o h' hq29 _ => ?_) (fun E i h' q _ => (xQi_no q).elim)
        obtain ⟨r27, s28, E30, rfl, H⟩ := hq29
        cases E30
        refine ew_goto (tgt := 66) dX1_proves_58 (by decide) ?_
        exact ew_ret (o := some (aI r27)) rfl ⟨_, _, _, rfl, rfl, (eX.hup eX.rf rfl (hg _ rfl (Nat.le_refl _))), H⟩ ⟨dX1_proves_66, .int, rfl, Or.inl rfl, rfl⟩
      · replace H := H.2 c26
        refine ew_iconst dX1_proves_50 (inI_of rfl) ?_
        refine ew_goto (tgt := 55) dX1_proves_51 (by decide) ?_
        refine ew_callV (d := d + 7) (as := [aI 1]) rfl dX1_proves_55 me_X1_fine rfl (ci := 0) rfl rfl xh_x (Or.inl q1032) q1034 qs24 (Nat.le_of_ble_eq_true rfl) (Nat.zero_le _) (Nat.zero_le _) (S_X1_fine (d := d + 7) H) (fun o h' hq33 _ => ?_) (fun E i h' q _ => (xQi_no q).elim)
        obtain ⟨r31, s32, E34, rfl, H⟩ := hq33
        cases E34
        refine ew_goto (tgt := 66) dX1_proves_58 (by decide) ?_
        exact ew_ret (o := some (aI r31)) rfl ⟨_, _, _, rfl, rfl, (eX.hup eX.rf rfl (hg _ rfl (Nat.le_refl _))), H⟩ ⟨dX1_proves_66, .int, rfl, Or.inl rfl, rfl⟩
  · replace H := H.1 c5
    refine ew_aload_n dX1_proves_18 rfl lm0 ?_
    refine ew_iconst dX1_proves_19 (inI_of rfl) ?_
    refine ew_callV (d := d + 7) (as := [aI 1]) rfl dX1_proves_20 me_X1_refused rfl (ci := 0) rfl rfl xh_x (Or.inl q406) q408 qs1 (Nat.le_of_ble_eq_true rfl) (Nat.zero_le _) (Nat.zero_le _) (S_X1_refused (d := d + 7) H) (fun o h' hq37 _ => ?_) (fun E i h' q _ => (xQi_no q).elim)
    obtain ⟨r35, s36, E38, rfl, H⟩ := hq37
    cases E38
    exact ew_ret (o := some (aI r35)) rfl ⟨_, _, _, rfl, rfl, (eX.hup eX.rf rfl (hg _ rfl (Nat.le_refl _))), H⟩ ⟨dX1_proves_23, .int, rfl, Or.inl rfl, rfl⟩
def C_X1_proves (a : Int) (b : Int) (c : Int) (s0 : XS) (K : Int → XS → Prop) : Prop := B_X1_proves_E K a b c s0
theorem S_X1_proves {d : Nat} {V : XV} {g : AH} {K : Int → XS → Prop} {a : Int} {b : Int} {c : Int} {s0 : XS} (hg : xf 8 g) (hr : xfree V g) (H : C_X1_proves a b c s0 K) : Sp mm_X1_proves (d + 8) 1 2 [aR (some xT), aI a, aI b, aI c] (xh V s0 g) (xQi V g K) :=
  Sp.forget hr tQi_x (ew_sp rfl (Nat.le_of_ble_eq_true rfl) (T_X1_proves_E d V g hg hr K a b c s0 (H )))
abbrev mm_X1_since : EM := (yX1_since, cX1_since, 5, (Option.some .int), [])
theorem me_X1_since : e_mth mm_X1_since 2 := ⟨rfl, q1211, q108, by decide +kernel, by decide⟩
def B_X1_since_20 (X20 : Int → Int → Int → XS → Prop) (K : Int → XS → Prop) (x1 : Int) (x2 : Int) (x4 : Int) (s0 : XS) : Prop :=
  ((inI ((jshl 1 x4) - 1)) ∧ (C_X1_by ((jshl 1 x4) - 1) s0 (fun s3 => (C_X3_areOne_G x1 x2 3 s3 (fun r6 => ((r6 = 0 → (inI (x4 + 1) ∧ X20 x1 x2 (x4 + 1) s3)) ∧ (¬ r6 = 0 → (C_X1_fine x4 s3 (fun r11 s12 => K r11 s12)))))))))
def B_X1_since_E (X20 : Int → Int → Int → XS → Prop) (K : Int → XS → Prop) (a : Int) (b : Int) (s0 : XS) : Prop :=
  (C_X1_why a b s0 (fun r1 => ((r1 ≤ 0 → X20 a b 0 s0) ∧ (¬ r1 ≤ 0 → (C_X1_refused r1 s0 (fun r6 s7 => K r6 s7))))))
def W_X1_since_20 (d : Nat) (V : XV) (g : AH) (K : Int → XS → Prop) (x1 : Int) (x2 : Int) (x4 : Int) (s0 : XS) : Prop := ∀ g1, eX g g1 → EW mm_X1_since (d + 8) 0 0 (tQi V g K) 20 [(0, aR (some xT)), (1, aI x1), (2, aI x2), (4, aI x4)] [] (xh V s0 g1)
set_option maxHeartbeats 4000000 in
theorem T_X1_since_20 (d : Nat) (V : XV) (g : AH) (hg : xf 8 g) (hr : xfree V g) (K : Int → XS → Prop) (x1 : Int) (x2 : Int) (x4 : Int) (s0 : XS) (g1 : AH) (hx : eX g g1) (H : B_X1_since_20 (W_X1_since_20 d V g K) K x1 x2 x4 s0) : EW mm_X1_since (d + 8) 0 0 (tQi V g K) 20 [(0, aR (some xT)), (1, aI x1), (2, aI x2), (4, aI x4)] [] (xh V s0 g1) := by
  refine ew_aload_n dX1_since_20 rfl lm0 ?_
  refine ew_iconst dX1_since_21 (inI_of rfl) ?_
  refine ew_iload dX1_since_22 lm3 ?_
  refine ew_ishl dX1_since_24 ?_
  refine ew_iconst dX1_since_25 (inI_of rfl) ?_
  obtain ⟨v1, H⟩ := H
  refine ew_isub dX1_since_26 v1 ?_
  refine ew_callV (d := d + 7) (as := [aI ((jshl 1 x4) - 1)]) rfl dX1_since_27 me_X1_by rfl (ci := 0) rfl rfl xh_x (Or.inl q1113) q1115 qs34 (Nat.le_of_ble_eq_true rfl) (Nat.zero_le _) (Nat.zero_le _) (S_X1_by (d := d + 0) H) (fun o h' hq4 _ => ?_) (fun E i h' q _ => (xQp_no q).elim)
  obtain ⟨s3, E5, rfl, H⟩ := hq4
  cases E5
  refine ew_iload_n dX1_since_30 rfl lm1 ?_
  refine ew_iload_n dX1_since_31 rfl lm2 ?_
  refine ew_callY (x := ⟨"ReasonCloser$Closed", "areOne", "(II)Z"⟩) (d := d + 7) (as := [aI x1, aI x2]) rfl dX1_since_32 me_X3_areOne rfl (by decide) rfl q1128 q977 (ysel4_3 (P := fun c => Cond.selects c _ _ ∈ lw_all) q979) q981 (Or.inl q978) (by decide) (Nat.le_of_ble_eq_true rfl) (Nat.zero_le _) (Nat.zero_le _) (S_X3_areOne_G (d := d + 7) (by decide) H) (fun o h' hq8 _ => ?_) (fun E i h' q _ => (cQ_no q).elim)
  obtain ⟨r6, E9, rfl, H⟩ := hq8
  cases E9
  refine ew_if_ne (tgt := 44) dX1_since_35 (by decide) (fun c10 => ?_) (fun c10 => ?_)
  · replace H := H.2 c10
    refine ew_aload_n dX1_since_44 rfl lm0 ?_
    refine ew_iload dX1_since_45 lm3 ?_
    refine ew_callV (d := d + 7) (as := [aI x4]) rfl dX1_since_47 me_X1_fine rfl (ci := 0) rfl rfl xh_x (Or.inl q1032) q1034 qs24 (Nat.le_of_ble_eq_true rfl) (Nat.zero_le _) (Nat.zero_le _) (S_X1_fine (d := d + 7) H) (fun o h' hq13 _ => ?_) (fun E i h' q _ => (xQi_no q).elim)
    obtain ⟨r11, s12, E14, rfl, H⟩ := hq13
    cases E14
    exact ew_ret (o := some (aI r11)) rfl ⟨_, _, _, rfl, rfl, hx, H⟩ ⟨dX1_since_50, .int, rfl, Or.inl rfl, rfl⟩
  · replace H := H.1 c10
    obtain ⟨v15, H⟩ := H
    refine ew_iinc dX1_since_38 lm3 (by decide) v15 (lv' := [(4, aI (x4 + 1)), (0, aR (some xT)), (1, aI x1), (2, aI x2)]) rfl ?_
    refine ew_sub (List.forall_mem_cons.mpr ⟨lm1, (List.forall_mem_cons.mpr ⟨lm2, (List.forall_mem_cons.mpr ⟨lm3, (List.forall_mem_cons.mpr ⟨lm0, e_nm⟩)⟩)⟩)⟩) ?_
    refine ew_goto (tgt := 20) dX1_since_41 (by decide) ?_
    exact ew_room (Nat.le_refl _) (Nat.zero_le _) (Nat.zero_le _) (ew_sub (List.forall_mem_cons.mpr ⟨lm0, (List.forall_mem_cons.mpr ⟨lm1, (List.forall_mem_cons.mpr ⟨lm2, (List.forall_mem_cons.mpr ⟨lm3, e_nm⟩)⟩)⟩)⟩) (H _ hx))
set_option maxHeartbeats 4000000 in
theorem T_X1_since_E (d : Nat) (V : XV) (g : AH) (hg : xf 8 g) (hr : xfree V g) (K : Int → XS → Prop) (a : Int) (b : Int) (s0 : XS) (H : B_X1_since_E (W_X1_since_20 d V g K) K a b s0) : EW mm_X1_since (d + 8) 1 2 (tQi V g K) 0 [(0, aR (some xT)), (1, aI a), (2, aI b)] [] (xh V s0 g) := by
  refine ew_aload_n dX1_since_0 rfl lm0 ?_
  refine ew_iload_n dX1_since_1 rfl lm1 ?_
  refine ew_iload_n dX1_since_2 rfl lm2 ?_
  refine ew_callV (d := d + 7) (as := [aI a, aI b]) rfl dX1_since_3 me_X1_why rfl (ci := 0) rfl rfl xh_x (Or.inl q1157) q1159 qs35 (Nat.le_of_ble_eq_true rfl) (Nat.le_of_ble_eq_true rfl) (Nat.le_of_ble_eq_true rfl) (S_X1_why (d := d + 4) (xf.le hg (Nat.le_of_ble_eq_true rfl)) hr H) (fun o h' hq3 _ => ?_) (fun E i h' q _ => (cQ_no q).elim)
  obtain ⟨r1, E4, rfl, H⟩ := hq3
  cases E4
  refine ew_istore_n dX1_since_6 rfl (by decide) (lv' := [(3, aI r1), (0, aR (some xT)), (1, aI a), (2, aI b)]) rfl ?_
  refine ew_sub (List.forall_mem_cons.mpr ⟨lm1, (List.forall_mem_cons.mpr ⟨lm2, (List.forall_mem_cons.mpr ⟨lm3, (List.forall_mem_cons.mpr ⟨lm0, e_nm⟩)⟩)⟩)⟩) ?_
  refine ew_iload_n dX1_since_7 rfl lm3 ?_
  refine ew_if_le (tgt := 17) dX1_since_8 (by decide) (fun c5 => ?_) (fun c5 => ?_)
  · replace H := H.1 c5
    refine ew_iconst dX1_since_17 (inI_of rfl) ?_
    refine ew_istore dX1_since_18 (by decide) (lv' := [(4, aI 0), (0, aR (some xT)), (1, aI a), (2, aI b), (3, aI r1)]) rfl ?_
    refine ew_sub (List.forall_mem_cons.mpr ⟨lm1, (List.forall_mem_cons.mpr ⟨lm2, (List.forall_mem_cons.mpr ⟨lm3, (List.forall_mem_cons.mpr ⟨lm4, (List.forall_mem_cons.mpr ⟨lm0, e_nm⟩)⟩)⟩)⟩)⟩) ?_
    exact ew_room (Nat.le_refl _) (Nat.zero_le _) (Nat.zero_le _) (ew_sub (List.forall_mem_cons.mpr ⟨lm0, (List.forall_mem_cons.mpr ⟨lm1, (List.forall_mem_cons.mpr ⟨lm2, (List.forall_mem_cons.mpr ⟨lm4, e_nm⟩)⟩)⟩)⟩) (H _ eX.rf))
  · replace H := H.2 c5
    refine ew_aload_n dX1_since_11 rfl lm0 ?_
    refine ew_iload_n dX1_since_12 rfl lm3 ?_
    refine ew_callV (d := d + 7) (as := [aI r1]) rfl dX1_since_13 me_X1_refused rfl (ci := 0) rfl rfl xh_x (Or.inl q406) q408 qs1 (Nat.le_of_ble_eq_true rfl) (Nat.zero_le _) (Nat.zero_le _) (S_X1_refused (d := d + 7) H) (fun o h' hq8 _ => ?_) (fun E i h' q _ => (xQi_no q).elim)
    obtain ⟨r6, s7, E9, rfl, H⟩ := hq8
    cases E9
    exact ew_ret (o := some (aI r6)) rfl ⟨_, _, _, rfl, rfl, eX.rf, H⟩ ⟨dX1_since_16, .int, rfl, Or.inl rfl, rfl⟩
def C_X1_since (a : Int) (b : Int) (s0 : XS) (K : Int → XS → Prop) : Prop := ∀ (X20 : Int → Int → Int → XS → Prop), (∀ (x1 : Int) (x2 : Int) (x4 : Int) (s0 : XS), B_X1_since_20 X20 K x1 x2 x4 s0 → X20 x1 x2 x4 s0) → B_X1_since_E X20 K a b s0
theorem S_X1_since {d : Nat} {V : XV} {g : AH} {K : Int → XS → Prop} {a : Int} {b : Int} {s0 : XS} (hg : xf 8 g) (hr : xfree V g) (H : C_X1_since a b s0 K) : Sp mm_X1_since (d + 8) 1 2 [aR (some xT), aI a, aI b] (xh V s0 g) (xQi V g K) :=
  Sp.forget hr tQi_x (ew_sp rfl (Nat.le_of_ble_eq_true rfl) (T_X1_since_E d V g hg hr K a b s0 (H _ (fun x1 x2 x4 s0 H g1 hx => T_X1_since_20 d V g hg hr K x1 x2 x4 s0 g1 hx H))))
abbrev mm_X1_needed : EM := (yX1_needed, cX1_needed, 6, (Option.some .int), [])
theorem me_X1_needed : e_mth mm_X1_needed 2 := ⟨rfl, q1215, q108, by decide +kernel, by decide⟩
def B_X1_needed_23 (X23 : Int → Int → Int → Int → XS → Prop) (K : Int → XS → Prop) (x1 : Int) (x2 : Int) (x4 : Int) (x5 : Int) (s0 : XS) : Prop :=
  (C_X1_sames s0 (fun r1 => ((r1 ≤ x5 → (C_X1_fine x4 s0 (fun r6 s7 => K r6 s7))) ∧ (¬ r1 ≤ x5 → (C_X1_every s0 (fun r10 => (C_X1_by (jand r10 (jxor (jshl 1 x5) (-1))) s0 (fun s15 => (C_X3_areOne_G x1 x2 3 s15 (fun r18 => ((r18 = 0 → (inI (x5 + 1) ∧ X23 x1 x2 (jor x4 (jshl 1 x5)) (x5 + 1) s15)) ∧ (¬ r18 = 0 → (inI (x5 + 1) ∧ X23 x1 x2 x4 (x5 + 1) s15)))))))))))))
def B_X1_needed_E (X23 : Int → Int → Int → Int → XS → Prop) (K : Int → XS → Prop) (a : Int) (b : Int) (s0 : XS) : Prop :=
  (C_X1_why a b s0 (fun r1 => ((r1 ≤ 0 → X23 a b 0 0 s0) ∧ (¬ r1 ≤ 0 → (C_X1_refused r1 s0 (fun r6 s7 => K r6 s7))))))
def W_X1_needed_23 (d : Nat) (V : XV) (g : AH) (K : Int → XS → Prop) (x1 : Int) (x2 : Int) (x4 : Int) (x5 : Int) (s0 : XS) : Prop := ∀ g1, eX g g1 → EW mm_X1_needed (d + 8) 0 0 (tQi V g K) 23 [(0, aR (some xT)), (1, aI x1), (2, aI x2), (4, aI x4), (5, aI x5)] [] (xh V s0 g1)
set_option maxHeartbeats 4000000 in
theorem T_X1_needed_23 (d : Nat) (V : XV) (g : AH) (hg : xf 8 g) (hr : xfree V g) (K : Int → XS → Prop) (x1 : Int) (x2 : Int) (x4 : Int) (x5 : Int) (s0 : XS) (g1 : AH) (hx : eX g g1) (H : B_X1_needed_23 (W_X1_needed_23 d V g K) K x1 x2 x4 x5 s0) : EW mm_X1_needed (d + 8) 0 0 (tQi V g K) 23 [(0, aR (some xT)), (1, aI x1), (2, aI x2), (4, aI x4), (5, aI x5)] [] (xh V s0 g1) := by
  refine ew_iload dX1_needed_23 lm4 ?_
  refine ew_aload_n dX1_needed_25 rfl lm0 ?_
  refine ew_callV (d := d + 7) (as := []) rfl dX1_needed_26 me_X1_sames rfl (ci := 0) rfl rfl xh_x (Or.inl q1052) q1054 qs26 (Nat.le_of_ble_eq_true rfl) (Nat.zero_le _) (Nat.zero_le _) (S_X1_sames (d := d + 6) H) (fun o h' hq3 _ => ?_) (fun E i h' q _ => (cQ_no q).elim)
  obtain ⟨r1, E4, rfl, H⟩ := hq3
  cases E4
  refine ew_icmp_ge (tgt := 70) dX1_needed_29 (by decide) (fun c5 => ?_) (fun c5 => ?_)
  · replace H := H.1 c5
    refine ew_aload_n dX1_needed_70 rfl lm0 ?_
    refine ew_iload dX1_needed_71 lm3 ?_
    refine ew_callV (d := d + 7) (as := [aI x4]) rfl dX1_needed_73 me_X1_fine rfl (ci := 0) rfl rfl xh_x (Or.inl q1032) q1034 qs24 (Nat.le_of_ble_eq_true rfl) (Nat.zero_le _) (Nat.zero_le _) (S_X1_fine (d := d + 7) H) (fun o h' hq8 _ => ?_) (fun E i h' q _ => (xQi_no q).elim)
    obtain ⟨r6, s7, E9, rfl, H⟩ := hq8
    cases E9
    exact ew_ret (o := some (aI r6)) rfl ⟨_, _, _, rfl, rfl, hx, H⟩ ⟨dX1_needed_76, .int, rfl, Or.inl rfl, rfl⟩
  · replace H := H.2 c5
    refine ew_aload_n dX1_needed_32 rfl lm0 ?_
    refine ew_aload_n dX1_needed_33 rfl lm0 ?_
    refine ew_callV (d := d + 7) (as := []) rfl dX1_needed_34 me_X1_every rfl (ci := 0) rfl rfl xh_x (Or.inl q1109) q1111 qs33 (Nat.le_of_ble_eq_true rfl) (Nat.zero_le _) (Nat.zero_le _) (S_X1_every (d := d + 5) H) (fun o h' hq12 _ => ?_) (fun E i h' q _ => (cQ_no q).elim)
    obtain ⟨r10, E13, rfl, H⟩ := hq12
    cases E13
    refine ew_iconst dX1_needed_37 (inI_of rfl) ?_
    refine ew_iload dX1_needed_38 lm4 ?_
    refine ew_ishl dX1_needed_40 ?_
    refine ew_iconst dX1_needed_41 (inI_of rfl) ?_
    refine ew_ixor dX1_needed_42 ?_
    refine ew_iand dX1_needed_43 ?_
    refine ew_callV (d := d + 7) (as := [aI (jand r10 (jxor (jshl 1 x5) (-1)))]) rfl dX1_needed_44 me_X1_by rfl (ci := 0) rfl rfl xh_x (Or.inl q1113) q1115 qs34 (Nat.le_of_ble_eq_true rfl) (Nat.zero_le _) (Nat.zero_le _) (S_X1_by (d := d + 0) H) (fun o h' hq16 _ => ?_) (fun E i h' q _ => (xQp_no q).elim)
    obtain ⟨s15, E17, rfl, H⟩ := hq16
    cases E17
    refine ew_iload_n dX1_needed_47 rfl lm1 ?_
    refine ew_iload_n dX1_needed_48 rfl lm2 ?_
    refine ew_callY (x := ⟨"ReasonCloser$Closed", "areOne", "(II)Z"⟩) (d := d + 7) (as := [aI x1, aI x2]) rfl dX1_needed_49 me_X3_areOne rfl (by decide) rfl q1128 q977 (ysel4_3 (P := fun c => Cond.selects c _ _ ∈ lw_all) q979) q981 (Or.inl q978) (by decide) (Nat.le_of_ble_eq_true rfl) (Nat.zero_le _) (Nat.zero_le _) (S_X3_areOne_G (d := d + 7) (by decide) H) (fun o h' hq20 _ => ?_) (fun E i h' q _ => (cQ_no q).elim)
    obtain ⟨r18, E21, rfl, H⟩ := hq20
    cases E21
    refine ew_if_ne (tgt := 64) dX1_needed_52 (by decide) (fun c22 => ?_) (fun c22 => ?_)
    · replace H := H.2 c22
      obtain ⟨v23, H⟩ := H
      refine ew_iinc dX1_needed_64 lm4 (by decide) v23 (lv' := [(5, aI (x5 + 1)), (0, aR (some xT)), (1, aI x1), (2, aI x2), (4, aI x4)]) rfl ?_
      refine ew_sub (List.forall_mem_cons.mpr ⟨lm1, (List.forall_mem_cons.mpr ⟨lm2, (List.forall_mem_cons.mpr ⟨lm3, (List.forall_mem_cons.mpr ⟨lm4, (List.forall_mem_cons.mpr ⟨lm0, e_nm⟩)⟩)⟩)⟩)⟩) ?_
      refine ew_goto (tgt := 23) dX1_needed_67 (by decide) ?_
      exact ew_room (Nat.le_refl _) (Nat.zero_le _) (Nat.zero_le _) (ew_sub (List.forall_mem_cons.mpr ⟨lm0, (List.forall_mem_cons.mpr ⟨lm1, (List.forall_mem_cons.mpr ⟨lm2, (List.forall_mem_cons.mpr ⟨lm3, (List.forall_mem_cons.mpr ⟨lm4, e_nm⟩)⟩)⟩)⟩)⟩) (H _ hx))
    · replace H := H.1 c22
      refine ew_iload dX1_needed_55 lm3 ?_
      refine ew_iconst dX1_needed_57 (inI_of rfl) ?_
      refine ew_iload dX1_needed_58 lm4 ?_
      refine ew_ishl dX1_needed_60 ?_
      refine ew_ior dX1_needed_61 ?_
      refine ew_istore dX1_needed_62 (by decide) (lv' := [(4, aI (jor x4 (jshl 1 x5))), (0, aR (some xT)), (1, aI x1), (2, aI x2), (5, aI x5)]) rfl ?_
      refine ew_sub (List.forall_mem_cons.mpr ⟨lm1, (List.forall_mem_cons.mpr ⟨lm2, (List.forall_mem_cons.mpr ⟨lm3, (List.forall_mem_cons.mpr ⟨lm0, (List.forall_mem_cons.mpr ⟨lm4, e_nm⟩)⟩)⟩)⟩)⟩) ?_
      obtain ⟨v24, H⟩ := H
      refine ew_iinc dX1_needed_64 lm4 (by decide) v24 (lv' := [(5, aI (x5 + 1)), (0, aR (some xT)), (1, aI x1), (2, aI x2), (4, aI (jor x4 (jshl 1 x5)))]) rfl ?_
      refine ew_sub (List.forall_mem_cons.mpr ⟨lm1, (List.forall_mem_cons.mpr ⟨lm2, (List.forall_mem_cons.mpr ⟨lm3, (List.forall_mem_cons.mpr ⟨lm4, (List.forall_mem_cons.mpr ⟨lm0, e_nm⟩)⟩)⟩)⟩)⟩) ?_
      refine ew_goto (tgt := 23) dX1_needed_67 (by decide) ?_
      exact ew_room (Nat.le_refl _) (Nat.zero_le _) (Nat.zero_le _) (ew_sub (List.forall_mem_cons.mpr ⟨lm0, (List.forall_mem_cons.mpr ⟨lm1, (List.forall_mem_cons.mpr ⟨lm2, (List.forall_mem_cons.mpr ⟨lm3, (List.forall_mem_cons.mpr ⟨lm4, e_nm⟩)⟩)⟩)⟩)⟩) (H _ hx))
set_option maxHeartbeats 4000000 in
theorem T_X1_needed_E (d : Nat) (V : XV) (g : AH) (hg : xf 8 g) (hr : xfree V g) (K : Int → XS → Prop) (a : Int) (b : Int) (s0 : XS) (H : B_X1_needed_E (W_X1_needed_23 d V g K) K a b s0) : EW mm_X1_needed (d + 8) 1 2 (tQi V g K) 0 [(0, aR (some xT)), (1, aI a), (2, aI b)] [] (xh V s0 g) := by
  refine ew_aload_n dX1_needed_0 rfl lm0 ?_
  refine ew_iload_n dX1_needed_1 rfl lm1 ?_
  refine ew_iload_n dX1_needed_2 rfl lm2 ?_
  refine ew_callV (d := d + 7) (as := [aI a, aI b]) rfl dX1_needed_3 me_X1_why rfl (ci := 0) rfl rfl xh_x (Or.inl q1157) q1159 qs35 (Nat.le_of_ble_eq_true rfl) (Nat.le_of_ble_eq_true rfl) (Nat.le_of_ble_eq_true rfl) (S_X1_why (d := d + 4) (xf.le hg (Nat.le_of_ble_eq_true rfl)) hr H) (fun o h' hq3 _ => ?_) (fun E i h' q _ => (cQ_no q).elim)
  obtain ⟨r1, E4, rfl, H⟩ := hq3
  cases E4
  refine ew_istore_n dX1_needed_6 rfl (by decide) (lv' := [(3, aI r1), (0, aR (some xT)), (1, aI a), (2, aI b)]) rfl ?_
  refine ew_sub (List.forall_mem_cons.mpr ⟨lm1, (List.forall_mem_cons.mpr ⟨lm2, (List.forall_mem_cons.mpr ⟨lm3, (List.forall_mem_cons.mpr ⟨lm0, e_nm⟩)⟩)⟩)⟩) ?_
  refine ew_iload_n dX1_needed_7 rfl lm3 ?_
  refine ew_if_le (tgt := 17) dX1_needed_8 (by decide) (fun c5 => ?_) (fun c5 => ?_)
  · replace H := H.1 c5
    refine ew_iconst dX1_needed_17 (inI_of rfl) ?_
    refine ew_istore dX1_needed_18 (by decide) (lv' := [(4, aI 0), (0, aR (some xT)), (1, aI a), (2, aI b), (3, aI r1)]) rfl ?_
    refine ew_sub (List.forall_mem_cons.mpr ⟨lm1, (List.forall_mem_cons.mpr ⟨lm2, (List.forall_mem_cons.mpr ⟨lm3, (List.forall_mem_cons.mpr ⟨lm4, (List.forall_mem_cons.mpr ⟨lm0, e_nm⟩)⟩)⟩)⟩)⟩) ?_
    refine ew_iconst dX1_needed_20 (inI_of rfl) ?_
    refine ew_istore dX1_needed_21 (by decide) (lv' := [(5, aI 0), (0, aR (some xT)), (1, aI a), (2, aI b), (3, aI r1), (4, aI 0)]) rfl ?_
    refine ew_sub (List.forall_mem_cons.mpr ⟨lm1, (List.forall_mem_cons.mpr ⟨lm2, (List.forall_mem_cons.mpr ⟨lm3, (List.forall_mem_cons.mpr ⟨lm4, (List.forall_mem_cons.mpr ⟨lm5, (List.forall_mem_cons.mpr ⟨lm0, e_nm⟩)⟩)⟩)⟩)⟩)⟩) ?_
    exact ew_room (Nat.le_refl _) (Nat.zero_le _) (Nat.zero_le _) (ew_sub (List.forall_mem_cons.mpr ⟨lm0, (List.forall_mem_cons.mpr ⟨lm1, (List.forall_mem_cons.mpr ⟨lm2, (List.forall_mem_cons.mpr ⟨lm4, (List.forall_mem_cons.mpr ⟨lm5, e_nm⟩)⟩)⟩)⟩)⟩) (H _ eX.rf))
  · replace H := H.2 c5
    refine ew_aload_n dX1_needed_11 rfl lm0 ?_
    refine ew_iload_n dX1_needed_12 rfl lm3 ?_
    refine ew_callV (d := d + 7) (as := [aI r1]) rfl dX1_needed_13 me_X1_refused rfl (ci := 0) rfl rfl xh_x (Or.inl q406) q408 qs1 (Nat.le_of_ble_eq_true rfl) (Nat.zero_le _) (Nat.zero_le _) (S_X1_refused (d := d + 7) H) (fun o h' hq8 _ => ?_) (fun E i h' q _ => (xQi_no q).elim)
    obtain ⟨r6, s7, E9, rfl, H⟩ := hq8
    cases E9
    exact ew_ret (o := some (aI r6)) rfl ⟨_, _, _, rfl, rfl, eX.rf, H⟩ ⟨dX1_needed_16, .int, rfl, Or.inl rfl, rfl⟩
def C_X1_needed (a : Int) (b : Int) (s0 : XS) (K : Int → XS → Prop) : Prop := ∀ (X23 : Int → Int → Int → Int → XS → Prop), (∀ (x1 : Int) (x2 : Int) (x4 : Int) (x5 : Int) (s0 : XS), B_X1_needed_23 X23 K x1 x2 x4 x5 s0 → X23 x1 x2 x4 x5 s0) → B_X1_needed_E X23 K a b s0
theorem S_X1_needed {d : Nat} {V : XV} {g : AH} {K : Int → XS → Prop} {a : Int} {b : Int} {s0 : XS} (hg : xf 8 g) (hr : xfree V g) (H : C_X1_needed a b s0 K) : Sp mm_X1_needed (d + 8) 1 2 [aR (some xT), aI a, aI b] (xh V s0 g) (xQi V g K) :=
  Sp.forget hr tQi_x (ew_sp rfl (Nat.le_of_ble_eq_true rfl) (T_X1_needed_E d V g hg hr K a b s0 (H _ (fun x1 x2 x4 x5 s0 H g1 hx => T_X1_needed_23 d V g hg hr K x1 x2 x4 x5 s0 g1 hx H))))
