/-! ReasonCloser: methods as predicates, by program (gen/gxx.py) -/
set_option maxRecDepth 100000
abbrev mm_X1_isLeast : EM := (yX1_isLeast, cX1_isLeast, 3, (Option.some .boolean), [])
theorem me_X1_isLeast : e_mth mm_X1_isLeast 1 := ⟨rfl, q1223, q108, by decide +kernel, by decide⟩
def B_X1_isLeast_13 (X13 : Int → Int → Prop) (K : Int → Prop) (x1 : Int) (x2 : Int) (s0 : XS) : Prop :=
  (C_X1_sames s0 (fun r1 => ((r1 ≤ x2 → K 1) ∧ (¬ r1 ≤ x2 → (C_X1_has x1 x2 (fun r6 => ((r6 = 0 → (inI (x2 + 1) ∧ X13 x1 (x2 + 1))) ∧ (¬ r6 = 0 → ((0 ≤ (jand x1 (jxor (jshl 1 x2) (-1))) ∧ (jand x1 (jxor (jshl 1 x2) (-1))) < 4096) ∧ (((s0.1.2 14 (jand x1 (jxor (jshl 1 x2) (-1)))) = 0 → (inI (x2 + 1) ∧ X13 x1 (x2 + 1))) ∧ (¬ (s0.1.2 14 (jand x1 (jxor (jshl 1 x2) (-1)))) = 0 → K 0)))))))))))
def B_X1_isLeast_E (X13 : Int → Int → Prop) (K : Int → Prop) (a : Int) (s0 : XS) : Prop :=
  ((0 ≤ a ∧ a < 4096) ∧ (((s0.1.2 14 a) = 0 → K 0) ∧ (¬ (s0.1.2 14 a) = 0 → X13 a 0)))
def W_X1_isLeast_13 (d : Nat) (V : XV) (g : AH) (s0 : XS) (K : Int → Prop) (x1 : Int) (x2 : Int) : Prop := EW mm_X1_isLeast (d + 2) 0 0 (cQ (xh V s0 g) K) 13 [(0, aR (some xT)), (1, aI x1), (2, aI x2)] [] (xh V s0 g)
set_option maxHeartbeats 4000000 in
theorem T_X1_isLeast_13 (d : Nat) (V : XV) (g : AH) (K : Int → Prop) (x1 : Int) (x2 : Int) (s0 : XS) (H : B_X1_isLeast_13 (W_X1_isLeast_13 d V g s0 K) K x1 x2 s0) : EW mm_X1_isLeast (d + 2) 0 0 (cQ (xh V s0 g) K) 13 [(0, aR (some xT)), (1, aI x1), (2, aI x2)] [] (xh V s0 g) := by
  refine ew_iload_n dX1_isLeast_13 rfl lm2 ?_
  refine ew_aload_n dX1_isLeast_14 rfl lm0 ?_
  refine ew_callV (d := d + 1) (as := []) rfl dX1_isLeast_15 me_X1_sames rfl (ci := 0) rfl rfl xh_x (Or.inl q1052) q1054 qs26 (Nat.le_of_ble_eq_true rfl) (Nat.zero_le _) (Nat.zero_le _) (S_X1_sames (d := d + 0) H) (fun o h' hq3 _ => ?_) (fun E i h' q _ => (cQ_no q).elim)
  obtain ⟨r1, E4, rfl, H⟩ := hq3
  cases E4
  refine ew_icmp_ge (tgt := 52) dX1_isLeast_18 (by decide) (fun c5 => ?_) (fun c5 => ?_)
  · replace H := H.1 c5
    refine ew_iconst dX1_isLeast_52 (inI_of rfl) ?_
    exact ew_ret (o := some (aI 1)) rfl ⟨_, rfl, rfl, H⟩ ⟨dX1_isLeast_53, .boolean, rfl, Or.inr (Or.inl rfl), by decide⟩
  · replace H := H.2 c5
    refine ew_iload_n dX1_isLeast_21 rfl lm1 ?_
    refine ew_iload_n dX1_isLeast_22 rfl lm2 ?_
    refine ew_callS (d := d + 1) (as := [aI x1, aI x2]) rfl dX1_isLeast_23 me_X1_has rfl (Or.inl q1124) q1125 (Nat.le_of_ble_eq_true rfl) (Nat.zero_le _) (Nat.zero_le _) (S_X1_has (d := d + 1) H) (fun o h' hq7 _ => ?_) (fun E i h' q _ => (cQ_no q).elim)
    obtain ⟨r6, E8, rfl, H⟩ := hq7
    cases E8
    refine ew_if_eq (tgt := 46) dX1_isLeast_26 (by decide) (fun c9 => ?_) (fun c9 => ?_)
    · replace H := H.1 c9
      obtain ⟨v10, H⟩ := H
      refine ew_iinc dX1_isLeast_46 lm2 (by decide) v10 (lv' := [(2, aI (x2 + 1)), (0, aR (some xT)), (1, aI x1)]) rfl ?_
      refine ew_sub (List.forall_mem_cons.mpr ⟨lm1, (List.forall_mem_cons.mpr ⟨lm2, (List.forall_mem_cons.mpr ⟨lm0, e_nm⟩)⟩)⟩) ?_
      refine ew_goto (tgt := 13) dX1_isLeast_49 (by decide) ?_
      exact ew_room (Nat.le_refl _) (Nat.zero_le _) (Nat.zero_le _) (ew_sub (List.forall_mem_cons.mpr ⟨lm0, (List.forall_mem_cons.mpr ⟨lm1, (List.forall_mem_cons.mpr ⟨lm2, e_nm⟩)⟩)⟩) H)
    · replace H := H.2 c9
      refine ew_aload_n dX1_isLeast_29 rfl lm0 ?_
      refine xw_get (v := aR (some (0, 2, 14))) dX1_isLeast_30 (e_fl.a q342) xf_14 rfl ?_
      refine ew_iload_n dX1_isLeast_33 rfl lm1 ?_
      refine ew_iconst dX1_isLeast_34 (inI_of rfl) ?_
      refine ew_iload_n dX1_isLeast_35 rfl lm2 ?_
      refine ew_ishl dX1_isLeast_36 ?_
      refine ew_iconst dX1_isLeast_37 (inI_of rfl) ?_
      refine ew_ixor dX1_isLeast_38 ?_
      refine ew_iand dX1_isLeast_39 ?_
      obtain ⟨v11, H⟩ := H
      refine xw_bald dX1_isLeast_40 rfl (Or.inl rfl) v11.1 v11.2 ?_
      refine ew_if_eq (tgt := 46) dX1_isLeast_41 (by decide) (fun c12 => ?_) (fun c12 => ?_)
      · replace H := H.1 c12
        obtain ⟨v13, H⟩ := H
        refine ew_iinc dX1_isLeast_46 lm2 (by decide) v13 (lv' := [(2, aI (x2 + 1)), (0, aR (some xT)), (1, aI x1)]) rfl ?_
        refine ew_sub (List.forall_mem_cons.mpr ⟨lm1, (List.forall_mem_cons.mpr ⟨lm2, (List.forall_mem_cons.mpr ⟨lm0, e_nm⟩)⟩)⟩) ?_
        refine ew_goto (tgt := 13) dX1_isLeast_49 (by decide) ?_
        exact ew_room (Nat.le_refl _) (Nat.zero_le _) (Nat.zero_le _) (ew_sub (List.forall_mem_cons.mpr ⟨lm0, (List.forall_mem_cons.mpr ⟨lm1, (List.forall_mem_cons.mpr ⟨lm2, e_nm⟩)⟩)⟩) H)
      · replace H := H.2 c12
        refine ew_iconst dX1_isLeast_44 (inI_of rfl) ?_
        exact ew_ret (o := some (aI 0)) rfl ⟨_, rfl, rfl, H⟩ ⟨dX1_isLeast_45, .boolean, rfl, Or.inr (Or.inl rfl), by decide⟩
set_option maxHeartbeats 4000000 in
theorem T_X1_isLeast_E (d : Nat) (V : XV) (g : AH) (K : Int → Prop) (a : Int) (s0 : XS) (H : B_X1_isLeast_E (W_X1_isLeast_13 d V g s0 K) K a s0) : EW mm_X1_isLeast (d + 2) 0 0 (cQ (xh V s0 g) K) 0 [(0, aR (some xT)), (1, aI a)] [] (xh V s0 g) := by
  refine ew_aload_n dX1_isLeast_0 rfl lm0 ?_
  refine xw_get (v := aR (some (0, 2, 14))) dX1_isLeast_1 (e_fl.a q342) xf_14 rfl ?_
  refine ew_iload_n dX1_isLeast_4 rfl lm1 ?_
  obtain ⟨v1, H⟩ := H
  refine xw_bald dX1_isLeast_5 rfl (Or.inl rfl) v1.1 v1.2 ?_
  refine ew_if_ne (tgt := 11) dX1_isLeast_6 (by decide) (fun c2 => ?_) (fun c2 => ?_)
  · replace H := H.2 c2
    refine ew_iconst dX1_isLeast_11 (inI_of rfl) ?_
    refine ew_istore_n dX1_isLeast_12 rfl (by decide) (lv' := [(2, aI 0), (0, aR (some xT)), (1, aI a)]) rfl ?_
    refine ew_sub (List.forall_mem_cons.mpr ⟨lm1, (List.forall_mem_cons.mpr ⟨lm2, (List.forall_mem_cons.mpr ⟨lm0, e_nm⟩)⟩)⟩) ?_
    exact ew_room (Nat.le_refl _) (Nat.zero_le _) (Nat.zero_le _) (ew_sub (List.forall_mem_cons.mpr ⟨lm0, (List.forall_mem_cons.mpr ⟨lm1, (List.forall_mem_cons.mpr ⟨lm2, e_nm⟩)⟩)⟩) H)
  · replace H := H.1 c2
    refine ew_iconst dX1_isLeast_9 (inI_of rfl) ?_
    exact ew_ret (o := some (aI 0)) rfl ⟨_, rfl, rfl, H⟩ ⟨dX1_isLeast_10, .boolean, rfl, Or.inr (Or.inl rfl), by decide⟩
def C_X1_isLeast (a : Int) (s0 : XS) (K : Int → Prop) : Prop := ∀ (X13 : Int → Int → Prop), (∀ (x1 : Int) (x2 : Int), B_X1_isLeast_13 X13 K x1 x2 s0 → X13 x1 x2) → B_X1_isLeast_E X13 K a s0
theorem S_X1_isLeast {d : Nat} {V : XV} {g : AH} {K : Int → Prop} {a : Int} {s0 : XS} (H : C_X1_isLeast a s0 K) : Sp mm_X1_isLeast (d + 2) 0 0 [aR (some xT), aI a] (xh V s0 g) (cQ (xh V s0 g) K) :=
  ew_sp rfl (Nat.le_of_ble_eq_true rfl) (T_X1_isLeast_E d V g K a s0 (H _ (fun x1 x2 H => T_X1_isLeast_13 d V g K x1 x2 s0 H)))
abbrev mm_X1_many : EM := (yX1_many, cX1_many, 6, (Option.some .int), [])
theorem me_X1_many : e_mth mm_X1_many 2 := ⟨rfl, q1219, q108, by decide +kernel, by decide⟩
def B_X1_many_20 (X20 : Int → Int → Int → XS → Prop) (X59 : Int → Int → XS → Prop) (K : Int → XS → Prop) (x1 : Int) (x2 : Int) (x4 : Int) (s0 : XS) : Prop :=
  (C_X1_every s0 (fun r1 => ((r1 < x4 → X59 0 0 s0) ∧ (¬ r1 < x4 → (C_X1_by x4 s0 (fun s7 => (C_X3_areOne_G x1 x2 3 s7 (fun r10 => ((((r10 = 0 ∨ r10 = 1) ∧ 0 ≤ x4 ∧ x4 < 4096)) ∧ ∀ s14 : XS, s14 = xa s7 14 x4 r10 → (inI (x4 + 1) ∧ X20 x1 x2 (x4 + 1) s14))))))))))
def B_X1_many_59 (X20 : Int → Int → Int → XS → Prop) (X59 : Int → Int → XS → Prop) (K : Int → XS → Prop) (x4 : Int) (x5 : Int) (s0 : XS) : Prop :=
  (C_X1_every s0 (fun r1 => ((r1 < x5 → (C_X1_fine x4 s0 (fun r6 s7 => K r6 s7))) ∧ (¬ r1 < x5 → (C_X1_isLeast x5 s0 (fun r10 => ((r10 = 0 → ((inI (x4 + 0)) ∧ (inI (x5 + 1) ∧ X59 (x4 + 0) (x5 + 1) s0))) ∧ (¬ r10 = 0 → ((inI (x4 + 1)) ∧ (inI (x5 + 1) ∧ X59 (x4 + 1) (x5 + 1) s0))))))))))
def B_X1_many_E (X20 : Int → Int → Int → XS → Prop) (X59 : Int → Int → XS → Prop) (K : Int → XS → Prop) (a : Int) (b : Int) (s0 : XS) : Prop :=
  (C_X1_why a b s0 (fun r1 => ((r1 ≤ 0 → X20 a b 0 s0) ∧ (¬ r1 ≤ 0 → (C_X1_refused r1 s0 (fun r6 s7 => K r6 s7))))))
def W_X1_many_20 (d : Nat) (V : XV) (g : AH) (K : Int → XS → Prop) (x1 : Int) (x2 : Int) (x4 : Int) (s0 : XS) : Prop := ∀ g1, eX g g1 → EW mm_X1_many (d + 8) 0 0 (tQi V g K) 20 [(0, aR (some xT)), (1, aI x1), (2, aI x2), (4, aI x4)] [] (xh V s0 g1)
def W_X1_many_59 (d : Nat) (V : XV) (g : AH) (K : Int → XS → Prop) (x4 : Int) (x5 : Int) (s0 : XS) : Prop := ∀ g1, eX g g1 → EW mm_X1_many (d + 8) 0 0 (tQi V g K) 59 [(0, aR (some xT)), (4, aI x4), (5, aI x5)] [] (xh V s0 g1)
set_option maxHeartbeats 4000000 in
theorem T_X1_many_20 (d : Nat) (V : XV) (g : AH) (hg : xf 8 g) (hr : xfree V g) (K : Int → XS → Prop) (x1 : Int) (x2 : Int) (x4 : Int) (s0 : XS) (g1 : AH) (hx : eX g g1) (H : B_X1_many_20 (W_X1_many_20 d V g K) (W_X1_many_59 d V g K) K x1 x2 x4 s0) : EW mm_X1_many (d + 8) 0 0 (tQi V g K) 20 [(0, aR (some xT)), (1, aI x1), (2, aI x2), (4, aI x4)] [] (xh V s0 g1) := by
  refine ew_iload dX1_many_20 lm3 ?_
  refine ew_aload_n dX1_many_22 rfl lm0 ?_
  refine ew_callV (d := d + 7) (as := []) rfl dX1_many_23 me_X1_every rfl (ci := 0) rfl rfl xh_x (Or.inl q1109) q1111 qs33 (Nat.le_of_ble_eq_true rfl) (Nat.zero_le _) (Nat.zero_le _) (S_X1_every (d := d + 5) H) (fun o h' hq3 _ => ?_) (fun E i h' q _ => (cQ_no q).elim)
  obtain ⟨r1, E4, rfl, H⟩ := hq3
  cases E4
  refine ew_icmp_gt (tgt := 53) dX1_many_26 (by decide) (fun c5 => ?_) (fun c5 => ?_)
  · replace H := H.1 c5
    refine ew_iconst dX1_many_53 (inI_of rfl) ?_
    refine ew_istore dX1_many_54 (by decide) (lv' := [(4, aI 0), (0, aR (some xT)), (1, aI x1), (2, aI x2)]) rfl ?_
    refine ew_sub (List.forall_mem_cons.mpr ⟨lm1, (List.forall_mem_cons.mpr ⟨lm2, (List.forall_mem_cons.mpr ⟨lm3, (List.forall_mem_cons.mpr ⟨lm0, e_nm⟩)⟩)⟩)⟩) ?_
    refine ew_iconst dX1_many_56 (inI_of rfl) ?_
    refine ew_istore dX1_many_57 (by decide) (lv' := [(5, aI 0), (0, aR (some xT)), (1, aI x1), (2, aI x2), (4, aI 0)]) rfl ?_
    refine ew_sub (List.forall_mem_cons.mpr ⟨lm1, (List.forall_mem_cons.mpr ⟨lm2, (List.forall_mem_cons.mpr ⟨lm3, (List.forall_mem_cons.mpr ⟨lm4, (List.forall_mem_cons.mpr ⟨lm0, e_nm⟩)⟩)⟩)⟩)⟩) ?_
    exact ew_room (Nat.le_refl _) (Nat.zero_le _) (Nat.zero_le _) (ew_sub (List.forall_mem_cons.mpr ⟨lm0, (List.forall_mem_cons.mpr ⟨lm3, (List.forall_mem_cons.mpr ⟨lm4, e_nm⟩)⟩)⟩) (H _ hx))
  · replace H := H.2 c5
    refine ew_aload_n dX1_many_29 rfl lm0 ?_
    refine xw_get (v := aR (some (0, 2, 14))) dX1_many_30 (e_fl.a q342) xf_14 rfl ?_
    refine ew_iload dX1_many_33 lm3 ?_
    refine ew_aload_n dX1_many_35 rfl lm0 ?_
    refine ew_iload dX1_many_36 lm3 ?_
    refine ew_callV (d := d + 7) (as := [aI x4]) rfl dX1_many_38 me_X1_by rfl (ci := 0) rfl rfl xh_x (Or.inl q1113) q1115 qs34 (Nat.le_of_ble_eq_true rfl) (Nat.zero_le _) (Nat.zero_le _) (S_X1_by (d := d + 0) H) (fun o h' hq8 _ => ?_) (fun E i h' q _ => (xQp_no q).elim)
    obtain ⟨s7, E9, rfl, H⟩ := hq8
    cases E9
    refine ew_iload_n dX1_many_41 rfl lm1 ?_
    refine ew_iload_n dX1_many_42 rfl lm2 ?_
    refine ew_callY (x := ⟨"ReasonCloser$Closed", "areOne", "(II)Z"⟩) (d := d + 7) (as := [aI x1, aI x2]) rfl dX1_many_43 me_X3_areOne rfl (by decide) rfl q1128 q977 (ysel4_3 (P := fun c => Cond.selects c _ _ ∈ lw_all) q979) q981 (Or.inl q978) (by decide) (Nat.le_of_ble_eq_true rfl) (Nat.zero_le _) (Nat.zero_le _) (S_X3_areOne_G (d := d + 7) (by decide) H) (fun o h' hq12 _ => ?_) (fun E i h' q _ => (cQ_no q).elim)
    obtain ⟨r10, E13, rfl, H⟩ := hq12
    cases E13
    obtain ⟨v16, H⟩ := H
    refine xw_bast dX1_many_46 (by decide) rfl rfl (Or.inl ⟨rfl, v16.1⟩) v16.2.1 v16.2.2 (fun s14 e15 => ?_)
    replace H := H s14 e15
    obtain ⟨v17, H⟩ := H
    refine ew_iinc dX1_many_47 lm3 (by decide) v17 (lv' := [(4, aI (x4 + 1)), (0, aR (some xT)), (1, aI x1), (2, aI x2)]) rfl ?_
    refine ew_sub (List.forall_mem_cons.mpr ⟨lm1, (List.forall_mem_cons.mpr ⟨lm2, (List.forall_mem_cons.mpr ⟨lm3, (List.forall_mem_cons.mpr ⟨lm0, e_nm⟩)⟩)⟩)⟩) ?_
    refine ew_goto (tgt := 20) dX1_many_50 (by decide) ?_
    exact ew_room (Nat.le_refl _) (Nat.zero_le _) (Nat.zero_le _) (ew_sub (List.forall_mem_cons.mpr ⟨lm0, (List.forall_mem_cons.mpr ⟨lm1, (List.forall_mem_cons.mpr ⟨lm2, (List.forall_mem_cons.mpr ⟨lm3, e_nm⟩)⟩)⟩)⟩) (H _ hx))
set_option maxHeartbeats 4000000 in
theorem T_X1_many_59 (d : Nat) (V : XV) (g : AH) (hg : xf 8 g) (hr : xfree V g) (K : Int → XS → Prop) (x4 : Int) (x5 : Int) (s0 : XS) (g1 : AH) (hx : eX g g1) (H : B_X1_many_59 (W_X1_many_20 d V g K) (W_X1_many_59 d V g K) K x4 x5 s0) : EW mm_X1_many (d + 8) 0 0 (tQi V g K) 59 [(0, aR (some xT)), (4, aI x4), (5, aI x5)] [] (xh V s0 g1) := by
  refine ew_iload dX1_many_59 lm2 ?_
  refine ew_aload_n dX1_many_61 rfl lm0 ?_
  refine ew_callV (d := d + 7) (as := []) rfl dX1_many_62 me_X1_every rfl (ci := 0) rfl rfl xh_x (Or.inl q1109) q1111 qs33 (Nat.le_of_ble_eq_true rfl) (Nat.zero_le _) (Nat.zero_le _) (S_X1_every (d := d + 5) H) (fun o h' hq3 _ => ?_) (fun E i h' q _ => (cQ_no q).elim)
  obtain ⟨r1, E4, rfl, H⟩ := hq3
  cases E4
  refine ew_icmp_gt (tgt := 93) dX1_many_65 (by decide) (fun c5 => ?_) (fun c5 => ?_)
  · replace H := H.1 c5
    refine ew_aload_n dX1_many_93 rfl lm0 ?_
    refine ew_iload dX1_many_94 lm1 ?_
    refine ew_callV (d := d + 7) (as := [aI x4]) rfl dX1_many_96 me_X1_fine rfl (ci := 0) rfl rfl xh_x (Or.inl q1032) q1034 qs24 (Nat.le_of_ble_eq_true rfl) (Nat.zero_le _) (Nat.zero_le _) (S_X1_fine (d := d + 7) H) (fun o h' hq8 _ => ?_) (fun E i h' q _ => (xQi_no q).elim)
    obtain ⟨r6, s7, E9, rfl, H⟩ := hq8
    cases E9
    exact ew_ret (o := some (aI r6)) rfl ⟨_, _, _, rfl, rfl, hx, H⟩ ⟨dX1_many_99, .int, rfl, Or.inl rfl, rfl⟩
  · replace H := H.2 c5
    refine ew_iload dX1_many_68 lm1 ?_
    refine ew_aload_n dX1_many_70 rfl lm0 ?_
    refine ew_iload dX1_many_71 lm2 ?_
    refine ew_callV (d := d + 7) (as := [aI x5]) rfl dX1_many_73 me_X1_isLeast rfl (ci := 0) rfl rfl xh_x (Or.inl q1220) q1222 qs40 (Nat.le_of_ble_eq_true rfl) (Nat.zero_le _) (Nat.zero_le _) (S_X1_isLeast (d := d + 5) H) (fun o h' hq12 _ => ?_) (fun E i h' q _ => (cQ_no q).elim)
    obtain ⟨r10, E13, rfl, H⟩ := hq12
    cases E13
    refine ew_if_eq (tgt := 83) dX1_many_76 (by decide) (fun c14 => ?_) (fun c14 => ?_)
    · replace H := H.1 c14
      refine ew_iconst dX1_many_83 (inI_of rfl) ?_
      obtain ⟨v15, H⟩ := H
      refine ew_iadd dX1_many_84 v15 ?_
      refine ew_istore dX1_many_85 (by decide) (lv' := [(4, aI (x4 + 0)), (0, aR (some xT)), (5, aI x5)]) rfl ?_
      refine ew_sub (List.forall_mem_cons.mpr ⟨lm1, (List.forall_mem_cons.mpr ⟨lm0, (List.forall_mem_cons.mpr ⟨lm2, e_nm⟩)⟩)⟩) ?_
      obtain ⟨v16, H⟩ := H
      refine ew_iinc dX1_many_87 lm2 (by decide) v16 (lv' := [(5, aI (x5 + 1)), (0, aR (some xT)), (4, aI (x4 + 0))]) rfl ?_
      refine ew_sub (List.forall_mem_cons.mpr ⟨lm1, (List.forall_mem_cons.mpr ⟨lm2, (List.forall_mem_cons.mpr ⟨lm0, e_nm⟩)⟩)⟩) ?_
      refine ew_goto (tgt := 59) dX1_many_90 (by decide) ?_
      exact ew_room (Nat.le_refl _) (Nat.zero_le _) (Nat.zero_le _) (ew_sub (List.forall_mem_cons.mpr ⟨lm0, (List.forall_mem_cons.mpr ⟨lm1, (List.forall_mem_cons.mpr ⟨lm2, e_nm⟩)⟩)⟩) (H _ hx))
    · replace H := H.2 c14
      refine ew_iconst dX1_many_79 (inI_of rfl) ?_
      refine ew_goto (tgt := 84) dX1_many_80 (by decide) ?_
      obtain ⟨v17, H⟩ := H
      refine ew_iadd dX1_many_84 v17 ?_
      refine ew_istore dX1_many_85 (by decide) (lv' := [(4, aI (x4 + 1)), (0, aR (some xT)), (5, aI x5)]) rfl ?_
      refine ew_sub (List.forall_mem_cons.mpr ⟨lm1, (List.forall_mem_cons.mpr ⟨lm0, (List.forall_mem_cons.mpr ⟨lm2, e_nm⟩)⟩)⟩) ?_
      obtain ⟨v18, H⟩ := H
      refine ew_iinc dX1_many_87 lm2 (by decide) v18 (lv' := [(5, aI (x5 + 1)), (0, aR (some xT)), (4, aI (x4 + 1))]) rfl ?_
      refine ew_sub (List.forall_mem_cons.mpr ⟨lm1, (List.forall_mem_cons.mpr ⟨lm2, (List.forall_mem_cons.mpr ⟨lm0, e_nm⟩)⟩)⟩) ?_
      refine ew_goto (tgt := 59) dX1_many_90 (by decide) ?_
      exact ew_room (Nat.le_refl _) (Nat.zero_le _) (Nat.zero_le _) (ew_sub (List.forall_mem_cons.mpr ⟨lm0, (List.forall_mem_cons.mpr ⟨lm1, (List.forall_mem_cons.mpr ⟨lm2, e_nm⟩)⟩)⟩) (H _ hx))
set_option maxHeartbeats 4000000 in
theorem T_X1_many_E (d : Nat) (V : XV) (g : AH) (hg : xf 8 g) (hr : xfree V g) (K : Int → XS → Prop) (a : Int) (b : Int) (s0 : XS) (H : B_X1_many_E (W_X1_many_20 d V g K) (W_X1_many_59 d V g K) K a b s0) : EW mm_X1_many (d + 8) 1 2 (tQi V g K) 0 [(0, aR (some xT)), (1, aI a), (2, aI b)] [] (xh V s0 g) := by
  refine ew_aload_n dX1_many_0 rfl lm0 ?_
  refine ew_iload_n dX1_many_1 rfl lm1 ?_
  refine ew_iload_n dX1_many_2 rfl lm2 ?_
  refine ew_callV (d := d + 7) (as := [aI a, aI b]) rfl dX1_many_3 me_X1_why rfl (ci := 0) rfl rfl xh_x (Or.inl q1157) q1159 qs35 (Nat.le_of_ble_eq_true rfl) (Nat.le_of_ble_eq_true rfl) (Nat.le_of_ble_eq_true rfl) (S_X1_why (d := d + 4) (xf.le hg (Nat.le_of_ble_eq_true rfl)) hr H) (fun o h' hq3 _ => ?_) (fun E i h' q _ => (cQ_no q).elim)
  obtain ⟨r1, E4, rfl, H⟩ := hq3
  cases E4
  refine ew_istore_n dX1_many_6 rfl (by decide) (lv' := [(3, aI r1), (0, aR (some xT)), (1, aI a), (2, aI b)]) rfl ?_
  refine ew_sub (List.forall_mem_cons.mpr ⟨lm1, (List.forall_mem_cons.mpr ⟨lm2, (List.forall_mem_cons.mpr ⟨lm3, (List.forall_mem_cons.mpr ⟨lm0, e_nm⟩)⟩)⟩)⟩) ?_
  refine ew_iload_n dX1_many_7 rfl lm3 ?_
  refine ew_if_le (tgt := 17) dX1_many_8 (by decide) (fun c5 => ?_) (fun c5 => ?_)
  · replace H := H.1 c5
    refine ew_iconst dX1_many_17 (inI_of rfl) ?_
    refine ew_istore dX1_many_18 (by decide) (lv' := [(4, aI 0), (0, aR (some xT)), (1, aI a), (2, aI b), (3, aI r1)]) rfl ?_
    refine ew_sub (List.forall_mem_cons.mpr ⟨lm1, (List.forall_mem_cons.mpr ⟨lm2, (List.forall_mem_cons.mpr ⟨lm3, (List.forall_mem_cons.mpr ⟨lm4, (List.forall_mem_cons.mpr ⟨lm0, e_nm⟩)⟩)⟩)⟩)⟩) ?_
    exact ew_room (Nat.le_refl _) (Nat.zero_le _) (Nat.zero_le _) (ew_sub (List.forall_mem_cons.mpr ⟨lm0, (List.forall_mem_cons.mpr ⟨lm1, (List.forall_mem_cons.mpr ⟨lm2, (List.forall_mem_cons.mpr ⟨lm4, e_nm⟩)⟩)⟩)⟩) (H _ eX.rf))
  · replace H := H.2 c5
    refine ew_aload_n dX1_many_11 rfl lm0 ?_
    refine ew_iload_n dX1_many_12 rfl lm3 ?_
    refine ew_callV (d := d + 7) (as := [aI r1]) rfl dX1_many_13 me_X1_refused rfl (ci := 0) rfl rfl xh_x (Or.inl q406) q408 qs1 (Nat.le_of_ble_eq_true rfl) (Nat.zero_le _) (Nat.zero_le _) (S_X1_refused (d := d + 7) H) (fun o h' hq8 _ => ?_) (fun E i h' q _ => (xQi_no q).elim)
    obtain ⟨r6, s7, E9, rfl, H⟩ := hq8
    cases E9
    exact ew_ret (o := some (aI r6)) rfl ⟨_, _, _, rfl, rfl, eX.rf, H⟩ ⟨dX1_many_16, .int, rfl, Or.inl rfl, rfl⟩
def C_X1_many (a : Int) (b : Int) (s0 : XS) (K : Int → XS → Prop) : Prop := ∀ (X20 : Int → Int → Int → XS → Prop) (X59 : Int → Int → XS → Prop), (∀ (x1 : Int) (x2 : Int) (x4 : Int) (s0 : XS), B_X1_many_20 X20 X59 K x1 x2 x4 s0 → X20 x1 x2 x4 s0) → (∀ (x4 : Int) (x5 : Int) (s0 : XS), B_X1_many_59 X20 X59 K x4 x5 s0 → X59 x4 x5 s0) → B_X1_many_E X20 X59 K a b s0
theorem S_X1_many {d : Nat} {V : XV} {g : AH} {K : Int → XS → Prop} {a : Int} {b : Int} {s0 : XS} (hg : xf 8 g) (hr : xfree V g) (H : C_X1_many a b s0 K) : Sp mm_X1_many (d + 8) 1 2 [aR (some xT), aI a, aI b] (xh V s0 g) (xQi V g K) :=
  Sp.forget hr tQi_x (ew_sp rfl (Nat.le_of_ble_eq_true rfl) (T_X1_many_E d V g hg hr K a b s0 (H _ _ (fun x1 x2 x4 s0 H g1 hx => T_X1_many_20 d V g hg hr K x1 x2 x4 s0 g1 hx H) (fun x4 x5 s0 H g1 hx => T_X1_many_59 d V g hg hr K x4 x5 s0 g1 hx H))))
abbrev mm_X1_base : EM := (yX1_base, cX1_base, 4, (Option.some .int), [])
theorem me_X1_base : e_mth mm_X1_base 0 := ⟨rfl, q1227, q108, by decide +kernel, by decide⟩
def B_X1_base_12 (X12 : Int → Int → XS → Prop) (K : Int → XS → Prop) (x1 : Int) (x2 : Int) (s0 : XS) : Prop :=
  ((x2 < 0 → K x1 s0) ∧ (¬ x2 < 0 → (((0 ≤ x2 ∧ x2 < s0.1.1 32) ∧ xok s0 2) ∧ ((0 ≤ x2 ∧ x2 < s0.1.1 42) ∧ (C_X1_by (jand x1 (jxor (jshl 1 x2) (-1))) s0 (fun s5 => ((0 ≤ x2 ∧ x2 < s5.1.1 42) ∧ ((0 ≤ x2 ∧ x2 < s5.1.1 42) ∧ (C_X3_areOne_G (s5.1.2 40 x2) (s5.1.2 41 x2) 3 s5 (fun r10 => ((r10 = 0 → (inI (x2 + (-1)) ∧ X12 x1 (x2 + (-1)) s5)) ∧ (¬ r10 = 0 → (inI (x2 + (-1)) ∧ X12 (jand x1 (jxor (jshl 1 x2) (-1))) (x2 + (-1)) s5)))))))))))))
def B_X1_base_E (X12 : Int → Int → XS → Prop) (K : Int → XS → Prop) (s0 : XS) : Prop :=
  (C_X1_every s0 (fun r1 => (C_X1_sames s0 (fun r5 => ((inI (r5 - 1)) ∧ X12 r1 (r5 - 1) s0)))))
def W_X1_base_12 (d : Nat) (V : XV) (g : AH) (K : Int → XS → Prop) (x1 : Int) (x2 : Int) (s0 : XS) : Prop := EW mm_X1_base (d + 8) 0 0 (xQi V g K) 12 [(0, aR (some xT)), (1, aI x1), (2, aI x2)] [] (xh V s0 g)
set_option maxHeartbeats 4000000 in
theorem T_X1_base_12 (d : Nat) (V : XV) (g : AH) (K : Int → XS → Prop) (x1 : Int) (x2 : Int) (s0 : XS) (H : B_X1_base_12 (W_X1_base_12 d V g K) K x1 x2 s0) : EW mm_X1_base (d + 8) 0 0 (xQi V g K) 12 [(0, aR (some xT)), (1, aI x1), (2, aI x2)] [] (xh V s0 g) := by
  refine ew_iload_n dX1_base_12 rfl lm2 ?_
  refine ew_if_lt (tgt := 72) dX1_base_13 (by decide) (fun c1 => ?_) (fun c1 => ?_)
  · replace H := H.1 c1
    refine ew_iload_n dX1_base_72 rfl lm1 ?_
    exact ew_ret (o := some (aI x1)) rfl ⟨_, _, rfl, rfl, H⟩ ⟨dX1_base_73, .int, rfl, Or.inl rfl, rfl⟩
  · replace H := H.2 c1
    refine ew_aload_n dX1_base_16 rfl lm0 ?_
    refine xw_get (v := aR (some (bI V 1 0))) dX1_base_17 (e_fl.a q333) xf_5 rfl ?_
    refine xw_book dX1_base_20 (e_fl.c q194) bf_2 ?_
    refine ew_iload_n dX1_base_23 rfl lm2 ?_
    obtain ⟨v2, H⟩ := H
    refine lw_g2 (d := d + 5) dX1_base_24 q1021 (Nat.le_of_ble_eq_true rfl) v2.1 v2.2 ?_
    obtain ⟨v3, H⟩ := H
    refine cs_cast (f := x2) dX1_base_29 q1022 v3 ?_
    refine ew_astore_n dX1_base_32 rfl (by decide) (lv' := [(3, aR (some (bI V 12 (x2).toNat))), (0, aR (some xT)), (1, aI x1), (2, aI x2)]) rfl ?_
    refine ew_sub (List.forall_mem_cons.mpr ⟨lm1, (List.forall_mem_cons.mpr ⟨lm2, (List.forall_mem_cons.mpr ⟨lm3, (List.forall_mem_cons.mpr ⟨lm0, e_nm⟩)⟩)⟩)⟩) ?_
    refine ew_aload_n dX1_base_33 rfl lm0 ?_
    refine ew_iload_n dX1_base_34 rfl lm1 ?_
    refine ew_iconst dX1_base_35 (inI_of rfl) ?_
    refine ew_iload_n dX1_base_36 rfl lm2 ?_
    refine ew_ishl dX1_base_37 ?_
    refine ew_iconst dX1_base_38 (inI_of rfl) ?_
    refine ew_ixor dX1_base_39 ?_
    refine ew_iand dX1_base_40 ?_
    refine ew_callV (d := d + 7) (as := [aI (jand x1 (jxor (jshl 1 x2) (-1)))]) rfl dX1_base_41 me_X1_by rfl (ci := 0) rfl rfl xh_x (Or.inl q1113) q1115 qs34 (Nat.le_of_ble_eq_true rfl) (Nat.zero_le _) (Nat.zero_le _) (S_X1_by (d := d + 0) H) (fun o h' hq6 _ => ?_) (fun E i h' q _ => (xQp_no q).elim)
    obtain ⟨s5, E7, rfl, H⟩ := hq6
    cases E7
    refine ew_aload_n dX1_base_44 rfl lm3 ?_
    obtain ⟨v8, H⟩ := H
    refine gs_0 (f := x2) dX1_base_45 (e_fl.c q865) sf_0 v8 ?_
    refine ew_aload_n dX1_base_48 rfl lm3 ?_
    obtain ⟨v9, H⟩ := H
    refine gs_1 (f := x2) dX1_base_49 (e_fl.c q867) sf_1 v9 ?_
    refine ew_callY (x := ⟨"ReasonCloser$Closed", "areOne", "(II)Z"⟩) (d := d + 7) (as := [aI (s5.1.2 40 x2), aI (s5.1.2 41 x2)]) rfl dX1_base_52 me_X3_areOne rfl (by decide) rfl q1128 q977 (ysel4_3 (P := fun c => Cond.selects c _ _ ∈ lw_all) q979) q981 (Or.inl q978) (by decide) (Nat.le_of_ble_eq_true rfl) (Nat.zero_le _) (Nat.zero_le _) (S_X3_areOne_G (d := d + 7) (by decide) H) (fun o h' hq12 _ => ?_) (fun E i h' q _ => (cQ_no q).elim)
    obtain ⟨r10, E13, rfl, H⟩ := hq12
    cases E13
    refine ew_if_eq (tgt := 66) dX1_base_55 (by decide) (fun c14 => ?_) (fun c14 => ?_)
    · replace H := H.1 c14
      obtain ⟨v15, H⟩ := H
      refine ew_iinc dX1_base_66 lm2 (by decide) v15 (lv' := [(2, aI (x2 + (-1))), (0, aR (some xT)), (1, aI x1), (3, aR (some (bI V 12 (x2).toNat)))]) rfl ?_
      refine ew_sub (List.forall_mem_cons.mpr ⟨lm1, (List.forall_mem_cons.mpr ⟨lm2, (List.forall_mem_cons.mpr ⟨lm0, (List.forall_mem_cons.mpr ⟨lm3, e_nm⟩)⟩)⟩)⟩) ?_
      refine ew_goto (tgt := 12) dX1_base_69 (by decide) ?_
      exact ew_room (Nat.le_refl _) (Nat.zero_le _) (Nat.zero_le _) (ew_sub (List.forall_mem_cons.mpr ⟨lm0, (List.forall_mem_cons.mpr ⟨lm1, (List.forall_mem_cons.mpr ⟨lm2, e_nm⟩)⟩)⟩) H)
    · replace H := H.2 c14
      refine ew_iload_n dX1_base_58 rfl lm1 ?_
      refine ew_iconst dX1_base_59 (inI_of rfl) ?_
      refine ew_iload_n dX1_base_60 rfl lm2 ?_
      refine ew_ishl dX1_base_61 ?_
      refine ew_iconst dX1_base_62 (inI_of rfl) ?_
      refine ew_ixor dX1_base_63 ?_
      refine ew_iand dX1_base_64 ?_
      refine ew_istore_n dX1_base_65 rfl (by decide) (lv' := [(1, aI (jand x1 (jxor (jshl 1 x2) (-1)))), (0, aR (some xT)), (2, aI x2), (3, aR (some (bI V 12 (x2).toNat)))]) rfl ?_
      refine ew_sub (List.forall_mem_cons.mpr ⟨lm1, (List.forall_mem_cons.mpr ⟨lm0, (List.forall_mem_cons.mpr ⟨lm2, (List.forall_mem_cons.mpr ⟨lm3, e_nm⟩)⟩)⟩)⟩) ?_
      obtain ⟨v16, H⟩ := H
      refine ew_iinc dX1_base_66 lm2 (by decide) v16 (lv' := [(2, aI (x2 + (-1))), (0, aR (some xT)), (1, aI (jand x1 (jxor (jshl 1 x2) (-1)))), (3, aR (some (bI V 12 (x2).toNat)))]) rfl ?_
      refine ew_sub (List.forall_mem_cons.mpr ⟨lm1, (List.forall_mem_cons.mpr ⟨lm2, (List.forall_mem_cons.mpr ⟨lm0, (List.forall_mem_cons.mpr ⟨lm3, e_nm⟩)⟩)⟩)⟩) ?_
      refine ew_goto (tgt := 12) dX1_base_69 (by decide) ?_
      exact ew_room (Nat.le_refl _) (Nat.zero_le _) (Nat.zero_le _) (ew_sub (List.forall_mem_cons.mpr ⟨lm0, (List.forall_mem_cons.mpr ⟨lm1, (List.forall_mem_cons.mpr ⟨lm2, e_nm⟩)⟩)⟩) H)
set_option maxHeartbeats 4000000 in
theorem T_X1_base_E (d : Nat) (V : XV) (g : AH) (K : Int → XS → Prop) (s0 : XS) (H : B_X1_base_E (W_X1_base_12 d V g K) K s0) : EW mm_X1_base (d + 8) 0 0 (xQi V g K) 0 [(0, aR (some xT))] [] (xh V s0 g) := by
  refine ew_aload_n dX1_base_0 rfl lm0 ?_
  refine ew_callV (d := d + 7) (as := []) rfl dX1_base_1 me_X1_every rfl (ci := 0) rfl rfl xh_x (Or.inl q1109) q1111 qs33 (Nat.le_of_ble_eq_true rfl) (Nat.zero_le _) (Nat.zero_le _) (S_X1_every (d := d + 5) H) (fun o h' hq3 _ => ?_) (fun E i h' q _ => (cQ_no q).elim)
  obtain ⟨r1, E4, rfl, H⟩ := hq3
  cases E4
  refine ew_istore_n dX1_base_4 rfl (by decide) (lv' := [(1, aI r1), (0, aR (some xT))]) rfl ?_
  refine ew_sub (List.forall_mem_cons.mpr ⟨lm1, (List.forall_mem_cons.mpr ⟨lm0, e_nm⟩)⟩) ?_
  refine ew_aload_n dX1_base_5 rfl lm0 ?_
  refine ew_callV (d := d + 7) (as := []) rfl dX1_base_6 me_X1_sames rfl (ci := 0) rfl rfl xh_x (Or.inl q1052) q1054 qs26 (Nat.le_of_ble_eq_true rfl) (Nat.zero_le _) (Nat.zero_le _) (S_X1_sames (d := d + 6) H) (fun o h' hq7 _ => ?_) (fun E i h' q _ => (cQ_no q).elim)
  obtain ⟨r5, E8, rfl, H⟩ := hq7
  cases E8
  refine ew_iconst dX1_base_9 (inI_of rfl) ?_
  obtain ⟨v9, H⟩ := H
  refine ew_isub dX1_base_10 v9 ?_
  refine ew_istore_n dX1_base_11 rfl (by decide) (lv' := [(2, aI (r5 - 1)), (0, aR (some xT)), (1, aI r1)]) rfl ?_
  refine ew_sub (List.forall_mem_cons.mpr ⟨lm1, (List.forall_mem_cons.mpr ⟨lm2, (List.forall_mem_cons.mpr ⟨lm0, e_nm⟩)⟩)⟩) ?_
  exact ew_room (Nat.le_refl _) (Nat.zero_le _) (Nat.zero_le _) (ew_sub (List.forall_mem_cons.mpr ⟨lm0, (List.forall_mem_cons.mpr ⟨lm1, (List.forall_mem_cons.mpr ⟨lm2, e_nm⟩)⟩)⟩) H)
def C_X1_base (s0 : XS) (K : Int → XS → Prop) : Prop := ∀ (X12 : Int → Int → XS → Prop), (∀ (x1 : Int) (x2 : Int) (s0 : XS), B_X1_base_12 X12 K x1 x2 s0 → X12 x1 x2 s0) → B_X1_base_E X12 K s0
theorem S_X1_base {d : Nat} {V : XV} {g : AH} {K : Int → XS → Prop} {s0 : XS} (H : C_X1_base s0 K) : Sp mm_X1_base (d + 8) 0 0 [aR (some xT)] (xh V s0 g) (xQi V g K) :=
  ew_sp rfl (Nat.le_of_ble_eq_true rfl) (T_X1_base_E d V g K s0 (H _ (fun x1 x2 s0 H => T_X1_base_12 d V g K x1 x2 s0 H)))
abbrev mm_X1_lambda_fewest_0 : EM := (yX1_lambda_fewest_0, cX1_lambda_fewest_0, 3, (Option.some .boolean), [])
theorem me_X1_lambda_fewest_0 : e_mth mm_X1_lambda_fewest_0 3 := ⟨rfl, q1189, q108, by decide +kernel, by decide⟩
def B_X1_lambda_fewest_0_E (K : Int → Prop) (a : Int) (b : Int) (s0 : XS) : Prop :=
  (C_X3_areOne_G a b 3 s0 (fun r1 => ((r1 = 0 ∨ r1 = 1) ∧ K r1)))
set_option maxHeartbeats 4000000 in
theorem T_X1_lambda_fewest_0_E (d : Nat) (V : XV) (g : AH) (K : Int → Prop) (a : Int) (b : Int) (s0 : XS) (H : B_X1_lambda_fewest_0_E K a b s0) : EW mm_X1_lambda_fewest_0 (d + 1) 0 0 (cQ (xh V s0 g) K) 0 [(0, aI a), (1, aI b), (2, aR (some (sI V 3 99)))] [] (xh V s0 g) := by
  refine ew_aload_n dX1_lambda_fewest_0_0 rfl lm2 ?_
  refine ew_iload_n dX1_lambda_fewest_0_1 rfl lm0 ?_
  refine ew_iload_n dX1_lambda_fewest_0_2 rfl lm1 ?_
  refine ew_callY (x := ⟨"ReasonCloser$Closed", "areOne", "(II)Z"⟩) (d := d + 0) (as := [aI a, aI b]) rfl dX1_lambda_fewest_0_3 me_X3_areOne rfl (by decide) rfl q1128 q977 (ysel4_3 (P := fun c => Cond.selects c _ _ ∈ lw_all) q979) q981 (Or.inl q978) (by decide) (Nat.le_of_ble_eq_true rfl) (Nat.zero_le _) (Nat.zero_le _) (S_X3_areOne_G (d := d + 0) (by decide) H) (fun o h' hq3 _ => ?_) (fun E i h' q _ => (cQ_no q).elim)
  obtain ⟨r1, E4, rfl, H⟩ := hq3
  cases E4
  obtain ⟨v5, H⟩ := H
  exact ew_ret (o := some (aI r1)) rfl ⟨_, rfl, rfl, H⟩ ⟨dX1_lambda_fewest_0_6, .boolean, rfl, Or.inr (Or.inl rfl), by rcases v5 with z | z <;> rw [z] <;> decide⟩
def C_X1_lambda_fewest_0 (a : Int) (b : Int) (s0 : XS) (K : Int → Prop) : Prop := B_X1_lambda_fewest_0_E K a b s0
theorem S_X1_lambda_fewest_0 {d : Nat} {V : XV} {g : AH} {K : Int → Prop} {a : Int} {b : Int} {s0 : XS} (H : C_X1_lambda_fewest_0 a b s0 K) : Sp mm_X1_lambda_fewest_0 (d + 1) 0 0 [aI a, aI b, aR (some (sI V 3 99))] (xh V s0 g) (cQ (xh V s0 g) K) :=
  ew_sp rfl (Nat.le_of_ble_eq_true rfl) (T_X1_lambda_fewest_0_E d V g K a b s0 (H ))
abbrev mm_X1_lambda_core_1 : EM := (yX1_lambda_core_1, cX1_lambda_core_1, 2, (Option.some .boolean), [])
theorem me_X1_lambda_core_1 : e_mth mm_X1_lambda_core_1 1 := ⟨rfl, q1234, q108, by decide +kernel, by decide⟩
def B_X1_lambda_core_1_E (K : Int → Prop) (s0 : XS) : Prop :=
  (C_X1_clash 3 s0 (fun r1 => ((r1 = (-2) → K 0) ∧ (¬ r1 = (-2) → K 1))))
set_option maxHeartbeats 4000000 in
theorem T_X1_lambda_core_1_E (d : Nat) (V : XV) (g : AH) (K : Int → Prop) (s0 : XS) (H : B_X1_lambda_core_1_E K s0) : EW mm_X1_lambda_core_1 (d + 4) 0 0 (cQ (xh V s0 g) K) 0 [(0, aR (some xT)), (1, aR (some (sI V 3 99)))] [] (xh V s0 g) := by
  refine ew_aload_n dX1_lambda_core_1_0 rfl lm0 ?_
  refine ew_aload_n dX1_lambda_core_1_1 rfl lm1 ?_
  refine ew_callV (d := d + 3) (as := [aR (some (sI V 3 99))]) rfl dX1_lambda_core_1_2 me_X1_clash rfl (ci := 0) rfl rfl xh_x (Or.inl q1062) q1064 qs27 (Nat.le_of_ble_eq_true rfl) (Nat.zero_le _) (Nat.zero_le _) (S_X1_clash (d := d + 0) (by decide) H) (fun o h' hq3 _ => ?_) (fun E i h' q _ => (cQ_no q).elim)
  obtain ⟨r1, E4, rfl, H⟩ := hq3
  cases E4
  refine ew_bipush dX1_lambda_core_1_5 (inI_of rfl) (by decide) ?_
  refine ew_icmp_eq (tgt := 14) dX1_lambda_core_1_7 (by decide) (fun c5 => ?_) (fun c5 => ?_)
  · replace H := H.1 c5
    refine ew_iconst dX1_lambda_core_1_14 (inI_of rfl) ?_
    exact ew_ret (o := some (aI 0)) rfl ⟨_, rfl, rfl, H⟩ ⟨dX1_lambda_core_1_15, .boolean, rfl, Or.inr (Or.inl rfl), by decide⟩
  · replace H := H.2 c5
    refine ew_iconst dX1_lambda_core_1_10 (inI_of rfl) ?_
    refine ew_goto (tgt := 15) dX1_lambda_core_1_11 (by decide) ?_
    exact ew_ret (o := some (aI 1)) rfl ⟨_, rfl, rfl, H⟩ ⟨dX1_lambda_core_1_15, .boolean, rfl, Or.inr (Or.inl rfl), by decide⟩
def C_X1_lambda_core_1 (s0 : XS) (K : Int → Prop) : Prop := B_X1_lambda_core_1_E K s0
theorem S_X1_lambda_core_1 {d : Nat} {V : XV} {g : AH} {K : Int → Prop} {s0 : XS} (H : C_X1_lambda_core_1 s0 K) : Sp mm_X1_lambda_core_1 (d + 4) 0 0 [aR (some xT), aR (some (sI V 3 99))] (xh V s0 g) (cQ (xh V s0 g) K) :=
  ew_sp rfl (Nat.le_of_ble_eq_true rfl) (T_X1_lambda_core_1_E d V g K s0 (H ))
