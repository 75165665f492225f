/-! ReasonCloser: methods as predicates, by program (gen/gxx.py) -/
set_option maxRecDepth 100000
abbrev mm_X1_with : EM := (yX1_with, cX1_with, 3, (Option.some (.object "ReasonCloser$Closed")), [])
theorem me_X1_with : e_mth mm_X1_with 2 := ⟨rfl, q1298, q108, by decide +kernel, by decide⟩
def B_X1_with_E (K : XS → Prop) (a : Int) (b : Int) (s0 : XS) : Prop :=
  (C_X3_like_V34 s0 (fun s2 => (C_X4_same_P a b 12 3 s2 (fun s6 => K s6))))
set_option maxHeartbeats 4000000 in
theorem T_X1_with_E (d : Nat) (V : XV) (g : AH) (K : XS → Prop) (a : Int) (b : Int) (s0 : XS) (H : B_X1_with_E K a b s0) : EW mm_X1_with (d + 7) 0 0 (xQp V g K) 0 [(0, aR (some xT)), (1, aI a), (2, aI b)] [] (xh V s0 g) := by
  refine ew_aload_n dX1_with_0 rfl lm0 ?_
  refine xw_get (v := aR (some (sI V 3 99))) dX1_with_1 (e_fl.a q336) xf_8 rfl ?_
  refine ew_aload_n dX1_with_4 rfl lm0 ?_
  refine xw_get (v := aR (some (sI V 4 99))) dX1_with_5 (e_fl.a q334) xf_6 rfl ?_
  refine ew_callY (x := ⟨"ReasonCloser$Closed", "like", "(LReasonCloser$Groups;)V"⟩) (d := d + 6) (as := [aR (some (sI V 4 99))]) rfl dX1_with_8 me_X3_like rfl (by decide) rfl q1117 q1118 (ysel4_3 (P := fun c => Cond.selects c _ _ ∈ lw_all) q1120) q1122 (Or.inl q1119) (by decide) (Nat.le_of_ble_eq_true rfl) (Nat.zero_le _) (Nat.zero_le _) (S_X3_like_V34 (d := d + 6) H) (fun o h' hq3 _ => ?_) (fun E i h' q _ => (xQv_no q).elim)
  obtain ⟨s2, E4, rfl, H⟩ := hq3
  cases E4
  refine ew_aload_n dX1_with_11 rfl lm0 ?_
  refine xw_get (v := aR (some (sI V 3 99))) dX1_with_12 (e_fl.a q336) xf_8 rfl ?_
  refine ew_iload_n dX1_with_15 rfl lm1 ?_
  refine ew_iload_n dX1_with_16 rfl lm2 ?_
  refine ew_bipush dX1_with_17 (inI_of rfl) (by decide) ?_
  refine ew_callY (x := ⟨"ReasonCloser$Closed", "same", "(III)V"⟩) (d := d + 6) (as := [aI a, aI b, aI 12]) rfl dX1_with_19 me_X4_same rfl (by decide) rfl q1127 q1976 (ysel4_3 (P := fun c => Cond.selects c _ _ ∈ lw_all) q1977) q1027 (Or.inl q1025) (by decide) (Nat.le_of_ble_eq_true rfl) (Nat.zero_le _) (Nat.zero_le _) (S_X4_same_P (d := d + 0) (by decide) H) (fun o h' hq7 _ => ?_) (fun E i h' q _ => (xQv_no q).elim)
  obtain ⟨s6, E8, rfl, H⟩ := hq7
  cases E8
  refine ew_aload_n dX1_with_22 rfl lm0 ?_
  refine xw_get (v := aR (some (sI V 3 99))) dX1_with_23 (e_fl.a q336) xf_8 rfl ?_
  exact ew_ret (o := some (aR (some (sI V 3 99)))) rfl ⟨_, rfl, rfl, H⟩ ⟨dX1_with_26, _, rfl, Or.inl ⟨_, rfl⟩⟩
def C_X1_with (a : Int) (b : Int) (s0 : XS) (K : XS → Prop) : Prop := B_X1_with_E K a b s0
theorem S_X1_with {d : Nat} {V : XV} {g : AH} {K : XS → Prop} {a : Int} {b : Int} {s0 : XS} (H : C_X1_with a b s0 K) : Sp mm_X1_with (d + 7) 0 0 [aR (some xT), aI a, aI b] (xh V s0 g) (xQp V g K) :=
  ew_sp rfl (Nat.le_of_ble_eq_true rfl) (T_X1_with_E d V g K a b s0 (H ))
abbrev mm_X1_would : EM := (yX1_would, cX1_would, 5, (Option.some .int), [])
theorem me_X1_would : e_mth mm_X1_would 3 := ⟨rfl, q1294, q108, by decide +kernel, by decide⟩
def B_X1_would_E (K : Int → XS → Prop) (a : Int) (b : Int) (c : Int) (s0 : XS) : Prop :=
  (C_X1_isTerm 2 (iup (iup (fun _ => 0) 0 a) 1 b) s0 (fun r1 => ((r1 = 0 → (C_X1_refused 1 s0 (fun r6 s7 => K r6 s7))) ∧ (¬ r1 = 0 → (C_X1_isIn c 0 2 (fun r10 => ((r10 = 0 → (C_X1_refused 1 s0 (fun r49 s50 => K r49 s50))) ∧ (¬ r10 = 0 → (C_X1_with a b s0 (fun s15 => ((c = 0 → (C_X3_groups_G 3 s15 (fun r41 => (C_X1_fine r41 s15 (fun r45 s46 => K r45 s46))))) ∧ (¬ c = 0 → ((c = 1 → (C_X1_clash 3 s15 (fun r33 => (C_X1_fine r33 s15 (fun r37 s38 => K r37 s38))))) ∧ (¬ c = 1 → (C_X3_groups_G 4 s15 (fun r20 => (C_X3_groups_G 3 s15 (fun r24 => ((inI (r20 - r24)) ∧ (C_X1_fine (r20 - r24) s15 (fun r29 s30 => K r29 s30)))))))))))))))))))))
set_option maxHeartbeats 4000000 in
theorem T_X1_would_E (d : Nat) (V : XV) (g : AH) (hg : xf 8 g) (hr : xfree V g) (K : Int → XS → Prop) (a : Int) (b : Int) (c : Int) (s0 : XS) (H : B_X1_would_E K a b c s0) : EW mm_X1_would (d + 8) 1 2 (tQi V g K) 0 [(0, aR (some xT)), (1, aI a), (2, aI b), (3, aI c)] [] (xh V s0 g) := by
  refine ew_aload_n dX1_would_0 rfl lm0 ?_
  refine ew_iconst dX1_would_1 (inI_of rfl) ?_
  refine ew_newIB (t := 0) (N := 2) (i := (1, 8, 0)) dX1_would_2 rfl (by decide) q302 rfl (by decide) ((xh_g (xC_1 rfl)).trans (hg _ rfl (Nat.le_refl _))) (by decide) (Nat.le_of_ble_eq_true rfl) (Nat.le_of_ble_eq_true rfl) ?_
  rw [xh_upg (xC_1 rfl)]
  refine ew_dup dX1_would_4 rfl ?_
  refine ew_iconst dX1_would_5 (inI_of rfl) ?_
  refine ew_iload_n dX1_would_6 rfl lm1 ?_
  refine ew_iast dX1_would_7 ((xh_g (xC_1 rfl)).trans (hup_self _ _ _)) (by decide) (by decide) ?_
  rw [xh_upg (xC_1 rfl), hup_hup]
  refine ew_dup dX1_would_8 rfl ?_
  refine ew_iconst dX1_would_9 (inI_of rfl) ?_
  refine ew_iload_n dX1_would_10 rfl lm2 ?_
  refine ew_iast dX1_would_11 ((xh_g (xC_1 rfl)).trans (hup_self _ _ _)) (by decide) (by decide) ?_
  rw [xh_upg (xC_1 rfl), hup_hup]
  refine ew_callV (d := d + 7) (as := [aR (some (1, 8, 0))]) rfl dX1_would_12 me_X1_isTerm rfl (ci := 0) rfl rfl xh_x (Or.inl q1081) q1083 qs29 (Nat.le_of_ble_eq_true rfl) (Nat.zero_le _) (Nat.zero_le _) (S_X1_isTerm (d := d + 5) ((xh_g (xC_1 rfl)).trans (hup_self _ _ _)) (by decide) H) (fun o h' hq3 _ => ?_) (fun E i h' q _ => (cQ_no q).elim)
  obtain ⟨r1, E4, rfl, H⟩ := hq3
  cases E4
  refine ew_if_eq (tgt := 27) dX1_would_15 (by decide) (fun c5 => ?_) (fun c5 => ?_)
  · replace H := H.1 c5
    refine ew_aload_n dX1_would_27 rfl lm0 ?_
    refine ew_iconst dX1_would_28 (inI_of rfl) ?_
    refine ew_callV (d := d + 7) (as := [aI 1]) rfl dX1_would_29 me_X1_refused rfl (ci := 0) rfl rfl xh_x (Or.inl q406) q408 qs1 (Nat.le_of_ble_eq_true rfl) (Nat.zero_le _) (Nat.zero_le _) (S_X1_refused (d := d + 7) H) (fun o h' hq8 _ => ?_) (fun E i h' q _ => (xQi_no q).elim)
    obtain ⟨r6, s7, E9, rfl, H⟩ := hq8
    cases E9
    exact ew_ret (o := some (aI r6)) rfl ⟨_, _, _, rfl, rfl, (eX.hup eX.rf rfl (hg _ rfl (Nat.le_refl _))), H⟩ ⟨dX1_would_32, .int, rfl, Or.inl rfl, rfl⟩
  · replace H := H.2 c5
    refine ew_iload_n dX1_would_18 rfl lm3 ?_
    refine ew_iconst dX1_would_19 (inI_of rfl) ?_
    refine ew_iconst dX1_would_20 (inI_of rfl) ?_
    refine ew_callS (d := d + 7) (as := [aI c, aI 0, aI 2]) rfl dX1_would_21 me_X1_isIn rfl (Or.inl q403) q404 (Nat.le_of_ble_eq_true rfl) (Nat.zero_le _) (Nat.zero_le _) (S_X1_isIn (d := d + 7) H) (fun o h' hq11 _ => ?_) (fun E i h' q _ => (cQ_no q).elim)
    obtain ⟨r10, E12, rfl, H⟩ := hq11
    cases E12
    refine ew_if_ne (tgt := 33) dX1_would_24 (by decide) (fun c13 => ?_) (fun c13 => ?_)
    · replace H := H.2 c13
      refine ew_aload_n dX1_would_33 rfl lm0 ?_
      refine ew_iload_n dX1_would_34 rfl lm1 ?_
      refine ew_iload_n dX1_would_35 rfl lm2 ?_
      refine ew_callV (d := d + 7) (as := [aI a, aI b]) rfl dX1_would_36 me_X1_with rfl (ci := 0) rfl rfl xh_x (Or.inl q1295) q1297 qs51 (Nat.le_of_ble_eq_true rfl) (Nat.zero_le _) (Nat.zero_le _) (S_X1_with (d := d + 0) H) (fun o h' hq16 _ => ?_) (fun E i h' q _ => (xQp_no q).elim)
      obtain ⟨s15, E17, rfl, H⟩ := hq16
      cases E17
      refine ew_astore dX1_would_39 (by decide) (lv' := [(4, aR (some (sI V 3 99))), (0, aR (some xT)), (1, aI a), (2, aI b), (3, aI c)]) rfl ?_
      refine ew_sub (List.forall_mem_cons.mpr ⟨lm1, (List.forall_mem_cons.mpr ⟨lm2, (List.forall_mem_cons.mpr ⟨lm3, (List.forall_mem_cons.mpr ⟨lm4, (List.forall_mem_cons.mpr ⟨lm0, e_nm⟩)⟩)⟩)⟩)⟩) ?_
      refine ew_aload_n dX1_would_41 rfl lm0 ?_
      refine ew_iload_n dX1_would_42 rfl lm3 ?_
      refine ew_if_ne (tgt := 54) dX1_would_43 (by decide) (fun c18 => ?_) (fun c18 => ?_)
      · replace H := H.2 c18
        refine ew_iload_n dX1_would_54 rfl lm3 ?_
        refine ew_iconst dX1_would_55 (inI_of rfl) ?_
        refine ew_icmp_ne (tgt := 68) dX1_would_56 (by decide) (fun c19 => ?_) (fun c19 => ?_)
        · replace H := H.2 c19
          refine ew_aload_n dX1_would_68 rfl lm0 ?_
          refine xw_get (v := aR (some (sI V 4 99))) dX1_would_69 (e_fl.a q334) xf_6 rfl ?_
          refine ew_callY (x := ⟨"ReasonCloser$Reasons", "groups", "()I"⟩) (d := d + 7) (as := []) rfl dX1_would_72 me_X3_groups rfl (by decide) rfl q1056 q1057 (ysel5_4 (P := fun c => Cond.selects c _ _ ∈ lw_all) q1059) q1060 (Or.inl q1058) (by decide) (Nat.le_of_ble_eq_true rfl) (Nat.zero_le _) (Nat.zero_le _) (S_X3_groups_G (d := d + 7) (by decide) H) (fun o h' hq22 _ => ?_) (fun E i h' q _ => (cQ_no q).elim)
          obtain ⟨r20, E23, rfl, H⟩ := hq22
          cases E23
          refine ew_aload dX1_would_75 lm4 ?_
          refine ew_callY (x := ⟨"ReasonCloser$Closed", "groups", "()I"⟩) (d := d + 7) (as := []) rfl dX1_would_77 me_X3_groups rfl (by decide) rfl q1299 q1300 (ysel4_3 (P := fun c => Cond.selects c _ _ ∈ lw_all) q1301) q1060 (Or.inl q1058) (by decide) (Nat.le_of_ble_eq_true rfl) (Nat.zero_le _) (Nat.zero_le _) (S_X3_groups_G (d := d + 7) (by decide) H) (fun o h' hq26 _ => ?_) (fun E i h' q _ => (cQ_no q).elim)
          obtain ⟨r24, E27, rfl, H⟩ := hq26
          cases E27
          obtain ⟨v28, H⟩ := H
          refine ew_isub dX1_would_80 v28 ?_
          refine ew_callV (d := d + 7) (as := [aI (r20 - r24)]) rfl dX1_would_81 me_X1_fine rfl (ci := 0) rfl rfl xh_x (Or.inl q1032) q1034 qs24 (Nat.le_of_ble_eq_true rfl) (Nat.zero_le _) (Nat.zero_le _) (S_X1_fine (d := d + 7) H) (fun o h' hq31 _ => ?_) (fun E i h' q _ => (xQi_no q).elim)
          obtain ⟨r29, s30, E32, rfl, H⟩ := hq31
          cases E32
          exact ew_ret (o := some (aI r29)) rfl ⟨_, _, _, rfl, rfl, (eX.hup eX.rf rfl (hg _ rfl (Nat.le_refl _))), H⟩ ⟨dX1_would_84, .int, rfl, Or.inl rfl, rfl⟩
        · replace H := H.1 c19
          refine ew_aload_n dX1_would_59 rfl lm0 ?_
          refine ew_aload dX1_would_60 lm4 ?_
          refine ew_callV (d := d + 7) (as := [aR (some (sI V 3 99))]) rfl dX1_would_62 me_X1_clash rfl (ci := 0) rfl rfl xh_x (Or.inl q1062) q1064 qs27 (Nat.le_of_ble_eq_true rfl) (Nat.zero_le _) (Nat.zero_le _) (S_X1_clash (d := d + 4) (by decide) H) (fun o h' hq35 _ => ?_) (fun E i h' q _ => (cQ_no q).elim)
          obtain ⟨r33, E36, rfl, H⟩ := hq35
          cases E36
          refine ew_goto (tgt := 81) dX1_would_65 (by decide) ?_
          refine ew_callV (d := d + 7) (as := [aI r33]) rfl dX1_would_81 me_X1_fine rfl (ci := 0) rfl rfl xh_x (Or.inl q1032) q1034 qs24 (Nat.le_of_ble_eq_true rfl) (Nat.zero_le _) (Nat.zero_le _) (S_X1_fine (d := d + 7) H) (fun o h' hq39 _ => ?_) (fun E i h' q _ => (xQi_no q).elim)
          obtain ⟨r37, s38, E40, rfl, H⟩ := hq39
          cases E40
          exact ew_ret (o := some (aI r37)) rfl ⟨_, _, _, rfl, rfl, (eX.hup eX.rf rfl (hg _ rfl (Nat.le_refl _))), H⟩ ⟨dX1_would_84, .int, rfl, Or.inl rfl, rfl⟩
      · replace H := H.1 c18
        refine ew_aload dX1_would_46 lm4 ?_
        refine ew_callY (x := ⟨"ReasonCloser$Closed", "groups", "()I"⟩) (d := d + 7) (as := []) rfl dX1_would_48 me_X3_groups rfl (by decide) rfl q1299 q1300 (ysel4_3 (P := fun c => Cond.selects c _ _ ∈ lw_all) q1301) q1060 (Or.inl q1058) (by decide) (Nat.le_of_ble_eq_true rfl) (Nat.zero_le _) (Nat.zero_le _) (S_X3_groups_G (d := d + 7) (by decide) H) (fun o h' hq43 _ => ?_) (fun E i h' q _ => (cQ_no q).elim)
        obtain ⟨r41, E44, rfl, H⟩ := hq43
        cases E44
        refine ew_goto (tgt := 81) dX1_would_51 (by decide) ?_
        refine ew_callV (d := d + 7) (as := [aI r41]) rfl dX1_would_81 me_X1_fine rfl (ci := 0) rfl rfl xh_x (Or.inl q1032) q1034 qs24 (Nat.le_of_ble_eq_true rfl) (Nat.zero_le _) (Nat.zero_le _) (S_X1_fine (d := d + 7) H) (fun o h' hq47 _ => ?_) (fun E i h' q _ => (xQi_no q).elim)
        obtain ⟨r45, s46, E48, rfl, H⟩ := hq47
        cases E48
        exact ew_ret (o := some (aI r45)) rfl ⟨_, _, _, rfl, rfl, (eX.hup eX.rf rfl (hg _ rfl (Nat.le_refl _))), H⟩ ⟨dX1_would_84, .int, rfl, Or.inl rfl, rfl⟩
    · replace H := H.1 c13
      refine ew_aload_n dX1_would_27 rfl lm0 ?_
      refine ew_iconst dX1_would_28 (inI_of rfl) ?_
      refine ew_callV (d := d + 7) (as := [aI 1]) rfl dX1_would_29 me_X1_refused rfl (ci := 0) rfl rfl xh_x (Or.inl q406) q408 qs1 (Nat.le_of_ble_eq_true rfl) (Nat.zero_le _) (Nat.zero_le _) (S_X1_refused (d := d + 7) H) (fun o h' hq51 _ => ?_) (fun E i h' q _ => (xQi_no q).elim)
      obtain ⟨r49, s50, E52, rfl, H⟩ := hq51
      cases E52
      exact ew_ret (o := some (aI r49)) rfl ⟨_, _, _, rfl, rfl, (eX.hup eX.rf rfl (hg _ rfl (Nat.le_refl _))), H⟩ ⟨dX1_would_32, .int, rfl, Or.inl rfl, rfl⟩
def C_X1_would (a : Int) (b : Int) (c : Int) (s0 : XS) (K : Int → XS → Prop) : Prop := B_X1_would_E K a b c s0
theorem S_X1_would {d : Nat} {V : XV} {g : AH} {K : Int → XS → Prop} {a : Int} {b : Int} {c : Int} {s0 : XS} (hg : xf 8 g) (hr : xfree V g) (H : C_X1_would a b c s0 K) : Sp mm_X1_would (d + 8) 1 2 [aR (some xT), aI a, aI b, aI c] (xh V s0 g) (xQi V g K) :=
  Sp.forget hr tQi_x (ew_sp rfl (Nat.le_of_ble_eq_true rfl) (T_X1_would_E d V g hg hr K a b c s0 (H )))
abbrev mm_X1_without : EM := (yX1_without, cX1_without, 4, (Option.some .int), [])
theorem me_X1_without : e_mth mm_X1_without 2 := ⟨rfl, q1331, q108, by decide +kernel, by decide⟩
def B_X1_without_E (K : Int → XS → Prop) (a : Int) (b : Int) (s0 : XS) : Prop :=
  (C_X1_sames s0 (fun r1 => ((inI (r1 - 1)) ∧ (C_X1_isIn a 0 (r1 - 1) (fun r6 => ((r6 = 0 → (C_X1_refused 1 s0 (fun r10 s11 => K r10 s11))) ∧ (¬ r6 = 0 → (C_X1_isIn b 0 1 (fun r14 => ((r14 = 0 → (C_X1_refused 1 s0 (fun r43 s44 => K r43 s44))) ∧ (¬ r14 = 0 → (C_X1_every s0 (fun r18 => (C_X1_by (jand r18 (jxor (jshl 1 a) (-1))) s0 (fun s23 => ((b = 0 → (C_X3_groups_G 3 s23 (fun r35 => (C_X1_fine r35 s23 (fun r39 s40 => K r39 s40))))) ∧ (¬ b = 0 → (C_X1_clash 3 s23 (fun r27 => (C_X1_fine r27 s23 (fun r31 s32 => K r31 s32)))))))))))))))))))))
set_option maxHeartbeats 4000000 in
theorem T_X1_without_E (d : Nat) (V : XV) (g : AH) (K : Int → XS → Prop) (a : Int) (b : Int) (s0 : XS) (H : B_X1_without_E K a b s0) : EW mm_X1_without (d + 8) 0 0 (xQi V g K) 0 [(0, aR (some xT)), (1, aI a), (2, aI b)] [] (xh V s0 g) := by
  refine ew_iload_n dX1_without_0 rfl lm1 ?_
  refine ew_iconst dX1_without_1 (inI_of rfl) ?_
  refine ew_aload_n dX1_without_2 rfl lm0 ?_
  refine ew_callV (d := d + 7) (as := []) rfl dX1_without_3 me_X1_sames rfl (ci := 0) rfl rfl xh_x (Or.inl q1052) q1054 qs26 (Nat.le_of_ble_eq_true rfl) (Nat.zero_le _) (Nat.zero_le _) (S_X1_sames (d := d + 6) H) (fun o h' hq3 _ => ?_) (fun E i h' q _ => (cQ_no q).elim)
  obtain ⟨r1, E4, rfl, H⟩ := hq3
  cases E4
  refine ew_iconst dX1_without_6 (inI_of rfl) ?_
  obtain ⟨v5, H⟩ := H
  refine ew_isub dX1_without_7 v5 ?_
  refine ew_callS (d := d + 7) (as := [aI a, aI 0, aI (r1 - 1)]) rfl dX1_without_8 me_X1_isIn rfl (Or.inl q403) q404 (Nat.le_of_ble_eq_true rfl) (Nat.zero_le _) (Nat.zero_le _) (S_X1_isIn (d := d + 7) H) (fun o h' hq7 _ => ?_) (fun E i h' q _ => (cQ_no q).elim)
  obtain ⟨r6, E8, rfl, H⟩ := hq7
  cases E8
  refine ew_if_eq (tgt := 23) dX1_without_11 (by decide) (fun c9 => ?_) (fun c9 => ?_)
  · replace H := H.1 c9
    refine ew_aload_n dX1_without_23 rfl lm0 ?_
    refine ew_iconst dX1_without_24 (inI_of rfl) ?_
    refine ew_callV (d := d + 7) (as := [aI 1]) rfl dX1_without_25 me_X1_refused rfl (ci := 0) rfl rfl xh_x (Or.inl q406) q408 qs1 (Nat.le_of_ble_eq_true rfl) (Nat.zero_le _) (Nat.zero_le _) (S_X1_refused (d := d + 7) H) (fun o h' hq12 _ => ?_) (fun E i h' q _ => (xQi_no q).elim)
    obtain ⟨r10, s11, E13, rfl, H⟩ := hq12
    cases E13
    exact ew_ret (o := some (aI r10)) rfl ⟨_, _, rfl, rfl, H⟩ ⟨dX1_without_28, .int, rfl, Or.inl rfl, rfl⟩
  · replace H := H.2 c9
    refine ew_iload_n dX1_without_14 rfl lm2 ?_
    refine ew_iconst dX1_without_15 (inI_of rfl) ?_
    refine ew_iconst dX1_without_16 (inI_of rfl) ?_
    refine ew_callS (d := d + 7) (as := [aI b, aI 0, aI 1]) rfl dX1_without_17 me_X1_isIn rfl (Or.inl q403) q404 (Nat.le_of_ble_eq_true rfl) (Nat.zero_le _) (Nat.zero_le _) (S_X1_isIn (d := d + 7) H) (fun o h' hq15 _ => ?_) (fun E i h' q _ => (cQ_no q).elim)
    obtain ⟨r14, E16, rfl, H⟩ := hq15
    cases E16
    refine ew_if_ne (tgt := 29) dX1_without_20 (by decide) (fun c17 => ?_) (fun c17 => ?_)
    · replace H := H.2 c17
      refine ew_aload_n dX1_without_29 rfl lm0 ?_
      refine ew_aload_n dX1_without_30 rfl lm0 ?_
      refine ew_callV (d := d + 7) (as := []) rfl dX1_without_31 me_X1_every rfl (ci := 0) rfl rfl xh_x (Or.inl q1109) q1111 qs33 (Nat.le_of_ble_eq_true rfl) (Nat.zero_le _) (Nat.zero_le _) (S_X1_every (d := d + 5) H) (fun o h' hq20 _ => ?_) (fun E i h' q _ => (cQ_no q).elim)
      obtain ⟨r18, E21, rfl, H⟩ := hq20
      cases E21
      refine ew_iconst dX1_without_34 (inI_of rfl) ?_
      refine ew_iload_n dX1_without_35 rfl lm1 ?_
      refine ew_ishl dX1_without_36 ?_
      refine ew_iconst dX1_without_37 (inI_of rfl) ?_
      refine ew_ixor dX1_without_38 ?_
      refine ew_iand dX1_without_39 ?_
      refine ew_callV (d := d + 7) (as := [aI (jand r18 (jxor (jshl 1 a) (-1)))]) rfl dX1_without_40 me_X1_by rfl (ci := 0) rfl rfl xh_x (Or.inl q1113) q1115 qs34 (Nat.le_of_ble_eq_true rfl) (Nat.zero_le _) (Nat.zero_le _) (S_X1_by (d := d + 0) H) (fun o h' hq24 _ => ?_) (fun E i h' q _ => (xQp_no q).elim)
      obtain ⟨s23, E25, rfl, H⟩ := hq24
      cases E25
      refine ew_astore_n dX1_without_43 rfl (by decide) (lv' := [(3, aR (some (sI V 3 99))), (0, aR (some xT)), (1, aI a), (2, aI b)]) rfl ?_
      refine ew_sub (List.forall_mem_cons.mpr ⟨lm1, (List.forall_mem_cons.mpr ⟨lm2, (List.forall_mem_cons.mpr ⟨lm3, (List.forall_mem_cons.mpr ⟨lm0, e_nm⟩)⟩)⟩)⟩) ?_
      refine ew_aload_n dX1_without_44 rfl lm0 ?_
      refine ew_iload_n dX1_without_45 rfl lm2 ?_
      refine ew_if_ne (tgt := 56) dX1_without_46 (by decide) (fun c26 => ?_) (fun c26 => ?_)
      · replace H := H.2 c26
        refine ew_aload_n dX1_without_56 rfl lm0 ?_
        refine ew_aload_n dX1_without_57 rfl lm3 ?_
        refine ew_callV (d := d + 7) (as := [aR (some (sI V 3 99))]) rfl dX1_without_58 me_X1_clash rfl (ci := 0) rfl rfl xh_x (Or.inl q1062) q1064 qs27 (Nat.le_of_ble_eq_true rfl) (Nat.zero_le _) (Nat.zero_le _) (S_X1_clash (d := d + 4) (by decide) H) (fun o h' hq29 _ => ?_) (fun E i h' q _ => (cQ_no q).elim)
        obtain ⟨r27, E30, rfl, H⟩ := hq29
        cases E30
        refine ew_callV (d := d + 7) (as := [aI r27]) rfl dX1_without_61 me_X1_fine rfl (ci := 0) rfl rfl xh_x (Or.inl q1032) q1034 qs24 (Nat.le_of_ble_eq_true rfl) (Nat.zero_le _) (Nat.zero_le _) (S_X1_fine (d := d + 7) H) (fun o h' hq33 _ => ?_) (fun E i h' q _ => (xQi_no q).elim)
        obtain ⟨r31, s32, E34, rfl, H⟩ := hq33
        cases E34
        exact ew_ret (o := some (aI r31)) rfl ⟨_, _, rfl, rfl, H⟩ ⟨dX1_without_64, .int, rfl, Or.inl rfl, rfl⟩
      · replace H := H.1 c26
        refine ew_aload_n dX1_without_49 rfl lm3 ?_
        refine ew_callY (x := ⟨"ReasonCloser$Closed", "groups", "()I"⟩) (d := d + 7) (as := []) rfl dX1_without_50 me_X3_groups rfl (by decide) rfl q1299 q1300 (ysel4_3 (P := fun c => Cond.selects c _ _ ∈ lw_all) q1301) q1060 (Or.inl q1058) (by decide) (Nat.le_of_ble_eq_true rfl) (Nat.zero_le _) (Nat.zero_le _) (S_X3_groups_G (d := d + 7) (by decide) H) (fun o h' hq37 _ => ?_) (fun E i h' q _ => (cQ_no q).elim)
        obtain ⟨r35, E38, rfl, H⟩ := hq37
        cases E38
        refine ew_goto (tgt := 61) dX1_without_53 (by decide) ?_
        refine ew_callV (d := d + 7) (as := [aI r35]) rfl dX1_without_61 me_X1_fine rfl (ci := 0) rfl rfl xh_x (Or.inl q1032) q1034 qs24 (Nat.le_of_ble_eq_true rfl) (Nat.zero_le _) (Nat.zero_le _) (S_X1_fine (d := d + 7) H) (fun o h' hq41 _ => ?_) (fun E i h' q _ => (xQi_no q).elim)
        obtain ⟨r39, s40, E42, rfl, H⟩ := hq41
        cases E42
        exact ew_ret (o := some (aI r39)) rfl ⟨_, _, rfl, rfl, H⟩ ⟨dX1_without_64, .int, rfl, Or.inl rfl, rfl⟩
    · replace H := H.1 c17
      refine ew_aload_n dX1_without_23 rfl lm0 ?_
      refine ew_iconst dX1_without_24 (inI_of rfl) ?_
      refine ew_callV (d := d + 7) (as := [aI 1]) rfl dX1_without_25 me_X1_refused rfl (ci := 0) rfl rfl xh_x (Or.inl q406) q408 qs1 (Nat.le_of_ble_eq_true rfl) (Nat.zero_le _) (Nat.zero_le _) (S_X1_refused (d := d + 7) H) (fun o h' hq45 _ => ?_) (fun E i h' q _ => (xQi_no q).elim)
      obtain ⟨r43, s44, E46, rfl, H⟩ := hq45
      cases E46
      exact ew_ret (o := some (aI r43)) rfl ⟨_, _, rfl, rfl, H⟩ ⟨dX1_without_28, .int, rfl, Or.inl rfl, rfl⟩
def C_X1_without (a : Int) (b : Int) (s0 : XS) (K : Int → XS → Prop) : Prop := B_X1_without_E K a b s0
theorem S_X1_without {d : Nat} {V : XV} {g : AH} {K : Int → XS → Prop} {a : Int} {b : Int} {s0 : XS} (H : C_X1_without a b s0 K) : Sp mm_X1_without (d + 8) 0 0 [aR (some xT), aI a, aI b] (xh V s0 g) (xQi V g K) :=
  ew_sp rfl (Nat.le_of_ble_eq_true rfl) (T_X1_without_E d V g K a b s0 (H ))
abbrev mm_X1_free : EM := (yX1_free, cX1_free, 4, (Option.some .int), [])
theorem me_X1_free : e_mth mm_X1_free 0 := ⟨rfl, q1335, q108, by decide +kernel, by decide⟩
def B_X1_free_4 (X4 : Int → Int → XS → Prop) (X16 : Int → Int → Int → XS → Prop) (K : Int → XS → Prop) (x1 : Int) (x2 : Int) (s0 : XS) : Prop :=
  (C_X1_terms s0 (fun r1 => ((r1 ≤ x2 → K x1 s0) ∧ (¬ r1 ≤ x2 → ((inI (x2 + 1)) ∧ X16 x1 x2 (x2 + 1) s0)))))
def B_X1_free_16 (X4 : Int → Int → XS → Prop) (X16 : Int → Int → Int → XS → Prop) (K : Int → XS → Prop) (x1 : Int) (x2 : Int) (x3 : Int) (s0 : XS) : Prop :=
  (C_X1_terms s0 (fun r1 => ((r1 ≤ x3 → (inI (x2 + 1) ∧ X4 x1 (x2 + 1) s0)) ∧ (¬ r1 ≤ x3 → (C_X3_areOne_G x2 x3 4 s0 (fun r7 => ((r7 = 0 → (C_X1_with x2 x3 s0 (fun s14 => (C_X1_clash 3 s14 (fun r17 => ((r17 = (-2) → (inI (x1 + 1) ∧ (inI (x3 + 1) ∧ X16 (x1 + 1) x2 (x3 + 1) s14))) ∧ (¬ r17 = (-2) → (inI (x3 + 1) ∧ X16 x1 x2 (x3 + 1) s14)))))))) ∧ (¬ r7 = 0 → (inI (x3 + 1) ∧ X16 x1 x2 (x3 + 1) s0)))))))))
def B_X1_free_E (X4 : Int → Int → XS → Prop) (X16 : Int → Int → Int → XS → Prop) (K : Int → XS → Prop) (s0 : XS) : Prop :=
  X4 0 0 s0
def W_X1_free_4 (d : Nat) (V : XV) (g : AH) (K : Int → XS → Prop) (x1 : Int) (x2 : Int) (s0 : XS) : Prop := EW mm_X1_free (d + 8) 0 0 (xQi V g K) 4 [(0, aR (some xT)), (1, aI x1), (2, aI x2)] [] (xh V s0 g)
def W_X1_free_16 (d : Nat) (V : XV) (g : AH) (K : Int → XS → Prop) (x1 : Int) (x2 : Int) (x3 : Int) (s0 : XS) : Prop := EW mm_X1_free (d + 8) 0 0 (xQi V g K) 16 [(0, aR (some xT)), (1, aI x1), (2, aI x2), (3, aI x3)] [] (xh V s0 g)
set_option maxHeartbeats 4000000 in
theorem T_X1_free_4 (d : Nat) (V : XV) (g : AH) (K : Int → XS → Prop) (x1 : Int) (x2 : Int) (s0 : XS) (H : B_X1_free_4 (W_X1_free_4 d V g K) (W_X1_free_16 d V g K) K x1 x2 s0) : EW mm_X1_free (d + 8) 0 0 (xQi V g K) 4 [(0, aR (some xT)), (1, aI x1), (2, aI x2)] [] (xh V s0 g) := by
  refine ew_iload_n dX1_free_4 rfl lm2 ?_
  refine ew_aload_n dX1_free_5 rfl lm0 ?_
  refine ew_callV (d := d + 7) (as := []) rfl dX1_free_6 me_X1_terms rfl (ci := 0) rfl rfl xh_x (Or.inl q1048) q1050 qs25 (Nat.le_of_ble_eq_true rfl) (Nat.zero_le _) (Nat.zero_le _) (S_X1_terms (d := d + 6) H) (fun o h' hq3 _ => ?_) (fun E i h' q _ => (cQ_no q).elim)
  obtain ⟨r1, E4, rfl, H⟩ := hq3
  cases E4
  refine ew_icmp_ge (tgt := 66) dX1_free_9 (by decide) (fun c5 => ?_) (fun c5 => ?_)
  · replace H := H.1 c5
    refine ew_iload_n dX1_free_66 rfl lm1 ?_
    exact ew_ret (o := some (aI x1)) rfl ⟨_, _, rfl, rfl, H⟩ ⟨dX1_free_67, .int, rfl, Or.inl rfl, rfl⟩
  · replace H := H.2 c5
    refine ew_iload_n dX1_free_12 rfl lm2 ?_
    refine ew_iconst dX1_free_13 (inI_of rfl) ?_
    obtain ⟨v6, H⟩ := H
    refine ew_iadd dX1_free_14 v6 ?_
    refine ew_istore_n dX1_free_15 rfl (by decide) (lv' := [(3, aI (x2 + 1)), (0, aR (some xT)), (1, aI x1), (2, aI x2)]) rfl ?_
    refine ew_sub (List.forall_mem_cons.mpr ⟨lm1, (List.forall_mem_cons.mpr ⟨lm2, (List.forall_mem_cons.mpr ⟨lm3, (List.forall_mem_cons.mpr ⟨lm0, e_nm⟩)⟩)⟩)⟩) ?_
    exact ew_room (Nat.le_refl _) (Nat.zero_le _) (Nat.zero_le _) (ew_sub (List.forall_mem_cons.mpr ⟨lm0, (List.forall_mem_cons.mpr ⟨lm1, (List.forall_mem_cons.mpr ⟨lm2, (List.forall_mem_cons.mpr ⟨lm3, e_nm⟩)⟩)⟩)⟩) H)
set_option maxHeartbeats 4000000 in
theorem T_X1_free_16 (d : Nat) (V : XV) (g : AH) (K : Int → XS → Prop) (x1 : Int) (x2 : Int) (x3 : Int) (s0 : XS) (H : B_X1_free_16 (W_X1_free_4 d V g K) (W_X1_free_16 d V g K) K x1 x2 x3 s0) : EW mm_X1_free (d + 8) 0 0 (xQi V g K) 16 [(0, aR (some xT)), (1, aI x1), (2, aI x2), (3, aI x3)] [] (xh V s0 g) := by
  refine ew_iload_n dX1_free_16 rfl lm3 ?_
  refine ew_aload_n dX1_free_17 rfl lm0 ?_
  refine ew_callV (d := d + 7) (as := []) rfl dX1_free_18 me_X1_terms rfl (ci := 0) rfl rfl xh_x (Or.inl q1048) q1050 qs25 (Nat.le_of_ble_eq_true rfl) (Nat.zero_le _) (Nat.zero_le _) (S_X1_terms (d := d + 6) H) (fun o h' hq3 _ => ?_) (fun E i h' q _ => (cQ_no q).elim)
  obtain ⟨r1, E4, rfl, H⟩ := hq3
  cases E4
  refine ew_icmp_ge (tgt := 60) dX1_free_21 (by decide) (fun c5 => ?_) (fun c5 => ?_)
  · replace H := H.1 c5
    obtain ⟨v6, H⟩ := H
    refine ew_iinc dX1_free_60 lm2 (by decide) v6 (lv' := [(2, aI (x2 + 1)), (0, aR (some xT)), (1, aI x1), (3, aI x3)]) rfl ?_
    refine ew_sub (List.forall_mem_cons.mpr ⟨lm1, (List.forall_mem_cons.mpr ⟨lm2, (List.forall_mem_cons.mpr ⟨lm0, (List.forall_mem_cons.mpr ⟨lm3, e_nm⟩)⟩)⟩)⟩) ?_
    refine ew_goto (tgt := 4) dX1_free_63 (by decide) ?_
    exact ew_room (Nat.le_refl _) (Nat.zero_le _) (Nat.zero_le _) (ew_sub (List.forall_mem_cons.mpr ⟨lm0, (List.forall_mem_cons.mpr ⟨lm1, (List.forall_mem_cons.mpr ⟨lm2, e_nm⟩)⟩)⟩) H)
  · replace H := H.2 c5
    refine ew_aload_n dX1_free_24 rfl lm0 ?_
    refine xw_get (v := aR (some (sI V 4 99))) dX1_free_25 (e_fl.a q334) xf_6 rfl ?_
    refine ew_iload_n dX1_free_28 rfl lm2 ?_
    refine ew_iload_n dX1_free_29 rfl lm3 ?_
    refine ew_callY (x := ⟨"ReasonCloser$Reasons", "areOne", "(II)Z"⟩) (d := d + 7) (as := [aI x2, aI x3]) rfl dX1_free_30 me_X3_areOne rfl (by decide) rfl q1085 q1086 (ysel5_4 (P := fun c => Cond.selects c _ _ ∈ lw_all) q1087) q981 (Or.inl q978) (by decide) (Nat.le_of_ble_eq_true rfl) (Nat.zero_le _) (Nat.zero_le _) (S_X3_areOne_G (d := d + 7) (by decide) H) (fun o h' hq9 _ => ?_) (fun E i h' q _ => (cQ_no q).elim)
    obtain ⟨r7, E10, rfl, H⟩ := hq9
    cases E10
    refine ew_if_ne (tgt := 54) dX1_free_33 (by decide) (fun c11 => ?_) (fun c11 => ?_)
    · replace H := H.2 c11
      obtain ⟨v12, H⟩ := H
      refine ew_iinc dX1_free_54 lm3 (by decide) v12 (lv' := [(3, aI (x3 + 1)), (0, aR (some xT)), (1, aI x1), (2, aI x2)]) rfl ?_
      refine ew_sub (List.forall_mem_cons.mpr ⟨lm1, (List.forall_mem_cons.mpr ⟨lm2, (List.forall_mem_cons.mpr ⟨lm3, (List.forall_mem_cons.mpr ⟨lm0, e_nm⟩)⟩)⟩)⟩) ?_
      refine ew_goto (tgt := 16) dX1_free_57 (by decide) ?_
      exact ew_room (Nat.le_refl _) (Nat.zero_le _) (Nat.zero_le _) (ew_sub (List.forall_mem_cons.mpr ⟨lm0, (List.forall_mem_cons.mpr ⟨lm1, (List.forall_mem_cons.mpr ⟨lm2, (List.forall_mem_cons.mpr ⟨lm3, e_nm⟩)⟩)⟩)⟩) H)
    · replace H := H.1 c11
      refine ew_aload_n dX1_free_36 rfl lm0 ?_
      refine ew_aload_n dX1_free_37 rfl lm0 ?_
      refine ew_iload_n dX1_free_38 rfl lm2 ?_
      refine ew_iload_n dX1_free_39 rfl lm3 ?_
      refine ew_callV (d := d + 7) (as := [aI x2, aI x3]) rfl dX1_free_40 me_X1_with rfl (ci := 0) rfl rfl xh_x (Or.inl q1295) q1297 qs51 (Nat.le_of_ble_eq_true rfl) (Nat.zero_le _) (Nat.zero_le _) (S_X1_with (d := d + 0) H) (fun o h' hq15 _ => ?_) (fun E i h' q _ => (xQp_no q).elim)
      obtain ⟨s14, E16, rfl, H⟩ := hq15
      cases E16
      refine ew_callV (d := d + 7) (as := [aR (some (sI V 3 99))]) rfl dX1_free_43 me_X1_clash rfl (ci := 0) rfl rfl xh_x (Or.inl q1062) q1064 qs27 (Nat.le_of_ble_eq_true rfl) (Nat.zero_le _) (Nat.zero_le _) (S_X1_clash (d := d + 4) (by decide) H) (fun o h' hq19 _ => ?_) (fun E i h' q _ => (cQ_no q).elim)
      obtain ⟨r17, E20, rfl, H⟩ := hq19
      cases E20
      refine ew_bipush dX1_free_46 (inI_of rfl) (by decide) ?_
      refine ew_icmp_ne (tgt := 54) dX1_free_48 (by decide) (fun c21 => ?_) (fun c21 => ?_)
      · replace H := H.2 c21
        obtain ⟨v22, H⟩ := H
        refine ew_iinc dX1_free_54 lm3 (by decide) v22 (lv' := [(3, aI (x3 + 1)), (0, aR (some xT)), (1, aI x1), (2, aI x2)]) rfl ?_
        refine ew_sub (List.forall_mem_cons.mpr ⟨lm1, (List.forall_mem_cons.mpr ⟨lm2, (List.forall_mem_cons.mpr ⟨lm3, (List.forall_mem_cons.mpr ⟨lm0, e_nm⟩)⟩)⟩)⟩) ?_
        refine ew_goto (tgt := 16) dX1_free_57 (by decide) ?_
        exact ew_room (Nat.le_refl _) (Nat.zero_le _) (Nat.zero_le _) (ew_sub (List.forall_mem_cons.mpr ⟨lm0, (List.forall_mem_cons.mpr ⟨lm1, (List.forall_mem_cons.mpr ⟨lm2, (List.forall_mem_cons.mpr ⟨lm3, e_nm⟩)⟩)⟩)⟩) H)
      · replace H := H.1 c21
        obtain ⟨v23, H⟩ := H
        refine ew_iinc dX1_free_51 lm1 (by decide) v23 (lv' := [(1, aI (x1 + 1)), (0, aR (some xT)), (2, aI x2), (3, aI x3)]) rfl ?_
        refine ew_sub (List.forall_mem_cons.mpr ⟨lm1, (List.forall_mem_cons.mpr ⟨lm0, (List.forall_mem_cons.mpr ⟨lm2, (List.forall_mem_cons.mpr ⟨lm3, e_nm⟩)⟩)⟩)⟩) ?_
        obtain ⟨v24, H⟩ := H
        refine ew_iinc dX1_free_54 lm3 (by decide) v24 (lv' := [(3, aI (x3 + 1)), (0, aR (some xT)), (1, aI (x1 + 1)), (2, aI x2)]) rfl ?_
        refine ew_sub (List.forall_mem_cons.mpr ⟨lm1, (List.forall_mem_cons.mpr ⟨lm2, (List.forall_mem_cons.mpr ⟨lm3, (List.forall_mem_cons.mpr ⟨lm0, e_nm⟩)⟩)⟩)⟩) ?_
        refine ew_goto (tgt := 16) dX1_free_57 (by decide) ?_
        exact ew_room (Nat.le_refl _) (Nat.zero_le _) (Nat.zero_le _) (ew_sub (List.forall_mem_cons.mpr ⟨lm0, (List.forall_mem_cons.mpr ⟨lm1, (List.forall_mem_cons.mpr ⟨lm2, (List.forall_mem_cons.mpr ⟨lm3, e_nm⟩)⟩)⟩)⟩) H)
set_option maxHeartbeats 4000000 in
theorem T_X1_free_E (d : Nat) (V : XV) (g : AH) (K : Int → XS → Prop) (s0 : XS) (H : B_X1_free_E (W_X1_free_4 d V g K) (W_X1_free_16 d V g K) K s0) : EW mm_X1_free (d + 8) 0 0 (xQi V g K) 0 [(0, aR (some xT))] [] (xh V s0 g) := by
  refine ew_iconst dX1_free_0 (inI_of rfl) ?_
  refine ew_istore_n dX1_free_1 rfl (by decide) (lv' := [(1, aI 0), (0, aR (some xT))]) rfl ?_
  refine ew_sub (List.forall_mem_cons.mpr ⟨lm1, (List.forall_mem_cons.mpr ⟨lm0, e_nm⟩)⟩) ?_
  refine ew_iconst dX1_free_2 (inI_of rfl) ?_
  refine ew_istore_n dX1_free_3 rfl (by decide) (lv' := [(2, aI 0), (0, aR (some xT)), (1, aI 0)]) rfl ?_
  refine ew_sub (List.forall_mem_cons.mpr ⟨lm1, (List.forall_mem_cons.mpr ⟨lm2, (List.forall_mem_cons.mpr ⟨lm0, e_nm⟩)⟩)⟩) ?_
  exact ew_room (Nat.le_refl _) (Nat.zero_le _) (Nat.zero_le _) (ew_sub (List.forall_mem_cons.mpr ⟨lm0, (List.forall_mem_cons.mpr ⟨lm1, (List.forall_mem_cons.mpr ⟨lm2, e_nm⟩)⟩)⟩) H)
def C_X1_free (s0 : XS) (K : Int → XS → Prop) : Prop := ∀ (X4 : Int → Int → XS → Prop) (X16 : Int → Int → Int → XS → Prop), (∀ (x1 : Int) (x2 : Int) (s0 : XS), B_X1_free_4 X4 X16 K x1 x2 s0 → X4 x1 x2 s0) → (∀ (x1 : Int) (x2 : Int) (x3 : Int) (s0 : XS), B_X1_free_16 X4 X16 K x1 x2 x3 s0 → X16 x1 x2 x3 s0) → B_X1_free_E X4 X16 K s0
theorem S_X1_free {d : Nat} {V : XV} {g : AH} {K : Int → XS → Prop} {s0 : XS} (H : C_X1_free s0 K) : Sp mm_X1_free (d + 8) 0 0 [aR (some xT)] (xh V s0 g) (xQi V g K) :=
  ew_sp rfl (Nat.le_of_ble_eq_true rfl) (T_X1_free_E d V g K s0 (H _ _ (fun x1 x2 s0 H => T_X1_free_4 d V g K x1 x2 s0 H) (fun x1 x2 x3 s0 H => T_X1_free_16 d V g K x1 x2 x3 s0 H)))
