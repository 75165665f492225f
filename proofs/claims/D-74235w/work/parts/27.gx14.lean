/-! ReasonCloser: methods as predicates, by program (gen/gxx.py) -/
set_option maxRecDepth 100000
abbrev mm_X1_acts : EM := (yX1_acts, cX1_acts, 2, (Option.none : Option Jvm.ClassFile.FieldType), [])
theorem me_X1_acts : e_mth mm_X1_acts 1 := ⟨rfl, q1343, q108, by decide +kernel, by decide⟩
def B_X1_acts_E (K : XS → Prop) (a : Int) (s0 : XS) : Prop :=
  (((0 ≤ (s0.1.1 12) ∧ (s0.1.1 12) < 44)) ∧ ∀ s1 : XS, s1 = xa s0 9 (s0.1.1 12) a → (C_X3_trailed_N s1 (fun r4 => (((0 ≤ (s1.1.1 12) ∧ (s1.1.1 12) < 44)) ∧ ∀ s8 : XS, s8 = xa s1 10 (s1.1.1 12) r4 → (((0 ≤ (s8.1.1 12) ∧ (s8.1.1 12) < 44)) ∧ ∀ s11 : XS, s11 = xa s8 11 (s8.1.1 12) ((s8.2 4).1 10) → ((inI ((s11.1.1 12) + 1)) ∧ (∀ s15 : XS, s15 = xs s11 12 ((s11.1.1 12) + 1) → K s15)))))))
set_option maxHeartbeats 4000000 in
theorem T_X1_acts_E (d : Nat) (V : XV) (g : AH) (K : XS → Prop) (a : Int) (s0 : XS) (H : B_X1_acts_E K a s0) : EW mm_X1_acts (d + 1) 0 0 (xQv V g K) 0 [(0, aR (some xT)), (1, aI a)] [] (xh V s0 g) := by
  refine ew_aload_n dX1_acts_0 rfl lm0 ?_
  refine xw_get (v := aR (some (0, 2, 9))) dX1_acts_1 (e_fl.a q337) xf_9 rfl ?_
  refine ew_aload_n dX1_acts_4 rfl lm0 ?_
  refine xw_get (v := aI (s0.1.1 12)) dX1_acts_5 (e_fl.a q340) xf_12 rfl ?_
  refine ew_iload_n dX1_acts_8 rfl lm1 ?_
  obtain ⟨v3, H⟩ := H
  refine xw_iast dX1_acts_9 (by decide) rfl rfl v3.1 v3.2 (fun s1 e2 => ?_)
  replace H := H s1 e2
  refine ew_aload_n dX1_acts_10 rfl lm0 ?_
  refine xw_get (v := aR (some (0, 2, 10))) dX1_acts_11 (e_fl.a q338) xf_10 rfl ?_
  refine ew_aload_n dX1_acts_14 rfl lm0 ?_
  refine xw_get (v := aI (s1.1.1 12)) dX1_acts_15 (e_fl.a q340) xf_12 rfl ?_
  refine ew_aload_n dX1_acts_18 rfl lm0 ?_
  refine xw_get (v := aR (some (sI V 4 99))) dX1_acts_19 (e_fl.a q334) xf_6 rfl ?_
  refine ew_callY (x := ⟨"ReasonCloser$Reasons", "trailed", "()I"⟩) (d := d + 0) (as := []) rfl dX1_acts_22 me_X3_trailed rfl (by decide) rfl q1307 q1308 (ysel5_4 (P := fun c => Cond.selects c _ _ ∈ lw_all) q1310) q1311 (Or.inl q1309) (by decide) (Nat.le_of_ble_eq_true rfl) (Nat.zero_le _) (Nat.zero_le _) (S_X3_trailed_N (d := d + 0) H) (fun o h' hq6 _ => ?_) (fun E i h' q _ => (cQ_no q).elim)
  obtain ⟨r4, E7, rfl, H⟩ := hq6
  cases E7
  obtain ⟨v10, H⟩ := H
  refine xw_iast dX1_acts_25 (by decide) rfl rfl v10.1 v10.2 (fun s8 e9 => ?_)
  replace H := H s8 e9
  refine ew_aload_n dX1_acts_26 rfl lm0 ?_
  refine xw_get (v := aR (some (0, 2, 11))) dX1_acts_27 (e_fl.a q339) xf_11 rfl ?_
  refine ew_aload_n dX1_acts_30 rfl lm0 ?_
  refine xw_get (v := aI (s8.1.1 12)) dX1_acts_31 (e_fl.a q340) xf_12 rfl ?_
  refine ew_aload_n dX1_acts_34 rfl lm0 ?_
  refine xw_get (v := aR (some (sI V 4 99))) dX1_acts_35 (e_fl.a q334) xf_6 rfl ?_
  refine yw_get (cs := [5]) (v := aI ((s8.2 4).1 10)) dX1_acts_38 (by decide) (e_fl.b q251 q252) yf_10 (by decide) rfl ?_
  obtain ⟨v13, H⟩ := H
  refine xw_iast dX1_acts_41 (by decide) rfl rfl v13.1 v13.2 (fun s11 e12 => ?_)
  replace H := H s11 e12
  refine ew_aload_n dX1_acts_42 rfl lm0 ?_
  refine ew_dup dX1_acts_43 rfl ?_
  refine xw_get (v := aI (s11.1.1 12)) dX1_acts_44 (e_fl.a q340) xf_12 rfl ?_
  refine ew_iconst dX1_acts_47 (inI_of rfl) ?_
  obtain ⟨v14, H⟩ := H
  refine ew_iadd dX1_acts_48 v14 ?_
  refine xw_put dX1_acts_49 (e_fl.a q340) xf_12 rfl (by decide +kernel) (fun s15 e16 => ?_)
  replace H := H s15 e16
  exact ew_ret (o := none) rfl ⟨_, rfl, rfl, H⟩ ⟨rfl, dX1_acts_52⟩
def C_X1_acts (a : Int) (s0 : XS) (K : XS → Prop) : Prop := B_X1_acts_E K a s0
theorem S_X1_acts {d : Nat} {V : XV} {g : AH} {K : XS → Prop} {a : Int} {s0 : XS} (H : C_X1_acts a s0 K) : Sp mm_X1_acts (d + 1) 0 0 [aR (some xT), aI a] (xh V s0 g) (xQv V g K) :=
  ew_sp rfl (Nat.le_of_ble_eq_true rfl) (T_X1_acts_E d V g K a s0 (H ))
abbrev mm_X1_lays : EM := (yX1_lays, cX1_lays, 2, (Option.none : Option Jvm.ClassFile.FieldType), [])
theorem me_X1_lays : e_mth mm_X1_lays 0 := ⟨rfl, q1362, q108, by decide +kernel, by decide⟩
def B_X1_lays_10 (X10 : Int → XS → Prop) (K : XS → Prop) (x1 : Int) (s0 : XS) : Prop :=
  (C_X1_terms s0 (fun r1 => ((r1 ≤ x1 → K s0) ∧ (¬ r1 ≤ x1 → (C_X4_comes_P 2 s0 (fun s7 => (inI (x1 + 1) ∧ X10 (x1 + 1) s7)))))))
def B_X1_lays_E (X10 : Int → XS → Prop) (K : XS → Prop) (s0 : XS) : Prop :=
  (∀ s1 : XS, s1 = ys s0 2 1 0 → X10 0 s1)
def W_X1_lays_10 (d : Nat) (V : XV) (g : AH) (K : XS → Prop) (x1 : Int) (s0 : XS) : Prop := EW mm_X1_lays (d + 7) 0 0 (xQv V g K) 10 [(0, aR (some xT)), (1, aI x1)] [] (xh V s0 g)
set_option maxHeartbeats 4000000 in
theorem T_X1_lays_10 (d : Nat) (V : XV) (g : AH) (K : XS → Prop) (x1 : Int) (s0 : XS) (H : B_X1_lays_10 (W_X1_lays_10 d V g K) K x1 s0) : EW mm_X1_lays (d + 7) 0 0 (xQv V g K) 10 [(0, aR (some xT)), (1, aI x1)] [] (xh V s0 g) := by
  refine ew_iload_n dX1_lays_10 rfl lm1 ?_
  refine ew_aload_n dX1_lays_11 rfl lm0 ?_
  refine ew_callV (d := d + 6) (as := []) rfl dX1_lays_12 me_X1_terms rfl (ci := 0) rfl rfl xh_x (Or.inl q1048) q1050 qs25 (Nat.le_of_ble_eq_true rfl) (Nat.zero_le _) (Nat.zero_le _) (S_X1_terms (d := d + 5) H) (fun o h' hq3 _ => ?_) (fun E i h' q _ => (cQ_no q).elim)
  obtain ⟨r1, E4, rfl, H⟩ := hq3
  cases E4
  refine ew_icmp_ge (tgt := 31) dX1_lays_15 (by decide) (fun c5 => ?_) (fun c5 => ?_)
  · replace H := H.1 c5
    exact ew_ret (o := none) rfl ⟨_, rfl, rfl, H⟩ ⟨rfl, dX1_lays_31⟩
  · replace H := H.2 c5
    refine ew_aload_n dX1_lays_18 rfl lm0 ?_
    refine xw_get (v := aR (some (sI V 2 99))) dX1_lays_19 (e_fl.a q335) xf_7 rfl ?_
    refine ew_callY (x := ⟨"ReasonCloser$Closed", "comes", "()V"⟩) (d := d + 6) (as := []) rfl dX1_lays_22 me_X4_comes rfl (by decide) rfl q1031 q1969 (ysel4_2 (P := fun c => Cond.selects c _ _ ∈ lw_all) q1970) q956 (Or.inl q954) (by decide) (Nat.le_of_ble_eq_true rfl) (Nat.zero_le _) (Nat.zero_le _) (S_X4_comes_P (d := d + 0) (by decide) H) (fun o h' hq8 _ => ?_) (fun E i h' q _ => (xQv_no q).elim)
    obtain ⟨s7, E9, rfl, H⟩ := hq8
    cases E9
    obtain ⟨v10, H⟩ := H
    refine ew_iinc dX1_lays_25 lm1 (by decide) v10 (lv' := [(1, aI (x1 + 1)), (0, aR (some xT))]) rfl ?_
    refine ew_sub (List.forall_mem_cons.mpr ⟨lm1, (List.forall_mem_cons.mpr ⟨lm0, e_nm⟩)⟩) ?_
    refine ew_goto (tgt := 10) dX1_lays_28 (by decide) ?_
    exact ew_room (Nat.le_refl _) (Nat.zero_le _) (Nat.zero_le _) (ew_sub (List.forall_mem_cons.mpr ⟨lm0, (List.forall_mem_cons.mpr ⟨lm1, e_nm⟩)⟩) H)
set_option maxHeartbeats 4000000 in
theorem T_X1_lays_E (d : Nat) (V : XV) (g : AH) (K : XS → Prop) (s0 : XS) (H : B_X1_lays_E (W_X1_lays_10 d V g K) K s0) : EW mm_X1_lays (d + 7) 0 0 (xQv V g K) 0 [(0, aR (some xT))] [] (xh V s0 g) := by
  refine ew_aload_n dX1_lays_0 rfl lm0 ?_
  refine xw_get (v := aR (some (sI V 2 99))) dX1_lays_1 (e_fl.a q335) xf_7 rfl ?_
  refine ew_iconst dX1_lays_4 (inI_of rfl) ?_
  refine yw_put (cs := [3, 4, 5]) dX1_lays_5 (by decide) (e_fl.b q268 q265) yf_1 (by decide) rfl (by decide +kernel) (fun s1 e2 => ?_)
  replace H := H s1 e2
  refine ew_iconst dX1_lays_8 (inI_of rfl) ?_
  refine ew_istore_n dX1_lays_9 rfl (by decide) (lv' := [(1, aI 0), (0, aR (some xT))]) rfl ?_
  refine ew_sub (List.forall_mem_cons.mpr ⟨lm1, (List.forall_mem_cons.mpr ⟨lm0, e_nm⟩)⟩) ?_
  exact ew_room (Nat.le_refl _) (Nat.zero_le _) (Nat.zero_le _) (ew_sub (List.forall_mem_cons.mpr ⟨lm0, (List.forall_mem_cons.mpr ⟨lm1, e_nm⟩)⟩) H)
def C_X1_lays (s0 : XS) (K : XS → Prop) : Prop := ∀ (X10 : Int → XS → Prop), (∀ (x1 : Int) (s0 : XS), B_X1_lays_10 X10 K x1 s0 → X10 x1 s0) → B_X1_lays_E X10 K s0
theorem S_X1_lays {d : Nat} {V : XV} {g : AH} {K : XS → Prop} {s0 : XS} (H : C_X1_lays s0 K) : Sp mm_X1_lays (d + 7) 0 0 [aR (some xT)] (xh V s0 g) (xQv V g K) :=
  ew_sp rfl (Nat.le_of_ble_eq_true rfl) (T_X1_lays_E d V g K s0 (H _ (fun x1 s0 H => T_X1_lays_10 d V g K x1 s0 H)))
