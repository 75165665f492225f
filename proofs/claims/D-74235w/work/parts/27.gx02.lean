/-! ReasonCloser: methods as predicates, by program (gen/gxx.py) -/
set_option maxRecDepth 100000
abbrev mm_X4_comes : EM := (yX4_comes, cX4_comes, 1, (Option.none : Option Jvm.ClassFile.FieldType), [])
theorem me_X4_comes : e_mth mm_X4_comes 0 := ⟨rfl, q957, q114, by decide +kernel, by decide⟩
def B_X4_comes_P_E (K : XS → Prop) (j : Nat) (s0 : XS) : Prop :=
  (C_X3_puts_Q 0 ((s0.2 j).1 1) ((s0.2 j).1 1) j s0 (fun s2 => ((inI (((s2.2 j).1 1) + 1)) ∧ (∀ s6 : XS, s6 = ys s2 j 1 (((s2.2 j).1 1) + 1) → (C_X4_closes_P j s6 (fun s10 => K s10))))))
set_option maxHeartbeats 4000000 in
theorem T_X4_comes_P_E (d : Nat) (V : XV) (g : AH) (j : Nat) (hj : j = 2 ∨ j = 3) (K : XS → Prop) (s0 : XS) (H : B_X4_comes_P_E K j s0) : EW mm_X4_comes (d + 6) 0 0 (xQv V g K) 0 [(0, aR (some (sI V j 99)))] [] (xh V s0 g) := by
  refine ew_aload_n dX4_comes_0 rfl lm0 ?_
  refine ew_aload_n dX4_comes_1 rfl lm0 ?_
  refine yw_get (cs := [3, 4, 5]) (v := aR (some (sI V j 0))) dX4_comes_2 (e_P5 hj) (e_fl.b q259 q260) yf_0 scl_G rfl ?_
  refine ew_iconst dX4_comes_5 (inI_of rfl) ?_
  refine ew_aload_n dX4_comes_6 rfl lm0 ?_
  refine yw_get (cs := [3, 4, 5]) (v := aI ((s0.2 j).1 1)) dX4_comes_7 (e_P5 hj) (e_fl.b q264 q265) yf_1 scl_G rfl ?_
  refine ew_aload_n dX4_comes_10 rfl lm0 ?_
  refine yw_get (cs := [3, 4, 5]) (v := aI ((s0.2 j).1 1)) dX4_comes_11 (e_P5 hj) (e_fl.b q264 q265) yf_1 scl_G rfl ?_
  refine ew_callY (x := ⟨"ReasonCloser$Closed", "puts", "([IIII)V"⟩) (d := d + 5) (as := [aR (some (sI V j 0)), aI 0, aI ((s0.2 j).1 1), aI ((s0.2 j).1 1)]) rfl dX4_comes_14 me_X3_puts rfl (e_P5 hj) rfl q958 q959 (yselP hj (P := fun c => Cond.selects c _ _ ∈ lw_all) q961) q963 (Or.inl q960) (by decide) (Nat.le_of_ble_eq_true rfl) (Nat.zero_le _) (Nat.zero_le _) (S_X3_puts_Q (d := d + 5) (e_P4 hj) H) (fun o h' hq3 _ => ?_) (fun E i h' q _ => (xQv_no q).elim)
  obtain ⟨s2, E4, rfl, H⟩ := hq3
  cases E4
  refine ew_aload_n dX4_comes_17 rfl lm0 ?_
  refine ew_dup dX4_comes_18 rfl ?_
  refine yw_get (cs := [3, 4, 5]) (v := aI ((s2.2 j).1 1)) dX4_comes_19 (e_P5 hj) (e_fl.b q264 q265) yf_1 scl_G rfl ?_
  refine ew_iconst dX4_comes_22 (inI_of rfl) ?_
  obtain ⟨v5, H⟩ := H
  refine ew_iadd dX4_comes_23 v5 ?_
  refine yw_put (cs := [3, 4, 5]) dX4_comes_24 (e_P5 hj) (e_fl.b q264 q265) yf_1 scl_G rfl (by decide +kernel) (fun s6 e7 => ?_)
  replace H := H s6 e7
  refine ew_aload_n dX4_comes_27 rfl lm0 ?_
  refine ew_callY (x := ⟨"ReasonCloser$Closed", "closes", "()V"⟩) (d := d + 5) (as := []) rfl dX4_comes_28 me_X4_closes rfl (e_P5 hj) rfl q966 q969 (yselP hj (P := fun c => Cond.selects c _ _ ∈ lw_all) q968) q967 (Or.inr ⟨q967, _, _, _, q971⟩) (by decide) (Nat.le_of_ble_eq_true rfl) (Nat.zero_le _) (Nat.zero_le _) (S_X4_closes_P (d := d + 0) hj H) (fun o h' hq11 _ => ?_) (fun E i h' q _ => (xQv_no q).elim)
  obtain ⟨s10, E12, rfl, H⟩ := hq11
  cases E12
  exact ew_ret (o := none) rfl ⟨_, rfl, rfl, H⟩ ⟨rfl, dX4_comes_31⟩
def C_X4_comes_P (j : Nat) (s0 : XS) (K : XS → Prop) : Prop := B_X4_comes_P_E K j s0
theorem S_X4_comes_P {d : Nat} {V : XV} {g : AH} {j : Nat} {K : XS → Prop} {s0 : XS} (hj : j = 2 ∨ j = 3) (H : C_X4_comes_P j s0 K) : Sp mm_X4_comes (d + 6) 0 0 [aR (some (sI V j 99))] (xh V s0 g) (xQv V g K) :=
  ew_sp rfl (Nat.le_of_ble_eq_true rfl) (T_X4_comes_P_E d V g j hj K s0 (H ))
abbrev mm_X4_same : EM := (yX4_same, cX4_same, 4, (Option.none : Option Jvm.ClassFile.FieldType), [])
theorem me_X4_same : e_mth mm_X4_same 3 := ⟨rfl, q1028, q114, by decide +kernel, by decide⟩
def B_X4_same_P_E (K : XS → Prop) (a : Int) (b : Int) (c : Int) (j : Nat) (s0 : XS) : Prop :=
  (C_X3_areOne_G a b j s0 (fun r1 => ((r1 = 0 → (C_X4_joins_P a b c j s0 (fun s7 => (C_X4_closes_P j s7 (fun s11 => K s11))))) ∧ (¬ r1 = 0 → K s0))))
set_option maxHeartbeats 4000000 in
theorem T_X4_same_P_E (d : Nat) (V : XV) (g : AH) (j : Nat) (hj : j = 2 ∨ j = 3) (K : XS → Prop) (a : Int) (b : Int) (c : Int) (s0 : XS) (H : B_X4_same_P_E K a b c j s0) : EW mm_X4_same (d + 6) 0 0 (xQv V g K) 0 [(0, aR (some (sI V j 99))), (1, aI a), (2, aI b), (3, aI c)] [] (xh V s0 g) := by
  refine ew_aload_n dX4_same_0 rfl lm0 ?_
  refine ew_iload_n dX4_same_1 rfl lm1 ?_
  refine ew_iload_n dX4_same_2 rfl lm2 ?_
  refine ew_callY (x := ⟨"ReasonCloser$Closed", "areOne", "(II)Z"⟩) (d := d + 5) (as := [aI a, aI b]) rfl dX4_same_3 me_X3_areOne rfl (e_P5 hj) rfl q976 q977 (yselP hj (P := fun c => Cond.selects c _ _ ∈ lw_all) q979) q981 (Or.inl q978) (by decide) (Nat.le_of_ble_eq_true rfl) (Nat.zero_le _) (Nat.zero_le _) (S_X3_areOne_G (d := d + 5) (e_P5 hj) H) (fun o h' hq3 _ => ?_) (fun E i h' q _ => (cQ_no q).elim)
  obtain ⟨r1, E4, rfl, H⟩ := hq3
  cases E4
  refine ew_if_eq (tgt := 10) dX4_same_6 (by decide) (fun c5 => ?_) (fun c5 => ?_)
  · replace H := H.1 c5
    refine ew_aload_n dX4_same_10 rfl lm0 ?_
    refine ew_iload_n dX4_same_11 rfl lm1 ?_
    refine ew_iload_n dX4_same_12 rfl lm2 ?_
    refine ew_iload_n dX4_same_13 rfl lm3 ?_
    refine ew_callY (x := ⟨"ReasonCloser$Closed", "joins", "(III)V"⟩) (d := d + 5) (as := [aI a, aI b, aI c]) rfl dX4_same_14 me_X4_joins rfl (e_P5 hj) rfl q992 q995 (yselP hj (P := fun c => Cond.selects c _ _ ∈ lw_all) q994) q993 (Or.inr ⟨q993, _, _, _, q1009⟩) (by decide) (Nat.le_of_ble_eq_true rfl) (Nat.zero_le _) (Nat.zero_le _) (S_X4_joins_P (d := d + 3) hj H) (fun o h' hq8 _ => ?_) (fun E i h' q _ => (xQv_no q).elim)
    obtain ⟨s7, E9, rfl, H⟩ := hq8
    cases E9
    refine ew_aload_n dX4_same_17 rfl lm0 ?_
    refine ew_callY (x := ⟨"ReasonCloser$Closed", "closes", "()V"⟩) (d := d + 5) (as := []) rfl dX4_same_18 me_X4_closes rfl (e_P5 hj) rfl q966 q969 (yselP hj (P := fun c => Cond.selects c _ _ ∈ lw_all) q968) q967 (Or.inr ⟨q967, _, _, _, q971⟩) (by decide) (Nat.le_of_ble_eq_true rfl) (Nat.zero_le _) (Nat.zero_le _) (S_X4_closes_P (d := d + 0) hj H) (fun o h' hq12 _ => ?_) (fun E i h' q _ => (xQv_no q).elim)
    obtain ⟨s11, E13, rfl, H⟩ := hq12
    cases E13
    exact ew_ret (o := none) rfl ⟨_, rfl, rfl, H⟩ ⟨rfl, dX4_same_21⟩
  · replace H := H.2 c5
    exact ew_ret (o := none) rfl ⟨_, rfl, rfl, H⟩ ⟨rfl, dX4_same_9⟩
def C_X4_same_P (a : Int) (b : Int) (c : Int) (j : Nat) (s0 : XS) (K : XS → Prop) : Prop := B_X4_same_P_E K a b c j s0
theorem S_X4_same_P {d : Nat} {V : XV} {g : AH} {j : Nat} {K : XS → Prop} {a : Int} {b : Int} {c : Int} {s0 : XS} (hj : j = 2 ∨ j = 3) (H : C_X4_same_P a b c j s0 K) : Sp mm_X4_same (d + 6) 0 0 [aR (some (sI V j 99)), aI a, aI b, aI c] (xh V s0 g) (xQv V g K) :=
  ew_sp rfl (Nat.le_of_ble_eq_true rfl) (T_X4_same_P_E d V g j hj K a b c s0 (H ))
abbrev mm_X1_terms : EM := (yX1_terms, cX1_terms, 1, (Option.some .int), [])
theorem me_X1_terms : e_mth mm_X1_terms 0 := ⟨rfl, q1051, q108, by decide +kernel, by decide⟩
def B_X1_terms_E (K : Int → Prop) (s0 : XS) : Prop :=
  K (s0.1.1 31)
set_option maxHeartbeats 4000000 in
theorem T_X1_terms_E (d : Nat) (V : XV) (g : AH) (K : Int → Prop) (s0 : XS) (H : B_X1_terms_E K s0) : EW mm_X1_terms (d + 1) 0 0 (cQ (xh V s0 g) K) 0 [(0, aR (some xT))] [] (xh V s0 g) := by
  refine ew_aload_n dX1_terms_0 rfl lm0 ?_
  refine xw_get (v := aR (some (bI V 1 0))) dX1_terms_1 (e_fl.a q333) xf_5 rfl ?_
  refine xw_book dX1_terms_4 (e_fl.c q191) bf_1 ?_
  refine lw_size (d := d + 0) (j := 1) dX1_terms_7 (by decide) q1030 (Nat.le_of_ble_eq_true rfl) ?_
  exact ew_ret (o := some (aI (s0.1.1 31))) rfl ⟨_, rfl, rfl, H⟩ ⟨dX1_terms_12, .int, rfl, Or.inl rfl, rfl⟩
def C_X1_terms (s0 : XS) (K : Int → Prop) : Prop := B_X1_terms_E K s0
theorem S_X1_terms {d : Nat} {V : XV} {g : AH} {K : Int → Prop} {s0 : XS} (H : C_X1_terms s0 K) : Sp mm_X1_terms (d + 1) 0 0 [aR (some xT)] (xh V s0 g) (cQ (xh V s0 g) K) :=
  ew_sp rfl (Nat.le_of_ble_eq_true rfl) (T_X1_terms_E d V g K s0 (H ))
abbrev mm_X1_sames : EM := (yX1_sames, cX1_sames, 1, (Option.some .int), [])
theorem me_X1_sames : e_mth mm_X1_sames 0 := ⟨rfl, q1055, q108, by decide +kernel, by decide⟩
def B_X1_sames_E (K : Int → Prop) (s0 : XS) : Prop :=
  K (s0.1.1 32)
set_option maxHeartbeats 4000000 in
theorem T_X1_sames_E (d : Nat) (V : XV) (g : AH) (K : Int → Prop) (s0 : XS) (H : B_X1_sames_E K s0) : EW mm_X1_sames (d + 1) 0 0 (cQ (xh V s0 g) K) 0 [(0, aR (some xT))] [] (xh V s0 g) := by
  refine ew_aload_n dX1_sames_0 rfl lm0 ?_
  refine xw_get (v := aR (some (bI V 1 0))) dX1_sames_1 (e_fl.a q333) xf_5 rfl ?_
  refine xw_book dX1_sames_4 (e_fl.c q194) bf_2 ?_
  refine lw_size (d := d + 0) (j := 2) dX1_sames_7 (by decide) q1030 (Nat.le_of_ble_eq_true rfl) ?_
  exact ew_ret (o := some (aI (s0.1.1 32))) rfl ⟨_, rfl, rfl, H⟩ ⟨dX1_sames_12, .int, rfl, Or.inl rfl, rfl⟩
def C_X1_sames (s0 : XS) (K : Int → Prop) : Prop := B_X1_sames_E K s0
theorem S_X1_sames {d : Nat} {V : XV} {g : AH} {K : Int → Prop} {s0 : XS} (H : C_X1_sames s0 K) : Sp mm_X1_sames (d + 1) 0 0 [aR (some xT)] (xh V s0 g) (cQ (xh V s0 g) K) :=
  ew_sp rfl (Nat.le_of_ble_eq_true rfl) (T_X1_sames_E d V g K s0 (H ))
abbrev mm_X1_every : EM := (yX1_every, cX1_every, 1, (Option.some .int), [])
theorem me_X1_every : e_mth mm_X1_every 0 := ⟨rfl, q1112, q108, by decide +kernel, by decide⟩
def B_X1_every_E (K : Int → Prop) (s0 : XS) : Prop :=
  (C_X1_sames s0 (fun r1 => ((inI ((jshl 1 r1) - 1)) ∧ K ((jshl 1 r1) - 1))))
set_option maxHeartbeats 4000000 in
theorem T_X1_every_E (d : Nat) (V : XV) (g : AH) (K : Int → Prop) (s0 : XS) (H : B_X1_every_E K s0) : EW mm_X1_every (d + 2) 0 0 (cQ (xh V s0 g) K) 0 [(0, aR (some xT))] [] (xh V s0 g) := by
  refine ew_iconst dX1_every_0 (inI_of rfl) ?_
  refine ew_aload_n dX1_every_1 rfl lm0 ?_
  refine ew_callV (d := d + 1) (as := []) rfl dX1_every_2 me_X1_sames rfl (ci := 0) rfl rfl xh_x (Or.inl q1052) q1054 qs26 (Nat.le_of_ble_eq_true rfl) (Nat.zero_le _) (Nat.zero_le _) (S_X1_sames (d := d + 0) H) (fun o h' hq3 _ => ?_) (fun E i h' q _ => (cQ_no q).elim)
  obtain ⟨r1, E4, rfl, H⟩ := hq3
  cases E4
  refine ew_ishl dX1_every_5 ?_
  refine ew_iconst dX1_every_6 (inI_of rfl) ?_
  obtain ⟨v5, H⟩ := H
  refine ew_isub dX1_every_7 v5 ?_
  exact ew_ret (o := some (aI ((jshl 1 r1) - 1))) rfl ⟨_, rfl, rfl, H⟩ ⟨dX1_every_8, .int, rfl, Or.inl rfl, rfl⟩
def C_X1_every (s0 : XS) (K : Int → Prop) : Prop := B_X1_every_E K s0
theorem S_X1_every {d : Nat} {V : XV} {g : AH} {K : Int → Prop} {s0 : XS} (H : C_X1_every s0 K) : Sp mm_X1_every (d + 2) 0 0 [aR (some xT)] (xh V s0 g) (cQ (xh V s0 g) K) :=
  ew_sp rfl (Nat.le_of_ble_eq_true rfl) (T_X1_every_E d V g K s0 (H ))
abbrev mm_X1_fault : EM := (yX1_fault, cX1_fault, 1, (Option.some .int), [])
theorem me_X1_fault : e_mth mm_X1_fault 0 := ⟨rfl, q1039, q108, by decide +kernel, by decide⟩
def B_X1_fault_E (K : Int → Prop) (s0 : XS) : Prop :=
  K (s0.1.1 4)
set_option maxHeartbeats 4000000 in
theorem T_X1_fault_E (d : Nat) (V : XV) (g : AH) (K : Int → Prop) (s0 : XS) (H : B_X1_fault_E K s0) : EW mm_X1_fault (d + 0) 0 0 (cQ (xh V s0 g) K) 0 [(0, aR (some xT))] [] (xh V s0 g) := by
  refine ew_aload_n dX1_fault_0 rfl lm0 ?_
  refine xw_get (v := aI (s0.1.1 4)) dX1_fault_1 (e_fl.a q332) xf_4 rfl ?_
  exact ew_ret (o := some (aI (s0.1.1 4))) rfl ⟨_, rfl, rfl, H⟩ ⟨dX1_fault_4, .int, rfl, Or.inl rfl, rfl⟩
def C_X1_fault (s0 : XS) (K : Int → Prop) : Prop := B_X1_fault_E K s0
theorem S_X1_fault {d : Nat} {V : XV} {g : AH} {K : Int → Prop} {s0 : XS} (H : C_X1_fault s0 K) : Sp mm_X1_fault (d + 0) 0 0 [aR (some xT)] (xh V s0 g) (cQ (xh V s0 g) K) :=
  ew_sp rfl (Nat.le_of_ble_eq_true rfl) (T_X1_fault_E d V g K s0 (H ))
abbrev mm_X1_where : EM := (yX1_where, cX1_where, 1, (Option.some .int), [])
theorem me_X1_where : e_mth mm_X1_where 0 := ⟨rfl, q1043, q108, by decide +kernel, by decide⟩
def B_X1_where_E (K : Int → Prop) (s0 : XS) : Prop :=
  K (s0.1.1 1)
set_option maxHeartbeats 4000000 in
theorem T_X1_where_E (d : Nat) (V : XV) (g : AH) (K : Int → Prop) (s0 : XS) (H : B_X1_where_E K s0) : EW mm_X1_where (d + 0) 0 0 (cQ (xh V s0 g) K) 0 [(0, aR (some xT))] [] (xh V s0 g) := by
  refine ew_aload_n dX1_where_0 rfl lm0 ?_
  refine xw_get (v := aI (s0.1.1 1)) dX1_where_1 (e_fl.a q328) xf_1 rfl ?_
  exact ew_ret (o := some (aI (s0.1.1 1))) rfl ⟨_, rfl, rfl, H⟩ ⟨dX1_where_4, .int, rfl, Or.inl rfl, rfl⟩
def C_X1_where (s0 : XS) (K : Int → Prop) : Prop := B_X1_where_E K s0
theorem S_X1_where {d : Nat} {V : XV} {g : AH} {K : Int → Prop} {s0 : XS} (H : C_X1_where s0 K) : Sp mm_X1_where (d + 0) 0 0 [aR (some xT)] (xh V s0 g) (cQ (xh V s0 g) K) :=
  ew_sp rfl (Nat.le_of_ble_eq_true rfl) (T_X1_where_E d V g K s0 (H ))
abbrev mm_X1_size : EM := (yX1_size, cX1_size, 1, (Option.some .int), [])
theorem me_X1_size : e_mth mm_X1_size 0 := ⟨rfl, q1384, q108, by decide +kernel, by decide⟩
def B_X1_size_E (K : Int → Prop) (s0 : XS) : Prop :=
  K (s0.1.1 3)
set_option maxHeartbeats 4000000 in
theorem T_X1_size_E (d : Nat) (V : XV) (g : AH) (K : Int → Prop) (s0 : XS) (H : B_X1_size_E K s0) : EW mm_X1_size (d + 0) 0 0 (cQ (xh V s0 g) K) 0 [(0, aR (some xT))] [] (xh V s0 g) := by
  refine ew_aload_n dX1_size_0 rfl lm0 ?_
  refine xw_get (v := aI (s0.1.1 3)) dX1_size_1 (e_fl.a q331) xf_3 rfl ?_
  exact ew_ret (o := some (aI (s0.1.1 3))) rfl ⟨_, rfl, rfl, H⟩ ⟨dX1_size_4, .int, rfl, Or.inl rfl, rfl⟩
def C_X1_size (s0 : XS) (K : Int → Prop) : Prop := B_X1_size_E K s0
theorem S_X1_size {d : Nat} {V : XV} {g : AH} {K : Int → Prop} {s0 : XS} (H : C_X1_size s0 K) : Sp mm_X1_size (d + 0) 0 0 [aR (some xT)] (xh V s0 g) (cQ (xh V s0 g) K) :=
  ew_sp rfl (Nat.le_of_ble_eq_true rfl) (T_X1_size_E d V g K s0 (H ))
abbrev mm_X1_trouble : EM := (yX1_trouble, cX1_trouble, 1, (Option.some .int), [])
theorem me_X1_trouble : e_mth mm_X1_trouble 0 := ⟨rfl, q1388, q108, by decide +kernel, by decide⟩
def B_X1_trouble_E (K : Int → Prop) (s0 : XS) : Prop :=
  K (s0.1.1 0)
set_option maxHeartbeats 4000000 in
theorem T_X1_trouble_E (d : Nat) (V : XV) (g : AH) (K : Int → Prop) (s0 : XS) (H : B_X1_trouble_E K s0) : EW mm_X1_trouble (d + 0) 0 0 (cQ (xh V s0 g) K) 0 [(0, aR (some xT))] [] (xh V s0 g) := by
  refine ew_aload_n dX1_trouble_0 rfl lm0 ?_
  refine xw_get (v := aI (s0.1.1 0)) dX1_trouble_1 (e_fl.a q327) xf_0 rfl ?_
  exact ew_ret (o := some (aI (s0.1.1 0))) rfl ⟨_, rfl, rfl, H⟩ ⟨dX1_trouble_4, .int, rfl, Or.inl rfl, rfl⟩
def C_X1_trouble (s0 : XS) (K : Int → Prop) : Prop := B_X1_trouble_E K s0
theorem S_X1_trouble {d : Nat} {V : XV} {g : AH} {K : Int → Prop} {s0 : XS} (H : C_X1_trouble s0 K) : Sp mm_X1_trouble (d + 0) 0 0 [aR (some xT)] (xh V s0 g) (cQ (xh V s0 g) K) :=
  ew_sp rfl (Nat.le_of_ble_eq_true rfl) (T_X1_trouble_E d V g K s0 (H ))
abbrev mm_X1_fine : EM := (yX1_fine, cX1_fine, 2, (Option.some .int), [])
theorem me_X1_fine : e_mth mm_X1_fine 1 := ⟨rfl, q1035, q108, by decide +kernel, by decide⟩
def B_X1_fine_E (K : Int → XS → Prop) (a : Int) (s0 : XS) : Prop :=
  (∀ s1 : XS, s1 = xs s0 0 0 → (∀ s4 : XS, s4 = xs s1 1 (-1) → K a s4))
set_option maxHeartbeats 4000000 in
theorem T_X1_fine_E (d : Nat) (V : XV) (g : AH) (K : Int → XS → Prop) (a : Int) (s0 : XS) (H : B_X1_fine_E K a s0) : EW mm_X1_fine (d + 0) 0 0 (xQi V g K) 0 [(0, aR (some xT)), (1, aI a)] [] (xh V s0 g) := by
  refine ew_aload_n dX1_fine_0 rfl lm0 ?_
  refine ew_iconst dX1_fine_1 (inI_of rfl) ?_
  refine xw_put dX1_fine_2 (e_fl.a q327) xf_0 rfl (by decide +kernel) (fun s1 e2 => ?_)
  replace H := H s1 e2
  refine ew_aload_n dX1_fine_5 rfl lm0 ?_
  refine ew_iconst dX1_fine_6 (inI_of rfl) ?_
  refine xw_put dX1_fine_7 (e_fl.a q328) xf_1 rfl (by decide +kernel) (fun s4 e5 => ?_)
  replace H := H s4 e5
  refine ew_iload_n dX1_fine_10 rfl lm1 ?_
  exact ew_ret (o := some (aI a)) rfl ⟨_, _, rfl, rfl, H⟩ ⟨dX1_fine_11, .int, rfl, Or.inl rfl, rfl⟩
def C_X1_fine (a : Int) (s0 : XS) (K : Int → XS → Prop) : Prop := B_X1_fine_E K a s0
theorem S_X1_fine {d : Nat} {V : XV} {g : AH} {K : Int → XS → Prop} {a : Int} {s0 : XS} (H : C_X1_fine a s0 K) : Sp mm_X1_fine (d + 0) 0 0 [aR (some xT), aI a] (xh V s0 g) (xQi V g K) :=
  ew_sp rfl (Nat.le_of_ble_eq_true rfl) (T_X1_fine_E d V g K a s0 (H ))
abbrev mm_X1_refused : EM := (yX1_refused, cX1_refused, 2, (Option.some .int), [])
theorem me_X1_refused : e_mth mm_X1_refused 1 := ⟨rfl, q409, q108, by decide +kernel, by decide⟩
def B_X1_refused_E (K : Int → XS → Prop) (a : Int) (s0 : XS) : Prop :=
  (∀ s1 : XS, s1 = xs s0 0 a → (∀ s4 : XS, s4 = xs s1 1 (-1) → K (-1) s4))
set_option maxHeartbeats 4000000 in
theorem T_X1_refused_E (d : Nat) (V : XV) (g : AH) (K : Int → XS → Prop) (a : Int) (s0 : XS) (H : B_X1_refused_E K a s0) : EW mm_X1_refused (d + 0) 0 0 (xQi V g K) 0 [(0, aR (some xT)), (1, aI a)] [] (xh V s0 g) := by
  refine ew_aload_n dX1_refused_0 rfl lm0 ?_
  refine ew_iload_n dX1_refused_1 rfl lm1 ?_
  refine xw_put dX1_refused_2 (e_fl.a q327) xf_0 rfl (by decide +kernel) (fun s1 e2 => ?_)
  replace H := H s1 e2
  refine ew_aload_n dX1_refused_5 rfl lm0 ?_
  refine ew_iconst dX1_refused_6 (inI_of rfl) ?_
  refine xw_put dX1_refused_7 (e_fl.a q328) xf_1 rfl (by decide +kernel) (fun s4 e5 => ?_)
  replace H := H s4 e5
  refine ew_iconst dX1_refused_10 (inI_of rfl) ?_
  exact ew_ret (o := some (aI (-1))) rfl ⟨_, _, rfl, rfl, H⟩ ⟨dX1_refused_11, .int, rfl, Or.inl rfl, rfl⟩
def C_X1_refused (a : Int) (s0 : XS) (K : Int → XS → Prop) : Prop := B_X1_refused_E K a s0
theorem S_X1_refused {d : Nat} {V : XV} {g : AH} {K : Int → XS → Prop} {a : Int} {s0 : XS} (H : C_X1_refused a s0 K) : Sp mm_X1_refused (d + 0) 0 0 [aR (some xT), aI a] (xh V s0 g) (xQi V g K) :=
  ew_sp rfl (Nat.le_of_ble_eq_true rfl) (T_X1_refused_E d V g K a s0 (H ))
abbrev mm_X1_isTerm : EM := (yX1_isTerm, cX1_isTerm, 6, (Option.some .boolean), [])
theorem me_X1_isTerm : e_mth mm_X1_isTerm 1 := ⟨rfl, q1084, q108, by decide +kernel, by decide⟩
def B_X1_isTerm_8 (X8 : Int → Int → Prop) (K : Int → Prop) (x3 : Int) (x4 : Int) (n : Nat) (f : Int → Int) (s0 : XS) : Prop :=
  ((x3 ≤ x4 → K 1) ∧ (¬ x3 ≤ x4 → ((0 ≤ x4 ∧ x4 < (n : Int)) ∧ (C_X1_terms s0 (fun r3 => ((inI (r3 - 1)) ∧ (C_X1_isIn (f x4) 0 (r3 - 1) (fun r8 => ((r8 = 0 → K 0) ∧ (¬ r8 = 0 → (inI (x4 + 1) ∧ X8 x3 (x4 + 1))))))))))))
def B_X1_isTerm_E (X8 : Int → Int → Prop) (K : Int → Prop) (n : Nat) (f : Int → Int) (s0 : XS) : Prop :=
  X8 (n : Int) 0
def W_X1_isTerm_8 (d : Nat) (V : XV) (g : AH) (ia : EId) (n : Nat) (f : Int → Int) (s0 : XS) (K : Int → Prop) (x3 : Int) (x4 : Int) : Prop := EW mm_X1_isTerm (d + 2) 0 0 (cQ (xh V s0 g) K) 8 [(0, aR (some xT)), (2, aR (some ia)), (3, aI x3), (4, aI x4)] [] (xh V s0 g)
set_option maxHeartbeats 4000000 in
theorem T_X1_isTerm_8 (d : Nat) (V : XV) (g : AH) (ia : EId) (n : Nat) (f : Int → Int) (K : Int → Prop) (x3 : Int) (x4 : Int) (s0 : XS) (hA : xh V s0 g ia = some (kI 0 n f)) (hn : (n : Int) < 2147483648) (H : B_X1_isTerm_8 (W_X1_isTerm_8 d V g ia n f s0 K) K x3 x4 n f s0) : EW mm_X1_isTerm (d + 2) 0 0 (cQ (xh V s0 g) K) 8 [(0, aR (some xT)), (2, aR (some ia)), (3, aI x3), (4, aI x4)] [] (xh V s0 g) := by
  refine ew_iload dX1_isTerm_8 lm3 ?_
  refine ew_iload_n dX1_isTerm_10 rfl lm2 ?_
  refine ew_icmp_ge (tgt := 43) dX1_isTerm_11 (by decide) (fun c1 => ?_) (fun c1 => ?_)
  · replace H := H.1 c1
    refine ew_iconst dX1_isTerm_43 (inI_of rfl) ?_
    exact ew_ret (o := some (aI 1)) rfl ⟨_, rfl, rfl, H⟩ ⟨dX1_isTerm_44, .boolean, rfl, Or.inr (Or.inl rfl), by decide⟩
  · replace H := H.2 c1
    refine ew_aload_n dX1_isTerm_14 rfl lm1 ?_
    refine ew_iload dX1_isTerm_15 lm3 ?_
    obtain ⟨v2, H⟩ := H
    refine ew_iald dX1_isTerm_17 hA v2.1 v2.2 ?_
    refine ew_istore dX1_isTerm_18 (by decide) (lv' := [(5, aI (f x4)), (0, aR (some xT)), (2, aR (some ia)), (3, aI x3), (4, aI x4)]) rfl ?_
    refine ew_sub (List.forall_mem_cons.mpr ⟨lm1, (List.forall_mem_cons.mpr ⟨lm2, (List.forall_mem_cons.mpr ⟨lm3, (List.forall_mem_cons.mpr ⟨lm4, (List.forall_mem_cons.mpr ⟨lm0, e_nm⟩)⟩)⟩)⟩)⟩) ?_
    refine ew_iload dX1_isTerm_20 lm4 ?_
    refine ew_iconst dX1_isTerm_22 (inI_of rfl) ?_
    refine ew_aload_n dX1_isTerm_23 rfl lm0 ?_
    refine ew_callV (d := d + 1) (as := []) rfl dX1_isTerm_24 me_X1_terms rfl (ci := 0) rfl rfl xh_x (Or.inl q1048) q1050 qs25 (Nat.le_of_ble_eq_true rfl) (Nat.zero_le _) (Nat.zero_le _) (S_X1_terms (d := d + 0) H) (fun o h' hq5 _ => ?_) (fun E i h' q _ => (cQ_no q).elim)
    obtain ⟨r3, E6, rfl, H⟩ := hq5
    cases E6
    refine ew_iconst dX1_isTerm_27 (inI_of rfl) ?_
    obtain ⟨v7, H⟩ := H
    refine ew_isub dX1_isTerm_28 v7 ?_
    refine ew_callS (d := d + 1) (as := [aI (f x4), aI 0, aI (r3 - 1)]) rfl dX1_isTerm_29 me_X1_isIn rfl (Or.inl q403) q404 (Nat.le_of_ble_eq_true rfl) (Nat.zero_le _) (Nat.zero_le _) (S_X1_isIn (d := d + 1) H) (fun o h' hq9 _ => ?_) (fun E i h' q _ => (cQ_no q).elim)
    obtain ⟨r8, E10, rfl, H⟩ := hq9
    cases E10
    refine ew_if_ne (tgt := 37) dX1_isTerm_32 (by decide) (fun c11 => ?_) (fun c11 => ?_)
    · replace H := H.2 c11
      obtain ⟨v12, H⟩ := H
      refine ew_iinc dX1_isTerm_37 lm3 (by decide) v12 (lv' := [(4, aI (x4 + 1)), (0, aR (some xT)), (2, aR (some ia)), (3, aI x3), (5, aI (f x4))]) rfl ?_
      refine ew_sub (List.forall_mem_cons.mpr ⟨lm1, (List.forall_mem_cons.mpr ⟨lm2, (List.forall_mem_cons.mpr ⟨lm3, (List.forall_mem_cons.mpr ⟨lm0, (List.forall_mem_cons.mpr ⟨lm4, e_nm⟩)⟩)⟩)⟩)⟩) ?_
      refine ew_goto (tgt := 8) dX1_isTerm_40 (by decide) ?_
      exact ew_room (Nat.le_refl _) (Nat.zero_le _) (Nat.zero_le _) (ew_sub (List.forall_mem_cons.mpr ⟨lm0, (List.forall_mem_cons.mpr ⟨lm1, (List.forall_mem_cons.mpr ⟨lm2, (List.forall_mem_cons.mpr ⟨lm3, e_nm⟩)⟩)⟩)⟩) H)
    · replace H := H.1 c11
      refine ew_iconst dX1_isTerm_35 (inI_of rfl) ?_
      exact ew_ret (o := some (aI 0)) rfl ⟨_, rfl, rfl, H⟩ ⟨dX1_isTerm_36, .boolean, rfl, Or.inr (Or.inl rfl), by decide⟩
set_option maxHeartbeats 4000000 in
theorem T_X1_isTerm_E (d : Nat) (V : XV) (g : AH) (ia : EId) (n : Nat) (f : Int → Int) (K : Int → Prop) (s0 : XS) (hA : xh V s0 g ia = some (kI 0 n f)) (hn : (n : Int) < 2147483648) (H : B_X1_isTerm_E (W_X1_isTerm_8 d V g ia n f s0 K) K n f s0) : EW mm_X1_isTerm (d + 2) 0 0 (cQ (xh V s0 g) K) 0 [(0, aR (some xT)), (1, aR (some ia))] [] (xh V s0 g) := by
  refine ew_aload_n dX1_isTerm_0 rfl lm1 ?_
  refine ew_astore_n dX1_isTerm_1 rfl (by decide) (lv' := [(2, aR (some ia)), (0, aR (some xT)), (1, aR (some ia))]) rfl ?_
  refine ew_sub (List.forall_mem_cons.mpr ⟨lm1, (List.forall_mem_cons.mpr ⟨lm2, (List.forall_mem_cons.mpr ⟨lm0, e_nm⟩)⟩)⟩) ?_
  refine ew_aload_n dX1_isTerm_2 rfl lm2 ?_
  refine ew_alen dX1_isTerm_3 hA (Or.inl ⟨_, _, rfl⟩) hn ?_
  refine ew_istore_n dX1_isTerm_4 rfl (by decide) (lv' := [(3, aI (n : Int)), (0, aR (some xT)), (1, aR (some ia)), (2, aR (some ia))]) rfl ?_
  refine ew_sub (List.forall_mem_cons.mpr ⟨lm1, (List.forall_mem_cons.mpr ⟨lm2, (List.forall_mem_cons.mpr ⟨lm3, (List.forall_mem_cons.mpr ⟨lm0, e_nm⟩)⟩)⟩)⟩) ?_
  refine ew_iconst dX1_isTerm_5 (inI_of rfl) ?_
  refine ew_istore dX1_isTerm_6 (by decide) (lv' := [(4, aI 0), (0, aR (some xT)), (1, aR (some ia)), (2, aR (some ia)), (3, aI (n : Int))]) rfl ?_
  refine ew_sub (List.forall_mem_cons.mpr ⟨lm1, (List.forall_mem_cons.mpr ⟨lm2, (List.forall_mem_cons.mpr ⟨lm3, (List.forall_mem_cons.mpr ⟨lm4, (List.forall_mem_cons.mpr ⟨lm0, e_nm⟩)⟩)⟩)⟩)⟩) ?_
  exact ew_room (Nat.le_refl _) (Nat.zero_le _) (Nat.zero_le _) (ew_sub (List.forall_mem_cons.mpr ⟨lm0, (List.forall_mem_cons.mpr ⟨lm2, (List.forall_mem_cons.mpr ⟨lm3, (List.forall_mem_cons.mpr ⟨lm4, e_nm⟩)⟩)⟩)⟩) H)
def C_X1_isTerm (n : Nat) (f : Int → Int) (s0 : XS) (K : Int → Prop) : Prop := ∀ (X8 : Int → Int → Prop), (∀ (x3 : Int) (x4 : Int), B_X1_isTerm_8 X8 K x3 x4 n f s0 → X8 x3 x4) → B_X1_isTerm_E X8 K n f s0
theorem S_X1_isTerm {d : Nat} {V : XV} {g : AH} {ia : EId} {n : Nat} {f : Int → Int} {K : Int → Prop} {s0 : XS} (hA : xh V s0 g ia = some (kI 0 n f)) (hn : (n : Int) < 2147483648) (H : C_X1_isTerm n f s0 K) : Sp mm_X1_isTerm (d + 2) 0 0 [aR (some xT), aR (some ia)] (xh V s0 g) (cQ (xh V s0 g) K) :=
  ew_sp rfl (Nat.le_of_ble_eq_true rfl) (T_X1_isTerm_E d V g ia n f K s0 hA hn (H _ (fun x3 x4 H => T_X1_isTerm_8 d V g ia n f K x3 x4 s0 hA hn H)))
abbrev mm_X1_why : EM := (yX1_why, cX1_why, 3, (Option.some .int), [])
theorem me_X1_why : e_mth mm_X1_why 2 := ⟨rfl, q1160, q108, by decide +kernel, by decide⟩
def B_X1_why_E (K : Int → Prop) (a : Int) (b : Int) (s0 : XS) : Prop :=
  (C_X1_isTerm 2 (iup (iup (fun _ => 0) 0 a) 1 b) s0 (fun r1 => ((r1 = 0 → K 1) ∧ (¬ r1 = 0 → (C_X3_areOne_G a b 4 s0 (fun r6 => ((r6 = 0 → K 5) ∧ (¬ r6 = 0 → K 0))))))))
set_option maxHeartbeats 4000000 in
theorem T_X1_why_E (d : Nat) (V : XV) (g : AH) (hg : xf 3 g) (hr : xfree V g) (K : Int → Prop) (a : Int) (b : Int) (s0 : XS) (H : B_X1_why_E K a b s0) : EW mm_X1_why (d + 3) 1 2 (tQc V s0 g K) 0 [(0, aR (some xT)), (1, aI a), (2, aI b)] [] (xh V s0 g) := by
  refine ew_aload_n dX1_why_0 rfl lm0 ?_
  refine ew_iconst dX1_why_1 (inI_of rfl) ?_
  refine ew_newIB (t := 0) (N := 2) (i := (1, 3, 0)) dX1_why_2 rfl (by decide) q302 rfl (by decide) ((xh_g (xC_1 rfl)).trans (hg _ rfl (Nat.le_refl _))) (by decide) (Nat.le_of_ble_eq_true rfl) (Nat.le_of_ble_eq_true rfl) ?_
  rw [xh_upg (xC_1 rfl)]
  refine ew_dup dX1_why_4 rfl ?_
  refine ew_iconst dX1_why_5 (inI_of rfl) ?_
  refine ew_iload_n dX1_why_6 rfl lm1 ?_
  refine ew_iast dX1_why_7 ((xh_g (xC_1 rfl)).trans (hup_self _ _ _)) (by decide) (by decide) ?_
  rw [xh_upg (xC_1 rfl), hup_hup]
  refine ew_dup dX1_why_8 rfl ?_
  refine ew_iconst dX1_why_9 (inI_of rfl) ?_
  refine ew_iload_n dX1_why_10 rfl lm2 ?_
  refine ew_iast dX1_why_11 ((xh_g (xC_1 rfl)).trans (hup_self _ _ _)) (by decide) (by decide) ?_
  rw [xh_upg (xC_1 rfl), hup_hup]
  refine ew_callV (d := d + 2) (as := [aR (some (1, 3, 0))]) rfl dX1_why_12 me_X1_isTerm rfl (ci := 0) rfl rfl xh_x (Or.inl q1081) q1083 qs29 (Nat.le_of_ble_eq_true rfl) (Nat.zero_le _) (Nat.zero_le _) (S_X1_isTerm (d := d + 0) ((xh_g (xC_1 rfl)).trans (hup_self _ _ _)) (by decide) H) (fun o h' hq3 _ => ?_) (fun E i h' q _ => (cQ_no q).elim)
  obtain ⟨r1, E4, rfl, H⟩ := hq3
  cases E4
  refine ew_if_ne (tgt := 22) dX1_why_15 (by decide) (fun c5 => ?_) (fun c5 => ?_)
  · replace H := H.2 c5
    refine ew_aload_n dX1_why_22 rfl lm0 ?_
    refine xw_get (v := aR (some (sI V 4 99))) dX1_why_23 (e_fl.a q334) xf_6 rfl ?_
    refine ew_iload_n dX1_why_26 rfl lm1 ?_
    refine ew_iload_n dX1_why_27 rfl lm2 ?_
    refine ew_callY (x := ⟨"ReasonCloser$Reasons", "areOne", "(II)Z"⟩) (d := d + 2) (as := [aI a, aI b]) rfl dX1_why_28 me_X3_areOne rfl (by decide) rfl q1085 q1086 (ysel5_4 (P := fun c => Cond.selects c _ _ ∈ lw_all) q1087) q981 (Or.inl q978) (by decide) (Nat.le_of_ble_eq_true rfl) (Nat.zero_le _) (Nat.zero_le _) (S_X3_areOne_G (d := d + 2) (by decide) H) (fun o h' hq8 _ => ?_) (fun E i h' q _ => (cQ_no q).elim)
    obtain ⟨r6, E9, rfl, H⟩ := hq8
    cases E9
    refine ew_if_ne (tgt := 38) dX1_why_31 (by decide) (fun c10 => ?_) (fun c10 => ?_)
    · replace H := H.2 c10
      refine ew_iconst dX1_why_38 (inI_of rfl) ?_
      exact ew_ret (o := some (aI 0)) rfl ⟨_, _, rfl, rfl, (eX.hup eX.rf rfl (hg _ rfl (Nat.le_refl _))), H⟩ ⟨dX1_why_39, .int, rfl, Or.inl rfl, rfl⟩
    · replace H := H.1 c10
      refine ew_iconst dX1_why_34 (inI_of rfl) ?_
      refine ew_goto (tgt := 39) dX1_why_35 (by decide) ?_
      exact ew_ret (o := some (aI 5)) rfl ⟨_, _, rfl, rfl, (eX.hup eX.rf rfl (hg _ rfl (Nat.le_refl _))), H⟩ ⟨dX1_why_39, .int, rfl, Or.inl rfl, rfl⟩
  · replace H := H.1 c5
    refine ew_iconst dX1_why_18 (inI_of rfl) ?_
    refine ew_goto (tgt := 39) dX1_why_19 (by decide) ?_
    exact ew_ret (o := some (aI 1)) rfl ⟨_, _, rfl, rfl, (eX.hup eX.rf rfl (hg _ rfl (Nat.le_refl _))), H⟩ ⟨dX1_why_39, .int, rfl, Or.inl rfl, rfl⟩
def C_X1_why (a : Int) (b : Int) (s0 : XS) (K : Int → Prop) : Prop := B_X1_why_E K a b s0
theorem S_X1_why {d : Nat} {V : XV} {g : AH} {K : Int → Prop} {a : Int} {b : Int} {s0 : XS} (hg : xf 3 g) (hr : xfree V g) (H : C_X1_why a b s0 K) : Sp mm_X1_why (d + 3) 1 2 [aR (some xT), aI a, aI b] (xh V s0 g) (cQ (xh V s0 g) K) :=
  Sp.forget hr tQc_x (ew_sp rfl (Nat.le_of_ble_eq_true rfl) (T_X1_why_E d V g hg hr K a b s0 (H )))
abbrev mm_X1_clash : EM := (yX1_clash, cX1_clash, 3, (Option.some .int), [])
theorem me_X1_clash : e_mth mm_X1_clash 1 := ⟨rfl, q1065, q108, by decide +kernel, by decide⟩
def B_X1_clash_2 (X2 : Int → Prop) (K : Int → Prop) (x2 : Int) (j : Nat) (s0 : XS) : Prop :=
  (((s0.1.1 33) ≤ x2 → K (-2)) ∧ (¬ (s0.1.1 33) ≤ x2 → (((0 ≤ x2 ∧ x2 < s0.1.1 33) ∧ xok s0 3) ∧ ((0 ≤ x2 ∧ x2 < s0.1.1 43) ∧ ((0 ≤ x2 ∧ x2 < s0.1.1 43) ∧ (((0 ≤ x2 ∧ x2 < s0.1.1 33) ∧ xok s0 3) ∧ ((0 ≤ x2 ∧ x2 < s0.1.1 43) ∧ ((0 ≤ x2 ∧ x2 < s0.1.1 43) ∧ (C_X3_areOne_G (s0.1.2 42 x2) (s0.1.2 43 x2) j s0 (fun r8 => ((r8 = 0 → (inI (x2 + 1) ∧ X2 (x2 + 1))) ∧ (¬ r8 = 0 → K x2))))))))))))
def B_X1_clash_E (X2 : Int → Prop) (K : Int → Prop) (j : Nat) (s0 : XS) : Prop :=
  X2 0
def W_X1_clash_2 (d : Nat) (V : XV) (g : AH) (j : Nat) (s0 : XS) (K : Int → Prop) (x2 : Int) : Prop := EW mm_X1_clash (d + 3) 0 0 (cQ (xh V s0 g) K) 2 [(0, aR (some xT)), (1, aR (some (sI V j 99))), (2, aI x2)] [] (xh V s0 g)
set_option maxHeartbeats 4000000 in
theorem T_X1_clash_2 (d : Nat) (V : XV) (g : AH) (j : Nat) (hj : j < 5) (K : Int → Prop) (x2 : Int) (s0 : XS) (H : B_X1_clash_2 (W_X1_clash_2 d V g j s0 K) K x2 j s0) : EW mm_X1_clash (d + 3) 0 0 (cQ (xh V s0 g) K) 2 [(0, aR (some xT)), (1, aR (some (sI V j 99))), (2, aI x2)] [] (xh V s0 g) := by
  refine ew_iload_n dX1_clash_2 rfl lm2 ?_
  refine ew_aload_n dX1_clash_3 rfl lm0 ?_
  refine xw_get (v := aR (some (bI V 1 0))) dX1_clash_4 (e_fl.a q333) xf_5 rfl ?_
  refine xw_book dX1_clash_7 (e_fl.c q197) bf_3 ?_
  refine lw_size (d := d + 2) (j := 3) dX1_clash_10 (by decide) q1030 (Nat.le_of_ble_eq_true rfl) ?_
  refine ew_icmp_ge (tgt := 71) dX1_clash_15 (by decide) (fun c1 => ?_) (fun c1 => ?_)
  · replace H := H.1 c1
    refine ew_bipush dX1_clash_71 (inI_of rfl) (by decide) ?_
    exact ew_ret (o := some (aI (-2))) rfl ⟨_, rfl, rfl, H⟩ ⟨dX1_clash_73, .int, rfl, Or.inl rfl, rfl⟩
  · replace H := H.2 c1
    refine ew_aload_n dX1_clash_18 rfl lm1 ?_
    refine ew_aload_n dX1_clash_19 rfl lm0 ?_
    refine xw_get (v := aR (some (bI V 1 0))) dX1_clash_20 (e_fl.a q333) xf_5 rfl ?_
    refine xw_book dX1_clash_23 (e_fl.c q197) bf_3 ?_
    refine ew_iload_n dX1_clash_26 rfl lm2 ?_
    obtain ⟨v2, H⟩ := H
    refine lw_g3 (d := d + 0) dX1_clash_27 q1021 (Nat.le_of_ble_eq_true rfl) v2.1 v2.2 ?_
    obtain ⟨v3, H⟩ := H
    refine cd_cast (f := x2) dX1_clash_32 q1022 v3 ?_
    obtain ⟨v4, H⟩ := H
    refine gd_0 (f := x2) dX1_clash_35 (e_fl.c q865) sf_0 v4 ?_
    refine ew_aload_n dX1_clash_38 rfl lm0 ?_
    refine xw_get (v := aR (some (bI V 1 0))) dX1_clash_39 (e_fl.a q333) xf_5 rfl ?_
    refine xw_book dX1_clash_42 (e_fl.c q197) bf_3 ?_
    refine ew_iload_n dX1_clash_45 rfl lm2 ?_
    obtain ⟨v5, H⟩ := H
    refine lw_g3 (d := d + 0) dX1_clash_46 q1021 (Nat.le_of_ble_eq_true rfl) v5.1 v5.2 ?_
    obtain ⟨v6, H⟩ := H
    refine cd_cast (f := x2) dX1_clash_51 q1022 v6 ?_
    obtain ⟨v7, H⟩ := H
    refine gd_1 (f := x2) dX1_clash_54 (e_fl.c q867) sf_1 v7 ?_
    refine ew_callY (x := ⟨"ReasonCloser$Groups", "areOne", "(II)Z"⟩) (d := d + 2) (as := [aI (s0.1.2 42 x2), aI (s0.1.2 43 x2)]) rfl dX1_clash_57 me_X3_areOne rfl hj rfl q1066 q1972 (yselG hj (P := fun c => Cond.selects c _ _ ∈ lw_all) q1974 q1973 q1975) q981 (Or.inl q978) (by decide) (Nat.le_of_ble_eq_true rfl) (Nat.zero_le _) (Nat.zero_le _) (S_X3_areOne_G (d := d + 2) hj H) (fun o h' hq10 _ => ?_) (fun E i h' q _ => (cQ_no q).elim)
    obtain ⟨r8, E11, rfl, H⟩ := hq10
    cases E11
    refine ew_if_eq (tgt := 65) dX1_clash_60 (by decide) (fun c12 => ?_) (fun c12 => ?_)
    · replace H := H.1 c12
      obtain ⟨v13, H⟩ := H
      refine ew_iinc dX1_clash_65 lm2 (by decide) v13 (lv' := [(2, aI (x2 + 1)), (0, aR (some xT)), (1, aR (some (sI V j 99)))]) rfl ?_
      refine ew_sub (List.forall_mem_cons.mpr ⟨lm1, (List.forall_mem_cons.mpr ⟨lm2, (List.forall_mem_cons.mpr ⟨lm0, e_nm⟩)⟩)⟩) ?_
      refine ew_goto (tgt := 2) dX1_clash_68 (by decide) ?_
      exact ew_room (Nat.le_refl _) (Nat.zero_le _) (Nat.zero_le _) (ew_sub (List.forall_mem_cons.mpr ⟨lm0, (List.forall_mem_cons.mpr ⟨lm1, (List.forall_mem_cons.mpr ⟨lm2, e_nm⟩)⟩)⟩) H)
    · replace H := H.2 c12
      refine ew_iload_n dX1_clash_63 rfl lm2 ?_
      exact ew_ret (o := some (aI x2)) rfl ⟨_, rfl, rfl, H⟩ ⟨dX1_clash_64, .int, rfl, Or.inl rfl, rfl⟩
set_option maxHeartbeats 4000000 in
theorem T_X1_clash_E (d : Nat) (V : XV) (g : AH) (j : Nat) (hj : j < 5) (K : Int → Prop) (s0 : XS) (H : B_X1_clash_E (W_X1_clash_2 d V g j s0 K) K j s0) : EW mm_X1_clash (d + 3) 0 0 (cQ (xh V s0 g) K) 0 [(0, aR (some xT)), (1, aR (some (sI V j 99)))] [] (xh V s0 g) := by
  refine ew_iconst dX1_clash_0 (inI_of rfl) ?_
  refine ew_istore_n dX1_clash_1 rfl (by decide) (lv' := [(2, aI 0), (0, aR (some xT)), (1, aR (some (sI V j 99)))]) rfl ?_
  refine ew_sub (List.forall_mem_cons.mpr ⟨lm1, (List.forall_mem_cons.mpr ⟨lm2, (List.forall_mem_cons.mpr ⟨lm0, e_nm⟩)⟩)⟩) ?_
  exact ew_room (Nat.le_refl _) (Nat.zero_le _) (Nat.zero_le _) (ew_sub (List.forall_mem_cons.mpr ⟨lm0, (List.forall_mem_cons.mpr ⟨lm1, (List.forall_mem_cons.mpr ⟨lm2, e_nm⟩)⟩)⟩) H)
def C_X1_clash (j : Nat) (s0 : XS) (K : Int → Prop) : Prop := ∀ (X2 : Int → Prop), (∀ (x2 : Int), B_X1_clash_2 X2 K x2 j s0 → X2 x2) → B_X1_clash_E X2 K j s0
theorem S_X1_clash {d : Nat} {V : XV} {g : AH} {j : Nat} {K : Int → Prop} {s0 : XS} (hj : j < 5) (H : C_X1_clash j s0 K) : Sp mm_X1_clash (d + 3) 0 0 [aR (some xT), aR (some (sI V j 99))] (xh V s0 g) (cQ (xh V s0 g) K) :=
  ew_sp rfl (Nat.le_of_ble_eq_true rfl) (T_X1_clash_E d V g j hj K s0 (H _ (fun x2 H => T_X1_clash_2 d V g j hj K x2 s0 H)))
