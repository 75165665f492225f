/-! ReasonCloser: sheet 4, by program (gen/gxn.py) -/
set_option maxRecDepth 100000
def B_X4_closesOne_N_2 (X2 : Int → Nat → Nat → XS → Prop) (X14 : Int → Int → Nat → Nat → XS → Prop) (K : Int → XS → Prop) (x1 : Int) (kc ks : Nat) (s0 : XS) : Prop :=
  ((((s0.2 4).1 1) ≤ x1 → K 0 s0) ∧ (¬ ((s0.2 4).1 1) ≤ x1 → ((inI (x1 + 1)) ∧ X14 x1 (x1 + 1) kc ks s0)))
def B_X4_closesOne_N_14 (X2 : Int → Nat → Nat → XS → Prop) (X14 : Int → Int → Nat → Nat → XS → Prop) (K : Int → XS → Prop) (x1 : Int) (x2 : Int) (kc ks : Nat) (s0 : XS) : Prop :=
  ((((s0.2 4).1 1) ≤ x2 → (inI (x1 + 1) ∧ X2 (x1 + 1) kc ks s0)) ∧ (¬ ((s0.2 4).1 1) ≤ x2 → (C_X3_areOne_G x1 x2 4 s0 (fun r3 => ((r3 = 0 → (C_X4_follow_N x1 x2 s0 (fun r9 => ((r9 = 0 → (inI (x2 + 1) ∧ X14 x1 (x2 + 1) kc ks s0)) ∧ (¬ r9 = 0 → (∃ mc18c mc18s, mc18c ≤ kc ∧ mc18s ≤ ks ∧ C_X5_joins_N mc18c mc18s x1 x2 (-2) s0 (fun s15 => K 1 s15))))))) ∧ (¬ r3 = 0 → (inI (x2 + 1) ∧ X14 x1 (x2 + 1) kc ks s0)))))))
def B_X4_closesOne_N_E (X2 : Int → Nat → Nat → XS → Prop) (X14 : Int → Int → Nat → Nat → XS → Prop) (K : Int → XS → Prop) (kc ks : Nat) (s0 : XS) : Prop :=
  X2 0 kc ks s0
def W_X4_closesOne_N_2 (d : Nat) (V : XV) (g : AH) (K : Int → XS → Prop) (x1 : Int) (kc ks : Nat) (s0 : XS) : Prop := EW mm_X4_closesOne (d + 43) kc ks (xQi V g K) 2 [(0, aR (some (sI V 4 99))), (1, aI x1)] [] (xh V s0 g)
def W_X4_closesOne_N_14 (d : Nat) (V : XV) (g : AH) (K : Int → XS → Prop) (x1 : Int) (x2 : Int) (kc ks : Nat) (s0 : XS) : Prop := EW mm_X4_closesOne (d + 43) kc ks (xQi V g K) 14 [(0, aR (some (sI V 4 99))), (1, aI x1), (2, aI x2)] [] (xh V s0 g)
set_option maxHeartbeats 4000000 in
theorem T_X4_closesOne_N_2 (d : Nat) (V : XV) (g : AH) (ht : ∀ q, g (tI V 4 q) = none) (K : Int → XS → Prop) (x1 : Int) (kc ks : Nat) (s0 : XS) (H : B_X4_closesOne_N_2 (W_X4_closesOne_N_2 d V g K) (W_X4_closesOne_N_14 d V g K) K x1 kc ks s0) : EW mm_X4_closesOne (d + 43) kc ks (xQi V g K) 2 [(0, aR (some (sI V 4 99))), (1, aI x1)] [] (xh V s0 g) := by
  refine ew_iload_n dX4_closesOne_2 rfl lm1 ?_
  refine ew_aload_n dX4_closesOne_3 rfl lm0 ?_
  refine yw_get (cs := [3, 4, 5]) (v := aI ((s0.2 4).1 1)) dX4_closesOne_4 (by decide) (e_fl.b q264 q265) yf_1 (by decide) rfl ?_
  refine ew_icmp_ge (tgt := 65) dX4_closesOne_7 (by decide) (fun c1 => ?_) (fun c1 => ?_)
  · replace H := H.1 c1
    refine ew_iconst dX4_closesOne_65 (inI_of rfl) ?_
    exact ew_ret (o := some (aI 0)) rfl ⟨_, _, rfl, rfl, H⟩ ⟨dX4_closesOne_66, .boolean, rfl, Or.inr (Or.inl rfl), by decide⟩
  · replace H := H.2 c1
    refine ew_iload_n dX4_closesOne_10 rfl lm1 ?_
    refine ew_iconst dX4_closesOne_11 (inI_of rfl) ?_
    obtain ⟨v2, H⟩ := H
    refine ew_iadd dX4_closesOne_12 v2 ?_
    refine ew_istore_n dX4_closesOne_13 rfl (by decide) (lv' := [(2, aI (x1 + 1)), (0, aR (some (sI V 4 99))), (1, aI x1)]) rfl ?_
    refine ew_sub (List.forall_mem_cons.mpr ⟨lm1, (List.forall_mem_cons.mpr ⟨lm2, (List.forall_mem_cons.mpr ⟨lm0, e_nm⟩)⟩)⟩) ?_
    exact ew_sub (List.forall_mem_cons.mpr ⟨lm0, (List.forall_mem_cons.mpr ⟨lm1, (List.forall_mem_cons.mpr ⟨lm2, e_nm⟩)⟩)⟩) H
set_option maxHeartbeats 4000000 in
theorem T_X4_closesOne_N_14 (d : Nat) (V : XV) (g : AH) (ht : ∀ q, g (tI V 4 q) = none) (K : Int → XS → Prop) (x1 : Int) (x2 : Int) (kc ks : Nat) (s0 : XS) (H : B_X4_closesOne_N_14 (W_X4_closesOne_N_2 d V g K) (W_X4_closesOne_N_14 d V g K) K x1 x2 kc ks s0) : EW mm_X4_closesOne (d + 43) kc ks (xQi V g K) 14 [(0, aR (some (sI V 4 99))), (1, aI x1), (2, aI x2)] [] (xh V s0 g) := by
  refine ew_iload_n dX4_closesOne_14 rfl lm2 ?_
  refine ew_aload_n dX4_closesOne_15 rfl lm0 ?_
  refine yw_get (cs := [3, 4, 5]) (v := aI ((s0.2 4).1 1)) dX4_closesOne_16 (by decide) (e_fl.b q264 q265) yf_1 (by decide) rfl ?_
  refine ew_icmp_ge (tgt := 59) dX4_closesOne_19 (by decide) (fun c1 => ?_) (fun c1 => ?_)
  · replace H := H.1 c1
    obtain ⟨v2, H⟩ := H
    refine ew_iinc dX4_closesOne_59 lm1 (by decide) v2 (lv' := [(1, aI (x1 + 1)), (0, aR (some (sI V 4 99))), (2, aI x2)]) rfl ?_
    refine ew_sub (List.forall_mem_cons.mpr ⟨lm1, (List.forall_mem_cons.mpr ⟨lm0, (List.forall_mem_cons.mpr ⟨lm2, e_nm⟩)⟩)⟩) ?_
    refine ew_goto (tgt := 2) dX4_closesOne_62 (by decide) ?_
    exact ew_sub (List.forall_mem_cons.mpr ⟨lm0, (List.forall_mem_cons.mpr ⟨lm1, e_nm⟩)⟩) H
  · replace H := H.2 c1
    refine ew_aload_n dX4_closesOne_22 rfl lm0 ?_
    refine ew_iload_n dX4_closesOne_23 rfl lm1 ?_
    refine ew_iload_n dX4_closesOne_24 rfl lm2 ?_
    refine ew_callY (x := ⟨"ReasonCloser$Closed", "areOne", "(II)Z"⟩) (d := d + 42) (as := [aI x1, aI x2]) rfl dX4_closesOne_25 me_X3_areOne rfl (by decide) rfl q976 q977 (ysel5_4 (P := fun c => Cond.selects c _ _ ∈ lw_all) q980) q981 (Or.inl q978) (by decide) (Nat.le_of_ble_eq_true rfl) (Nat.zero_le _) (Nat.zero_le _) (S_X3_areOne_G (d := d + 42) (by decide) H) (fun o h' hq5 _ => ?_) (fun E i h' q _ => (cQ_no q).elim)
    obtain ⟨r3, E6, rfl, H⟩ := hq5
    cases E6
    refine ew_if_ne (tgt := 53) dX4_closesOne_28 (by decide) (fun c7 => ?_) (fun c7 => ?_)
    · replace H := H.2 c7
      obtain ⟨v8, H⟩ := H
      refine ew_iinc dX4_closesOne_53 lm2 (by decide) v8 (lv' := [(2, aI (x2 + 1)), (0, aR (some (sI V 4 99))), (1, aI x1)]) rfl ?_
      refine ew_sub (List.forall_mem_cons.mpr ⟨lm1, (List.forall_mem_cons.mpr ⟨lm2, (List.forall_mem_cons.mpr ⟨lm0, e_nm⟩)⟩)⟩) ?_
      refine ew_goto (tgt := 14) dX4_closesOne_56 (by decide) ?_
      exact ew_sub (List.forall_mem_cons.mpr ⟨lm0, (List.forall_mem_cons.mpr ⟨lm1, (List.forall_mem_cons.mpr ⟨lm2, e_nm⟩)⟩)⟩) H
    · replace H := H.1 c7
      refine ew_aload_n dX4_closesOne_31 rfl lm0 ?_
      refine ew_iload_n dX4_closesOne_32 rfl lm1 ?_
      refine ew_iload_n dX4_closesOne_33 rfl lm2 ?_
      refine ew_callY (x := ⟨"ReasonCloser$Closed", "follow", "(II)Z"⟩) (d := d + 42) (as := [aI x1, aI x2]) rfl dX4_closesOne_34 me_X4_follow rfl (by decide) rfl q983 q986 (ysel5_4 (P := fun c => Cond.selects c _ _ ∈ lw_all) q987) q984 (Or.inr ⟨q984, _, _, _, q988⟩) (by decide) (Nat.le_of_ble_eq_true rfl) (Nat.zero_le _) (Nat.zero_le _) (S_X4_follow_N (d := d + 39) H) (fun o h' hq11 _ => ?_) (fun E i h' q _ => (cQ_no q).elim)
      obtain ⟨r9, E12, rfl, H⟩ := hq11
      cases E12
      refine ew_if_ne (tgt := 43) dX4_closesOne_37 (by decide) (fun c13 => ?_) (fun c13 => ?_)
      · replace H := H.2 c13
        refine ew_aload_n dX4_closesOne_43 rfl lm0 ?_
        refine ew_iload_n dX4_closesOne_44 rfl lm1 ?_
        refine ew_iload_n dX4_closesOne_45 rfl lm2 ?_
        refine ew_bipush dX4_closesOne_46 (inI_of rfl) (by decide) ?_
        obtain ⟨mc18c, mc18s, hm19c, hm19s, H⟩ := H
        refine ew_callY (x := ⟨"ReasonCloser$Closed", "joins", "(III)V"⟩) (d := d + 42) (as := [aI x1, aI x2, aI (-2)]) rfl dX4_closesOne_48 me_X5_joins rfl (by decide) rfl q992 q995 (ysel5_4 (P := fun c => Cond.selects c _ _ ∈ lw_all) q996) q997 (Or.inr ⟨q993, _, _, _, q1009⟩) (by decide) (Nat.le_of_ble_eq_true rfl) hm19c hm19s (S_X5_joins_N (d := d + 0) ht H) (fun o h' hq16 _ => ?_) (fun E i h' q _ => (xQv_no q).elim)
        obtain ⟨s15, E17, rfl, H⟩ := hq16
        cases E17
        refine ew_iconst dX4_closesOne_51 (inI_of rfl) ?_
        exact ew_ret (o := some (aI 1)) rfl ⟨_, _, rfl, rfl, H⟩ ⟨dX4_closesOne_52, .boolean, rfl, Or.inr (Or.inl rfl), by decide⟩
      · replace H := H.1 c13
        refine ew_goto (tgt := 53) dX4_closesOne_40 (by decide) ?_
        obtain ⟨v20, H⟩ := H
        refine ew_iinc dX4_closesOne_53 lm2 (by decide) v20 (lv' := [(2, aI (x2 + 1)), (0, aR (some (sI V 4 99))), (1, aI x1)]) rfl ?_
        refine ew_sub (List.forall_mem_cons.mpr ⟨lm1, (List.forall_mem_cons.mpr ⟨lm2, (List.forall_mem_cons.mpr ⟨lm0, e_nm⟩)⟩)⟩) ?_
        refine ew_goto (tgt := 14) dX4_closesOne_56 (by decide) ?_
        exact ew_sub (List.forall_mem_cons.mpr ⟨lm0, (List.forall_mem_cons.mpr ⟨lm1, (List.forall_mem_cons.mpr ⟨lm2, e_nm⟩)⟩)⟩) H
set_option maxHeartbeats 4000000 in
theorem T_X4_closesOne_N_E (d : Nat) (V : XV) (g : AH) (ht : ∀ q, g (tI V 4 q) = none) (K : Int → XS → Prop) (kc ks : Nat) (s0 : XS) (H : B_X4_closesOne_N_E (W_X4_closesOne_N_2 d V g K) (W_X4_closesOne_N_14 d V g K) K kc ks s0) : EW mm_X4_closesOne (d + 43) kc ks (xQi V g K) 0 [(0, aR (some (sI V 4 99)))] [] (xh V s0 g) := by
  refine ew_iconst dX4_closesOne_0 (inI_of rfl) ?_
  refine ew_istore_n dX4_closesOne_1 rfl (by decide) (lv' := [(1, aI 0), (0, aR (some (sI V 4 99)))]) rfl ?_
  refine ew_sub (List.forall_mem_cons.mpr ⟨lm1, (List.forall_mem_cons.mpr ⟨lm0, e_nm⟩)⟩) ?_
  exact ew_sub (List.forall_mem_cons.mpr ⟨lm0, (List.forall_mem_cons.mpr ⟨lm1, e_nm⟩)⟩) H
def C_X4_closesOne_N (kc ks : Nat) (s0 : XS) (K : Int → XS → Prop) : Prop := ∀ (X2 : Int → Nat → Nat → XS → Prop) (X14 : Int → Int → Nat → Nat → XS → Prop), (∀ (x1 : Int) (kc ks : Nat) (s0 : XS), B_X4_closesOne_N_2 X2 X14 K x1 kc ks s0 → X2 x1 kc ks s0) → (∀ (x1 : Int) (x2 : Int) (kc ks : Nat) (s0 : XS), B_X4_closesOne_N_14 X2 X14 K x1 x2 kc ks s0 → X14 x1 x2 kc ks s0) → B_X4_closesOne_N_E X2 X14 K kc ks s0
theorem S_X4_closesOne_N {d : Nat} {V : XV} {g : AH} {K : Int → XS → Prop} {kc ks : Nat} {s0 : XS} (ht : ∀ q, g (tI V 4 q) = none) (H : C_X4_closesOne_N kc ks s0 K) : Sp mm_X4_closesOne (d + 43) kc ks [aR (some (sI V 4 99))] (xh V s0 g) (xQi V g K) :=
  ew_sp rfl (Nat.le_of_ble_eq_true rfl) (T_X4_closesOne_N_E d V g ht K kc ks s0 (H _ _ (fun x1 kc ks s0 H => T_X4_closesOne_N_2 d V g ht K x1 kc ks s0 H) (fun x1 x2 kc ks s0 H => T_X4_closesOne_N_14 d V g ht K x1 x2 kc ks s0 H)))
def B_X4_closes_N_2 (X2 : Int → Nat → Nat → XS → Prop) (K : XS → Prop) (x1 : Int) (kc ks : Nat) (s0 : XS) : Prop :=
  ((x1 = 0 → K s0) ∧ (¬ x1 = 0 → (∃ mc6c mc6s, mc6c ≤ kc ∧ mc6s ≤ ks ∧ C_X4_closesOne_N mc6c mc6s s0 (fun r2 s3 => X2 r2 (kc - mc6c) (ks - mc6s) s3))))
def B_X4_closes_N_E (X2 : Int → Nat → Nat → XS → Prop) (K : XS → Prop) (kc ks : Nat) (s0 : XS) : Prop :=
  X2 1 kc ks s0
def W_X4_closes_N_2 (d : Nat) (V : XV) (g : AH) (K : XS → Prop) (x1 : Int) (kc ks : Nat) (s0 : XS) : Prop := EW mm_X4_closes (d + 44) kc ks (xQv V g K) 2 [(0, aR (some (sI V 4 99))), (1, aI x1)] [] (xh V s0 g)
set_option maxHeartbeats 4000000 in
theorem T_X4_closes_N_2 (d : Nat) (V : XV) (g : AH) (ht : ∀ q, g (tI V 4 q) = none) (K : XS → Prop) (x1 : Int) (kc ks : Nat) (s0 : XS) (H : B_X4_closes_N_2 (W_X4_closes_N_2 d V g K) K x1 kc ks s0) : EW mm_X4_closes (d + 44) kc ks (xQv V g K) 2 [(0, aR (some (sI V 4 99))), (1, aI x1)] [] (xh V s0 g) := by
  refine ew_iload_n dX4_closes_2 rfl lm1 ?_
  refine ew_if_eq (tgt := 14) dX4_closes_3 (by decide) (fun c1 => ?_) (fun c1 => ?_)
  · replace H := H.1 c1
    exact ew_ret (o := none) rfl ⟨_, rfl, rfl, H⟩ ⟨rfl, dX4_closes_14⟩
  · replace H := H.2 c1
    refine ew_aload_n dX4_closes_6 rfl lm0 ?_
    obtain ⟨mc6c, mc6s, hm7c, hm7s, H⟩ := H
    refine ew_callYP (d := d + 43) (as := []) rfl dX4_closes_7 me_X4_closesOne rfl (by decide) q972 q974 q305 q973 (Nat.le_of_ble_eq_true rfl) hm7c hm7s (S_X4_closesOne_N (d := d + 0) ht H) (fun o h' hq4 _ => ?_) (fun E i h' q _ => (xQi_no q).elim)
    obtain ⟨r2, s3, E5, rfl, H⟩ := hq4
    cases E5
    refine ew_istore_n dX4_closes_10 rfl (by decide) (lv' := [(1, aI r2), (0, aR (some (sI V 4 99)))]) rfl ?_
    refine ew_sub (List.forall_mem_cons.mpr ⟨lm1, (List.forall_mem_cons.mpr ⟨lm0, e_nm⟩)⟩) ?_
    refine ew_goto (tgt := 2) dX4_closes_11 (by decide) ?_
    exact ew_sub (List.forall_mem_cons.mpr ⟨lm0, (List.forall_mem_cons.mpr ⟨lm1, e_nm⟩)⟩) H
set_option maxHeartbeats 4000000 in
theorem T_X4_closes_N_E (d : Nat) (V : XV) (g : AH) (ht : ∀ q, g (tI V 4 q) = none) (K : XS → Prop) (kc ks : Nat) (s0 : XS) (H : B_X4_closes_N_E (W_X4_closes_N_2 d V g K) K kc ks s0) : EW mm_X4_closes (d + 44) kc ks (xQv V g K) 0 [(0, aR (some (sI V 4 99)))] [] (xh V s0 g) := by
  refine ew_iconst dX4_closes_0 (inI_of rfl) ?_
  refine ew_istore_n dX4_closes_1 rfl (by decide) (lv' := [(1, aI 1), (0, aR (some (sI V 4 99)))]) rfl ?_
  refine ew_sub (List.forall_mem_cons.mpr ⟨lm1, (List.forall_mem_cons.mpr ⟨lm0, e_nm⟩)⟩) ?_
  exact ew_sub (List.forall_mem_cons.mpr ⟨lm0, (List.forall_mem_cons.mpr ⟨lm1, e_nm⟩)⟩) H
def C_X4_closes_N (kc ks : Nat) (s0 : XS) (K : XS → Prop) : Prop := ∀ (X2 : Int → Nat → Nat → XS → Prop), (∀ (x1 : Int) (kc ks : Nat) (s0 : XS), B_X4_closes_N_2 X2 K x1 kc ks s0 → X2 x1 kc ks s0) → B_X4_closes_N_E X2 K kc ks s0
theorem S_X4_closes_N {d : Nat} {V : XV} {g : AH} {K : XS → Prop} {kc ks : Nat} {s0 : XS} (ht : ∀ q, g (tI V 4 q) = none) (H : C_X4_closes_N kc ks s0 K) : Sp mm_X4_closes (d + 44) kc ks [aR (some (sI V 4 99))] (xh V s0 g) (xQv V g K) :=
  ew_sp rfl (Nat.le_of_ble_eq_true rfl) (T_X4_closes_N_E d V g ht K kc ks s0 (H _ (fun x1 kc ks s0 H => T_X4_closes_N_2 d V g ht K x1 kc ks s0 H)))
def B_X4_comes_N_E (K : XS → Prop) (kc ks : Nat) (s0 : XS) : Prop :=
  (∃ mc5c mc5s, mc5c ≤ kc ∧ mc5s ≤ ks ∧ C_X3_puts_N mc5c mc5s 0 0 ((s0.2 4).1 1) ((s0.2 4).1 1) s0 (fun s2 => ((inI (((s2.2 4).1 1) + 1)) ∧ (∀ s8 : XS, s8 = ys s2 4 1 (((s2.2 4).1 1) + 1) → (∃ mc15c mc15s, mc15c ≤ (kc - mc5c) ∧ mc15s ≤ (ks - mc5s) ∧ C_X4_closes_N mc15c mc15s s8 (fun s12 => K s12))))))
set_option maxHeartbeats 4000000 in
theorem T_X4_comes_N_E (d : Nat) (V : XV) (g : AH) (ht : ∀ q, g (tI V 4 q) = none) (K : XS → Prop) (kc ks : Nat) (s0 : XS) (H : B_X4_comes_N_E K kc ks s0) : EW mm_X4_comes (d + 45) kc ks (xQv V g K) 0 [(0, aR (some (sI V 4 99)))] [] (xh V s0 g) := by
  refine ew_aload_n dX4_comes_0 rfl lm0 ?_
  refine ew_aload_n dX4_comes_1 rfl lm0 ?_
  refine yw_get (cs := [3, 4, 5]) (v := aR (some (sI V 4 0))) dX4_comes_2 (by decide) (e_fl.b q259 q260) yf_0 (by decide) rfl ?_
  refine ew_iconst dX4_comes_5 (inI_of rfl) ?_
  refine ew_aload_n dX4_comes_6 rfl lm0 ?_
  refine yw_get (cs := [3, 4, 5]) (v := aI ((s0.2 4).1 1)) dX4_comes_7 (by decide) (e_fl.b q264 q265) yf_1 (by decide) rfl ?_
  refine ew_aload_n dX4_comes_10 rfl lm0 ?_
  refine yw_get (cs := [3, 4, 5]) (v := aI ((s0.2 4).1 1)) dX4_comes_11 (by decide) (e_fl.b q264 q265) yf_1 (by decide) rfl ?_
  obtain ⟨mc5c, mc5s, hm6c, hm6s, H⟩ := H
  refine ew_callY (x := ⟨"ReasonCloser$Closed", "puts", "([IIII)V"⟩) (d := d + 44) (as := [aR (some (sI V 4 0)), aI 0, aI ((s0.2 4).1 1), aI ((s0.2 4).1 1)]) rfl dX4_comes_14 me_X3_puts rfl (by decide) rfl q958 q959 (ysel5_4 (P := fun c => Cond.selects c _ _ ∈ lw_all) q962) q963 (Or.inl q960) (by decide) (Nat.le_of_ble_eq_true rfl) hm6c hm6s (S_X3_puts_N (d := d + 43) ht H) (fun o h' hq3 _ => ?_) (fun E i h' q _ => (xQv_no q).elim)
  obtain ⟨s2, E4, rfl, H⟩ := hq3
  cases E4
  refine ew_aload_n dX4_comes_17 rfl lm0 ?_
  refine ew_dup dX4_comes_18 rfl ?_
  refine yw_get (cs := [3, 4, 5]) (v := aI ((s2.2 4).1 1)) dX4_comes_19 (by decide) (e_fl.b q264 q265) yf_1 (by decide) rfl ?_
  refine ew_iconst dX4_comes_22 (inI_of rfl) ?_
  obtain ⟨v7, H⟩ := H
  refine ew_iadd dX4_comes_23 v7 ?_
  refine yw_put (cs := [3, 4, 5]) dX4_comes_24 (by decide) (e_fl.b q264 q265) yf_1 (by decide) rfl (by decide +kernel) (fun s8 e9 => ?_)
  replace H := H s8 e9
  refine ew_aload_n dX4_comes_27 rfl lm0 ?_
  obtain ⟨mc15c, mc15s, hm16c, hm16s, H⟩ := H
  refine ew_callY (x := ⟨"ReasonCloser$Closed", "closes", "()V"⟩) (d := d + 44) (as := []) rfl dX4_comes_28 me_X4_closes rfl (by decide) rfl q966 q969 (ysel5_4 (P := fun c => Cond.selects c _ _ ∈ lw_all) q970) q967 (Or.inr ⟨q967, _, _, _, q971⟩) (by decide) (Nat.le_of_ble_eq_true rfl) hm16c hm16s (S_X4_closes_N (d := d + 0) ht H) (fun o h' hq13 _ => ?_) (fun E i h' q _ => (xQv_no q).elim)
  obtain ⟨s12, E14, rfl, H⟩ := hq13
  cases E14
  exact ew_ret (o := none) rfl ⟨_, rfl, rfl, H⟩ ⟨rfl, dX4_comes_31⟩
def C_X4_comes_N (kc ks : Nat) (s0 : XS) (K : XS → Prop) : Prop := B_X4_comes_N_E K kc ks s0
theorem S_X4_comes_N {d : Nat} {V : XV} {g : AH} {K : XS → Prop} {kc ks : Nat} {s0 : XS} (ht : ∀ q, g (tI V 4 q) = none) (H : C_X4_comes_N kc ks s0 K) : Sp mm_X4_comes (d + 45) kc ks [aR (some (sI V 4 99))] (xh V s0 g) (xQv V g K) :=
  ew_sp rfl (Nat.le_of_ble_eq_true rfl) (T_X4_comes_N_E d V g ht K kc ks s0 (H ))
def B_X4_same_N_E (K : XS → Prop) (a : Int) (b : Int) (c : Int) (kc ks : Nat) (s0 : XS) : Prop :=
  (C_X3_areOne_G a b 4 s0 (fun r1 => ((r1 = 0 → (∃ mc10c mc10s, mc10c ≤ kc ∧ mc10s ≤ ks ∧ C_X5_joins_N mc10c mc10s a b c s0 (fun s7 => (∃ mc16c mc16s, mc16c ≤ (kc - mc10c) ∧ mc16s ≤ (ks - mc10s) ∧ C_X4_closes_N mc16c mc16s s7 (fun s13 => K s13))))) ∧ (¬ r1 = 0 → K s0))))
set_option maxHeartbeats 4000000 in
theorem T_X4_same_N_E (d : Nat) (V : XV) (g : AH) (ht : ∀ q, g (tI V 4 q) = none) (K : XS → Prop) (a : Int) (b : Int) (c : Int) (kc ks : Nat) (s0 : XS) (H : B_X4_same_N_E K a b c kc ks s0) : EW mm_X4_same (d + 45) kc ks (xQv V g K) 0 [(0, aR (some (sI V 4 99))), (1, aI a), (2, aI b), (3, aI c)] [] (xh V s0 g) := by
  refine ew_aload_n dX4_same_0 rfl lm0 ?_
  refine ew_iload_n dX4_same_1 rfl lm1 ?_
  refine ew_iload_n dX4_same_2 rfl lm2 ?_
  refine ew_callY (x := ⟨"ReasonCloser$Closed", "areOne", "(II)Z"⟩) (d := d + 44) (as := [aI a, aI b]) rfl dX4_same_3 me_X3_areOne rfl (by decide) rfl q976 q977 (ysel5_4 (P := fun c => Cond.selects c _ _ ∈ lw_all) q980) q981 (Or.inl q978) (by decide) (Nat.le_of_ble_eq_true rfl) (Nat.zero_le _) (Nat.zero_le _) (S_X3_areOne_G (d := d + 44) (by decide) H) (fun o h' hq3 _ => ?_) (fun E i h' q _ => (cQ_no q).elim)
  obtain ⟨r1, E4, rfl, H⟩ := hq3
  cases E4
  refine ew_if_eq (tgt := 10) dX4_same_6 (by decide) (fun c5 => ?_) (fun c5 => ?_)
  · replace H := H.1 c5
    refine ew_aload_n dX4_same_10 rfl lm0 ?_
    refine ew_iload_n dX4_same_11 rfl lm1 ?_
    refine ew_iload_n dX4_same_12 rfl lm2 ?_
    refine ew_iload_n dX4_same_13 rfl lm3 ?_
    obtain ⟨mc10c, mc10s, hm11c, hm11s, H⟩ := H
    refine ew_callY (x := ⟨"ReasonCloser$Closed", "joins", "(III)V"⟩) (d := d + 44) (as := [aI a, aI b, aI c]) rfl dX4_same_14 me_X5_joins rfl (by decide) rfl q992 q995 (ysel5_4 (P := fun c => Cond.selects c _ _ ∈ lw_all) q996) q997 (Or.inr ⟨q993, _, _, _, q1009⟩) (by decide) (Nat.le_of_ble_eq_true rfl) hm11c hm11s (S_X5_joins_N (d := d + 2) ht H) (fun o h' hq8 _ => ?_) (fun E i h' q _ => (xQv_no q).elim)
    obtain ⟨s7, E9, rfl, H⟩ := hq8
    cases E9
    refine ew_aload_n dX4_same_17 rfl lm0 ?_
    obtain ⟨mc16c, mc16s, hm17c, hm17s, H⟩ := H
    refine ew_callY (x := ⟨"ReasonCloser$Closed", "closes", "()V"⟩) (d := d + 44) (as := []) rfl dX4_same_18 me_X4_closes rfl (by decide) rfl q966 q969 (ysel5_4 (P := fun c => Cond.selects c _ _ ∈ lw_all) q970) q967 (Or.inr ⟨q967, _, _, _, q971⟩) (by decide) (Nat.le_of_ble_eq_true rfl) hm17c hm17s (S_X4_closes_N (d := d + 0) ht H) (fun o h' hq14 _ => ?_) (fun E i h' q _ => (xQv_no q).elim)
    obtain ⟨s13, E15, rfl, H⟩ := hq14
    cases E15
    exact ew_ret (o := none) rfl ⟨_, rfl, rfl, H⟩ ⟨rfl, dX4_same_21⟩
  · replace H := H.2 c5
    exact ew_ret (o := none) rfl ⟨_, rfl, rfl, H⟩ ⟨rfl, dX4_same_9⟩
def C_X4_same_N (kc ks : Nat) (a : Int) (b : Int) (c : Int) (s0 : XS) (K : XS → Prop) : Prop := B_X4_same_N_E K a b c kc ks s0
theorem S_X4_same_N {d : Nat} {V : XV} {g : AH} {K : XS → Prop} {a : Int} {b : Int} {c : Int} {kc ks : Nat} {s0 : XS} (ht : ∀ q, g (tI V 4 q) = none) (H : C_X4_same_N kc ks a b c s0 K) : Sp mm_X4_same (d + 45) kc ks [aR (some (sI V 4 99)), aI a, aI b, aI c] (xh V s0 g) (xQv V g K) :=
  ew_sp rfl (Nat.le_of_ble_eq_true rfl) (T_X4_same_N_E d V g ht K a b c kc ks s0 (H ))
abbrev mm_X3_goesBack : EM := (yX3_goesBack, cX3_goesBack, 2, (Option.none : Option Jvm.ClassFile.FieldType), [])
theorem me_X3_goesBack : e_mth mm_X3_goesBack 1 := ⟨rfl, q1318, q113, by decide +kernel, by decide⟩
def B_X3_goesBack_N_0 (X0 : Int → XS → Prop) (K : XS → Prop) (x1 : Int) (s0 : XS) : Prop :=
  ((((s0.2 4).1 3) ≤ x1 → K s0) ∧ (¬ ((s0.2 4).1 3) ≤ x1 → ((inI (((s0.2 4).1 3) - 3)) ∧ (∀ s3 : XS, s3 = ys s0 4 3 (((s0.2 4).1 3) - 3) → ((0 ≤ ((s3.2 4).1 3) ∧ ((s3.2 4).1 3) < (xtl (xq s3) : Int)) ∧ (C_X5_row_N ((s3.2 4).2 (100 + xq s3) ((s3.2 4).1 3)) s3 (fun r7 => ((inI (((s3.2 4).1 3) + 1)) ∧ ((0 ≤ (((s3.2 4).1 3) + 1) ∧ (((s3.2 4).1 3) + 1) < (xtl (xq s3) : Int)) ∧ ((inI (((s3.2 4).1 3) + 2)) ∧ ((0 ≤ (((s3.2 4).1 3) + 2) ∧ (((s3.2 4).1 3) + 2) < (xtl (xq s3) : Int)) ∧ ((((r7 = 0 ∨ r7 = 5 ∨ r7 = 6) ∧ 0 ≤ ((s3.2 4).2 (100 + xq s3) (((s3.2 4).1 3) + 1)) ∧ ((s3.2 4).2 (100 + xq s3) (((s3.2 4).1 3) + 1)) < 24)) ∧ ∀ s15 : XS, s15 = ya s3 4 r7 ((s3.2 4).2 (100 + xq s3) (((s3.2 4).1 3) + 1)) ((s3.2 4).2 (100 + xq s3) (((s3.2 4).1 3) + 2)) → X0 x1 s15))))))))))))
def B_X3_goesBack_N_E (X0 : Int → XS → Prop) (K : XS → Prop) (a : Int) (s0 : XS) : Prop :=
  ((((s0.2 4).1 3) ≤ a → K s0) ∧ (¬ ((s0.2 4).1 3) ≤ a → ((inI (((s0.2 4).1 3) - 3)) ∧ (∀ s3 : XS, s3 = ys s0 4 3 (((s0.2 4).1 3) - 3) → ((0 ≤ ((s3.2 4).1 3) ∧ ((s3.2 4).1 3) < (xtl (xq s3) : Int)) ∧ (C_X5_row_N ((s3.2 4).2 (100 + xq s3) ((s3.2 4).1 3)) s3 (fun r7 => ((inI (((s3.2 4).1 3) + 1)) ∧ ((0 ≤ (((s3.2 4).1 3) + 1) ∧ (((s3.2 4).1 3) + 1) < (xtl (xq s3) : Int)) ∧ ((inI (((s3.2 4).1 3) + 2)) ∧ ((0 ≤ (((s3.2 4).1 3) + 2) ∧ (((s3.2 4).1 3) + 2) < (xtl (xq s3) : Int)) ∧ ((((r7 = 0 ∨ r7 = 5 ∨ r7 = 6) ∧ 0 ≤ ((s3.2 4).2 (100 + xq s3) (((s3.2 4).1 3) + 1)) ∧ ((s3.2 4).2 (100 + xq s3) (((s3.2 4).1 3) + 1)) < 24)) ∧ ∀ s15 : XS, s15 = ya s3 4 r7 ((s3.2 4).2 (100 + xq s3) (((s3.2 4).1 3) + 1)) ((s3.2 4).2 (100 + xq s3) (((s3.2 4).1 3) + 2)) → X0 a s15))))))))))))
def W_X3_goesBack_N_0 (d : Nat) (V : XV) (g : AH) (K : XS → Prop) (x1 : Int) (s0 : XS) : Prop := EW mm_X3_goesBack (d + 1) 0 0 (xQv V g K) 0 [(0, aR (some (sI V 4 99))), (1, aI x1)] [] (xh V s0 g)
set_option maxHeartbeats 4000000 in
theorem T_X3_goesBack_N_0 (d : Nat) (V : XV) (g : AH) (K : XS → Prop) (x1 : Int) (s0 : XS) (H : B_X3_goesBack_N_0 (W_X3_goesBack_N_0 d V g K) K x1 s0) : EW mm_X3_goesBack (d + 1) 0 0 (xQv V g K) 0 [(0, aR (some (sI V 4 99))), (1, aI x1)] [] (xh V s0 g) := by
  refine ew_aload_n dX3_goesBack_0 rfl lm0 ?_
  refine yw_get (cs := [3, 4, 5]) (v := aI ((s0.2 4).1 3)) dX3_goesBack_1 (by decide) (e_fl.a q272) yf_3 (by decide) rfl ?_
  refine ew_iload_n dX3_goesBack_4 rfl lm1 ?_
  refine ew_icmp_le (tgt := 57) dX3_goesBack_5 (by decide) (fun c1 => ?_) (fun c1 => ?_)
  · replace H := H.1 c1
    exact ew_ret (o := none) rfl ⟨_, rfl, rfl, H⟩ ⟨rfl, dX3_goesBack_57⟩
  · replace H := H.2 c1
    refine ew_aload_n dX3_goesBack_8 rfl lm0 ?_
    refine ew_dup dX3_goesBack_9 rfl ?_
    refine yw_get (cs := [3, 4, 5]) (v := aI ((s0.2 4).1 3)) dX3_goesBack_10 (by decide) (e_fl.a q272) yf_3 (by decide) rfl ?_
    refine ew_iconst dX3_goesBack_13 (inI_of rfl) ?_
    obtain ⟨v2, H⟩ := H
    refine ew_isub dX3_goesBack_14 v2 ?_
    refine yw_put (cs := [3, 4, 5]) dX3_goesBack_15 (by decide) (e_fl.a q272) yf_3 (by decide) rfl (by decide +kernel) (fun s3 e4 => ?_)
    replace H := H s3 e4
    refine ew_aload_n dX3_goesBack_18 rfl lm0 ?_
    refine ew_aload_n dX3_goesBack_19 rfl lm0 ?_
    refine yw_get (cs := [3, 4, 5]) (v := aR (some (tI V 4 (xq s3)))) dX3_goesBack_20 (by decide) (e_fl.a q271) yf_2 (by decide) rfl ?_
    refine ew_aload_n dX3_goesBack_23 rfl lm0 ?_
    refine yw_get (cs := [3, 4, 5]) (v := aI ((s3.2 4).1 3)) dX3_goesBack_24 (by decide) (e_fl.a q272) yf_3 (by decide) rfl ?_
    obtain ⟨v6, H⟩ := H
    refine tw_iald dX3_goesBack_27 v6.1 v6.2 ?_
    refine ew_callY (x := ⟨"ReasonCloser$Groups", "row", "(I)[I"⟩) (d := d + 0) (as := [aI ((s3.2 4).2 (100 + xq s3) ((s3.2 4).1 3))]) rfl dX3_goesBack_28 me_X5_row rfl (by decide) rfl q1319 q1322 (ysel5_4 (P := fun c => Cond.selects c _ _ ∈ lw_all) q1324) q1325 (Or.inr ⟨q1320, _, _, _, q1327⟩) (by decide) (Nat.le_of_ble_eq_true rfl) (Nat.zero_le _) (Nat.zero_le _) (S_X5_row_N (d := d + 0) H) (fun o h' hq9 _ => ?_) (fun E i h' q _ => (cQa_no q).elim)
    obtain ⟨r7, E10, rfl, H⟩ := hq9
    cases E10
    refine ew_aload_n dX3_goesBack_31 rfl lm0 ?_
    refine yw_get (cs := [3, 4, 5]) (v := aR (some (tI V 4 (xq s3)))) dX3_goesBack_32 (by decide) (e_fl.a q271) yf_2 (by decide) rfl ?_
    refine ew_aload_n dX3_goesBack_35 rfl lm0 ?_
    refine yw_get (cs := [3, 4, 5]) (v := aI ((s3.2 4).1 3)) dX3_goesBack_36 (by decide) (e_fl.a q272) yf_3 (by decide) rfl ?_
    refine ew_iconst dX3_goesBack_39 (inI_of rfl) ?_
    obtain ⟨v11, H⟩ := H
    refine ew_iadd dX3_goesBack_40 v11 ?_
    obtain ⟨v12, H⟩ := H
    refine tw_iald dX3_goesBack_41 v12.1 v12.2 ?_
    refine ew_aload_n dX3_goesBack_42 rfl lm0 ?_
    refine yw_get (cs := [3, 4, 5]) (v := aR (some (tI V 4 (xq s3)))) dX3_goesBack_43 (by decide) (e_fl.a q271) yf_2 (by decide) rfl ?_
    refine ew_aload_n dX3_goesBack_46 rfl lm0 ?_
    refine yw_get (cs := [3, 4, 5]) (v := aI ((s3.2 4).1 3)) dX3_goesBack_47 (by decide) (e_fl.a q272) yf_3 (by decide) rfl ?_
    refine ew_iconst dX3_goesBack_50 (inI_of rfl) ?_
    obtain ⟨v13, H⟩ := H
    refine ew_iadd dX3_goesBack_51 v13 ?_
    obtain ⟨v14, H⟩ := H
    refine tw_iald dX3_goesBack_52 v14.1 v14.2 ?_
    obtain ⟨v17, H⟩ := H
    refine yw_iast dX3_goesBack_53 (by decide) (row_100 v17.1) (sC_rowN v17.1) (sC_rowN v17.1) v17.2.1 v17.2.2 (fun s15 e16 => ?_)
    replace H := H s15 e16
    refine ew_goto (tgt := 0) dX3_goesBack_54 (by decide) ?_
    exact ew_room (Nat.le_refl _) (Nat.zero_le _) (Nat.zero_le _) (ew_sub (List.forall_mem_cons.mpr ⟨lm0, (List.forall_mem_cons.mpr ⟨lm1, e_nm⟩)⟩) H)
set_option maxHeartbeats 4000000 in
theorem T_X3_goesBack_N_E (d : Nat) (V : XV) (g : AH) (K : XS → Prop) (a : Int) (s0 : XS) (H : B_X3_goesBack_N_E (W_X3_goesBack_N_0 d V g K) K a s0) : EW mm_X3_goesBack (d + 1) 0 0 (xQv V g K) 0 [(0, aR (some (sI V 4 99))), (1, aI a)] [] (xh V s0 g) := by
  refine ew_aload_n dX3_goesBack_0 rfl lm0 ?_
  refine yw_get (cs := [3, 4, 5]) (v := aI ((s0.2 4).1 3)) dX3_goesBack_1 (by decide) (e_fl.a q272) yf_3 (by decide) rfl ?_
  refine ew_iload_n dX3_goesBack_4 rfl lm1 ?_
  refine ew_icmp_le (tgt := 57) dX3_goesBack_5 (by decide) (fun c1 => ?_) (fun c1 => ?_)
  · replace H := H.1 c1
    exact ew_ret (o := none) rfl ⟨_, rfl, rfl, H⟩ ⟨rfl, dX3_goesBack_57⟩
  · replace H := H.2 c1
    refine ew_aload_n dX3_goesBack_8 rfl lm0 ?_
    refine ew_dup dX3_goesBack_9 rfl ?_
    refine yw_get (cs := [3, 4, 5]) (v := aI ((s0.2 4).1 3)) dX3_goesBack_10 (by decide) (e_fl.a q272) yf_3 (by decide) rfl ?_
    refine ew_iconst dX3_goesBack_13 (inI_of rfl) ?_
    obtain ⟨v2, H⟩ := H
    refine ew_isub dX3_goesBack_14 v2 ?_
    refine yw_put (cs := [3, 4, 5]) dX3_goesBack_15 (by decide) (e_fl.a q272) yf_3 (by decide) rfl (by decide +kernel) (fun s3 e4 => ?_)
    replace H := H s3 e4
    refine ew_aload_n dX3_goesBack_18 rfl lm0 ?_
    refine ew_aload_n dX3_goesBack_19 rfl lm0 ?_
    refine yw_get (cs := [3, 4, 5]) (v := aR (some (tI V 4 (xq s3)))) dX3_goesBack_20 (by decide) (e_fl.a q271) yf_2 (by decide) rfl ?_
    refine ew_aload_n dX3_goesBack_23 rfl lm0 ?_
    refine yw_get (cs := [3, 4, 5]) (v := aI ((s3.2 4).1 3)) dX3_goesBack_24 (by decide) (e_fl.a q272) yf_3 (by decide) rfl ?_
    obtain ⟨v6, H⟩ := H
    refine tw_iald dX3_goesBack_27 v6.1 v6.2 ?_
    refine ew_callY (x := ⟨"ReasonCloser$Groups", "row", "(I)[I"⟩) (d := d + 0) (as := [aI ((s3.2 4).2 (100 + xq s3) ((s3.2 4).1 3))]) rfl dX3_goesBack_28 me_X5_row rfl (by decide) rfl q1319 q1322 (ysel5_4 (P := fun c => Cond.selects c _ _ ∈ lw_all) q1324) q1325 (Or.inr ⟨q1320, _, _, _, q1327⟩) (by decide) (Nat.le_of_ble_eq_true rfl) (Nat.zero_le _) (Nat.zero_le _) (S_X5_row_N (d := d + 0) H) (fun o h' hq9 _ => ?_) (fun E i h' q _ => (cQa_no q).elim)
    obtain ⟨r7, E10, rfl, H⟩ := hq9
    cases E10
    refine ew_aload_n dX3_goesBack_31 rfl lm0 ?_
    refine yw_get (cs := [3, 4, 5]) (v := aR (some (tI V 4 (xq s3)))) dX3_goesBack_32 (by decide) (e_fl.a q271) yf_2 (by decide) rfl ?_
    refine ew_aload_n dX3_goesBack_35 rfl lm0 ?_
    refine yw_get (cs := [3, 4, 5]) (v := aI ((s3.2 4).1 3)) dX3_goesBack_36 (by decide) (e_fl.a q272) yf_3 (by decide) rfl ?_
    refine ew_iconst dX3_goesBack_39 (inI_of rfl) ?_
    obtain ⟨v11, H⟩ := H
    refine ew_iadd dX3_goesBack_40 v11 ?_
    obtain ⟨v12, H⟩ := H
    refine tw_iald dX3_goesBack_41 v12.1 v12.2 ?_
    refine ew_aload_n dX3_goesBack_42 rfl lm0 ?_
    refine yw_get (cs := [3, 4, 5]) (v := aR (some (tI V 4 (xq s3)))) dX3_goesBack_43 (by decide) (e_fl.a q271) yf_2 (by decide) rfl ?_
    refine ew_aload_n dX3_goesBack_46 rfl lm0 ?_
    refine yw_get (cs := [3, 4, 5]) (v := aI ((s3.2 4).1 3)) dX3_goesBack_47 (by decide) (e_fl.a q272) yf_3 (by decide) rfl ?_
    refine ew_iconst dX3_goesBack_50 (inI_of rfl) ?_
    obtain ⟨v13, H⟩ := H
    refine ew_iadd dX3_goesBack_51 v13 ?_
    obtain ⟨v14, H⟩ := H
    refine tw_iald dX3_goesBack_52 v14.1 v14.2 ?_
    obtain ⟨v17, H⟩ := H
    refine yw_iast dX3_goesBack_53 (by decide) (row_100 v17.1) (sC_rowN v17.1) (sC_rowN v17.1) v17.2.1 v17.2.2 (fun s15 e16 => ?_)
    replace H := H s15 e16
    refine ew_goto (tgt := 0) dX3_goesBack_54 (by decide) ?_
    exact ew_room (Nat.le_refl _) (Nat.zero_le _) (Nat.zero_le _) (ew_sub (List.forall_mem_cons.mpr ⟨lm0, (List.forall_mem_cons.mpr ⟨lm1, e_nm⟩)⟩) H)
def C_X3_goesBack_N (a : Int) (s0 : XS) (K : XS → Prop) : Prop := ∀ (X0 : Int → XS → Prop), (∀ (x1 : Int) (s0 : XS), B_X3_goesBack_N_0 X0 K x1 s0 → X0 x1 s0) → B_X3_goesBack_N_E X0 K a s0
theorem S_X3_goesBack_N {d : Nat} {V : XV} {g : AH} {K : XS → Prop} {a : Int} {s0 : XS} (H : C_X3_goesBack_N a s0 K) : Sp mm_X3_goesBack (d + 1) 0 0 [aR (some (sI V 4 99)), aI a] (xh V s0 g) (xQv V g K) :=
  ew_sp rfl (Nat.le_of_ble_eq_true rfl) (T_X3_goesBack_N_E d V g K a s0 (H _ (fun x1 s0 H => T_X3_goesBack_N_0 d V g K x1 s0 H)))
abbrev mm_X6_common : EM := (yX6_common, cX6_common, 4, (Option.some .int), [])
theorem me_X6_common : e_mth mm_X6_common 2 := ⟨rfl, q1172, q116, by decide +kernel, by decide⟩
def B_X6_common_N_2 (X2 : Int → Int → Int → XS → Prop) (X23 : Int → Int → XS → Prop) (X47 : Int → XS → Prop) (K : Int → XS → Prop) (x1 : Int) (x2 : Int) (x3 : Int) (s0 : XS) : Prop :=
  ((24 ≤ x3 → X23 x2 x1 s0) ∧ (¬ 24 ≤ x3 → (((0 ≤ x3 ∧ x3 < 24)) ∧ ∀ s2 : XS, s2 = ya s0 4 11 x3 0 → (inI (x3 + 1) ∧ X2 x1 x2 (x3 + 1) s2))))
def B_X6_common_N_23 (X2 : Int → Int → Int → XS → Prop) (X23 : Int → Int → XS → Prop) (X47 : Int → XS → Prop) (K : Int → XS → Prop) (x2 : Int) (x3 : Int) (s0 : XS) : Prop :=
  ((x3 = (-1) → X47 x2 s0) ∧ (¬ x3 = (-1) → (((0 ≤ x3 ∧ x3 < 24)) ∧ ∀ s2 : XS, s2 = ya s0 4 11 x3 1 → ((0 ≤ x3 ∧ x3 < 24) ∧ X23 x2 ((s2.2 4).2 5 x3) s2))))
def B_X6_common_N_47 (X2 : Int → Int → Int → XS → Prop) (X23 : Int → Int → XS → Prop) (X47 : Int → XS → Prop) (K : Int → XS → Prop) (x3 : Int) (s0 : XS) : Prop :=
  ((0 ≤ x3 ∧ x3 < 24) ∧ ((((s0.2 4).2 11 x3) = 0 → ((0 ≤ x3 ∧ x3 < 24) ∧ X47 ((s0.2 4).2 5 x3) s0)) ∧ (¬ ((s0.2 4).2 11 x3) = 0 → K x3 s0)))
def B_X6_common_N_E (X2 : Int → Int → Int → XS → Prop) (X23 : Int → Int → XS → Prop) (X47 : Int → XS → Prop) (K : Int → XS → Prop) (a : Int) (b : Int) (s0 : XS) : Prop :=
  X2 a b 0 s0
def W_X6_common_N_2 (d : Nat) (V : XV) (g : AH) (K : Int → XS → Prop) (x1 : Int) (x2 : Int) (x3 : Int) (s0 : XS) : Prop := EW mm_X6_common (d + 0) 0 0 (xQi V g K) 2 [(0, aR (some (sI V 4 99))), (1, aI x1), (2, aI x2), (3, aI x3)] [] (xh V s0 g)
def W_X6_common_N_23 (d : Nat) (V : XV) (g : AH) (K : Int → XS → Prop) (x2 : Int) (x3 : Int) (s0 : XS) : Prop := EW mm_X6_common (d + 0) 0 0 (xQi V g K) 23 [(0, aR (some (sI V 4 99))), (2, aI x2), (3, aI x3)] [] (xh V s0 g)
def W_X6_common_N_47 (d : Nat) (V : XV) (g : AH) (K : Int → XS → Prop) (x3 : Int) (s0 : XS) : Prop := EW mm_X6_common (d + 0) 0 0 (xQi V g K) 47 [(0, aR (some (sI V 4 99))), (3, aI x3)] [] (xh V s0 g)
set_option maxHeartbeats 4000000 in
theorem T_X6_common_N_2 (d : Nat) (V : XV) (g : AH) (K : Int → XS → Prop) (x1 : Int) (x2 : Int) (x3 : Int) (s0 : XS) (H : B_X6_common_N_2 (W_X6_common_N_2 d V g K) (W_X6_common_N_23 d V g K) (W_X6_common_N_47 d V g K) K x1 x2 x3 s0) : EW mm_X6_common (d + 0) 0 0 (xQi V g K) 2 [(0, aR (some (sI V 4 99))), (1, aI x1), (2, aI x2), (3, aI x3)] [] (xh V s0 g) := by
  refine ew_iload_n dX6_common_2 rfl lm3 ?_
  refine ew_bipush dX6_common_3 (inI_of rfl) (by decide) ?_
  refine ew_icmp_ge (tgt := 21) dX6_common_5 (by decide) (fun c1 => ?_) (fun c1 => ?_)
  · replace H := H.1 c1
    refine ew_iload_n dX6_common_21 rfl lm1 ?_
    refine ew_istore_n dX6_common_22 rfl (by decide) (lv' := [(3, aI x1), (0, aR (some (sI V 4 99))), (1, aI x1), (2, aI x2)]) rfl ?_
    refine ew_sub (List.forall_mem_cons.mpr ⟨lm1, (List.forall_mem_cons.mpr ⟨lm2, (List.forall_mem_cons.mpr ⟨lm3, (List.forall_mem_cons.mpr ⟨lm0, e_nm⟩)⟩)⟩)⟩) ?_
    exact ew_room (Nat.le_refl _) (Nat.zero_le _) (Nat.zero_le _) (ew_sub (List.forall_mem_cons.mpr ⟨lm0, (List.forall_mem_cons.mpr ⟨lm2, (List.forall_mem_cons.mpr ⟨lm3, e_nm⟩)⟩)⟩) H)
  · replace H := H.2 c1
    refine ew_aload_n dX6_common_8 rfl lm0 ?_
    refine yw_get (cs := [5]) (v := aR (some (sI V 4 11))) dX6_common_9 (by decide) (e_fl.a q228) yf_11 (by decide) rfl ?_
    refine ew_iload_n dX6_common_12 rfl lm3 ?_
    refine ew_iconst dX6_common_13 (inI_of rfl) ?_
    obtain ⟨v4, H⟩ := H
    refine yw_bast dX6_common_14 (by decide) (by decide) rfl rfl (Or.inl rfl) v4.1 v4.2 (fun s2 e3 => ?_)
    replace H := H s2 e3
    obtain ⟨v5, H⟩ := H
    refine ew_iinc dX6_common_15 lm3 (by decide) v5 (lv' := [(3, aI (x3 + 1)), (0, aR (some (sI V 4 99))), (1, aI x1), (2, aI x2)]) rfl ?_
    refine ew_sub (List.forall_mem_cons.mpr ⟨lm1, (List.forall_mem_cons.mpr ⟨lm2, (List.forall_mem_cons.mpr ⟨lm3, (List.forall_mem_cons.mpr ⟨lm0, e_nm⟩)⟩)⟩)⟩) ?_
    refine ew_goto (tgt := 2) dX6_common_18 (by decide) ?_
    exact ew_room (Nat.le_refl _) (Nat.zero_le _) (Nat.zero_le _) (ew_sub (List.forall_mem_cons.mpr ⟨lm0, (List.forall_mem_cons.mpr ⟨lm1, (List.forall_mem_cons.mpr ⟨lm2, (List.forall_mem_cons.mpr ⟨lm3, e_nm⟩)⟩)⟩)⟩) H)
set_option maxHeartbeats 4000000 in
theorem T_X6_common_N_23 (d : Nat) (V : XV) (g : AH) (K : Int → XS → Prop) (x2 : Int) (x3 : Int) (s0 : XS) (H : B_X6_common_N_23 (W_X6_common_N_2 d V g K) (W_X6_common_N_23 d V g K) (W_X6_common_N_47 d V g K) K x2 x3 s0) : EW mm_X6_common (d + 0) 0 0 (xQi V g K) 23 [(0, aR (some (sI V 4 99))), (2, aI x2), (3, aI x3)] [] (xh V s0 g) := by
  refine ew_iload_n dX6_common_23 rfl lm2 ?_
  refine ew_iconst dX6_common_24 (inI_of rfl) ?_
  refine ew_icmp_eq (tgt := 45) dX6_common_25 (by decide) (fun c1 => ?_) (fun c1 => ?_)
  · replace H := H.1 c1
    refine ew_iload_n dX6_common_45 rfl lm1 ?_
    refine ew_istore_n dX6_common_46 rfl (by decide) (lv' := [(3, aI x2), (0, aR (some (sI V 4 99))), (2, aI x2)]) rfl ?_
    refine ew_sub (List.forall_mem_cons.mpr ⟨lm1, (List.forall_mem_cons.mpr ⟨lm2, (List.forall_mem_cons.mpr ⟨lm0, e_nm⟩)⟩)⟩) ?_
    exact ew_room (Nat.le_refl _) (Nat.zero_le _) (Nat.zero_le _) (ew_sub (List.forall_mem_cons.mpr ⟨lm0, (List.forall_mem_cons.mpr ⟨lm2, e_nm⟩)⟩) H)
  · replace H := H.2 c1
    refine ew_aload_n dX6_common_28 rfl lm0 ?_
    refine yw_get (cs := [5]) (v := aR (some (sI V 4 11))) dX6_common_29 (by decide) (e_fl.a q228) yf_11 (by decide) rfl ?_
    refine ew_iload_n dX6_common_32 rfl lm2 ?_
    refine ew_iconst dX6_common_33 (inI_of rfl) ?_
    obtain ⟨v4, H⟩ := H
    refine yw_bast dX6_common_34 (by decide) (by decide) rfl rfl (Or.inr rfl) v4.1 v4.2 (fun s2 e3 => ?_)
    replace H := H s2 e3
    refine ew_aload_n dX6_common_35 rfl lm0 ?_
    refine yw_get (cs := [5]) (v := aR (some (sI V 4 5))) dX6_common_36 (by decide) (e_fl.b q232 q233) yf_5 (by decide) rfl ?_
    refine ew_iload_n dX6_common_39 rfl lm2 ?_
    obtain ⟨v5, H⟩ := H
    refine yw_iald dX6_common_40 (by decide) rfl v5.1 v5.2 ?_
    refine ew_istore_n dX6_common_41 rfl (by decide) (lv' := [(3, aI ((s2.2 4).2 5 x3)), (0, aR (some (sI V 4 99))), (2, aI x2)]) rfl ?_
    refine ew_sub (List.forall_mem_cons.mpr ⟨lm1, (List.forall_mem_cons.mpr ⟨lm2, (List.forall_mem_cons.mpr ⟨lm0, e_nm⟩)⟩)⟩) ?_
    refine ew_goto (tgt := 23) dX6_common_42 (by decide) ?_
    exact ew_room (Nat.le_refl _) (Nat.zero_le _) (Nat.zero_le _) (ew_sub (List.forall_mem_cons.mpr ⟨lm0, (List.forall_mem_cons.mpr ⟨lm1, (List.forall_mem_cons.mpr ⟨lm2, e_nm⟩)⟩)⟩) H)
set_option maxHeartbeats 4000000 in
theorem T_X6_common_N_47 (d : Nat) (V : XV) (g : AH) (K : Int → XS → Prop) (x3 : Int) (s0 : XS) (H : B_X6_common_N_47 (W_X6_common_N_2 d V g K) (W_X6_common_N_23 d V g K) (W_X6_common_N_47 d V g K) K x3 s0) : EW mm_X6_common (d + 0) 0 0 (xQi V g K) 47 [(0, aR (some (sI V 4 99))), (3, aI x3)] [] (xh V s0 g) := by
  refine ew_aload_n dX6_common_47 rfl lm0 ?_
  refine yw_get (cs := [5]) (v := aR (some (sI V 4 11))) dX6_common_48 (by decide) (e_fl.a q228) yf_11 (by decide) rfl ?_
  refine ew_iload_n dX6_common_51 rfl lm1 ?_
  obtain ⟨v1, H⟩ := H
  refine yw_bald dX6_common_52 (by decide) rfl v1.1 v1.2 ?_
  refine ew_if_ne (tgt := 66) dX6_common_53 (by decide) (fun c2 => ?_) (fun c2 => ?_)
  · replace H := H.2 c2
    refine ew_iload_n dX6_common_66 rfl lm1 ?_
    exact ew_ret (o := some (aI x3)) rfl ⟨_, _, rfl, rfl, H⟩ ⟨dX6_common_67, .int, rfl, Or.inl rfl, rfl⟩
  · replace H := H.1 c2
    refine ew_aload_n dX6_common_56 rfl lm0 ?_
    refine yw_get (cs := [5]) (v := aR (some (sI V 4 5))) dX6_common_57 (by decide) (e_fl.b q232 q233) yf_5 (by decide) rfl ?_
    refine ew_iload_n dX6_common_60 rfl lm1 ?_
    obtain ⟨v3, H⟩ := H
    refine yw_iald dX6_common_61 (by decide) rfl v3.1 v3.2 ?_
    refine ew_istore_n dX6_common_62 rfl (by decide) (lv' := [(3, aI ((s0.2 4).2 5 x3)), (0, aR (some (sI V 4 99)))]) rfl ?_
    refine ew_sub (List.forall_mem_cons.mpr ⟨lm1, (List.forall_mem_cons.mpr ⟨lm0, e_nm⟩)⟩) ?_
    refine ew_goto (tgt := 47) dX6_common_63 (by decide) ?_
    exact ew_room (Nat.le_refl _) (Nat.zero_le _) (Nat.zero_le _) (ew_sub (List.forall_mem_cons.mpr ⟨lm0, (List.forall_mem_cons.mpr ⟨lm1, e_nm⟩)⟩) H)
set_option maxHeartbeats 4000000 in
theorem T_X6_common_N_E (d : Nat) (V : XV) (g : AH) (K : Int → XS → Prop) (a : Int) (b : Int) (s0 : XS) (H : B_X6_common_N_E (W_X6_common_N_2 d V g K) (W_X6_common_N_23 d V g K) (W_X6_common_N_47 d V g K) K a b s0) : EW mm_X6_common (d + 0) 0 0 (xQi V g K) 0 [(0, aR (some (sI V 4 99))), (1, aI a), (2, aI b)] [] (xh V s0 g) := by
  refine ew_iconst dX6_common_0 (inI_of rfl) ?_
  refine ew_istore_n dX6_common_1 rfl (by decide) (lv' := [(3, aI 0), (0, aR (some (sI V 4 99))), (1, aI a), (2, aI b)]) rfl ?_
  refine ew_sub (List.forall_mem_cons.mpr ⟨lm1, (List.forall_mem_cons.mpr ⟨lm2, (List.forall_mem_cons.mpr ⟨lm3, (List.forall_mem_cons.mpr ⟨lm0, e_nm⟩)⟩)⟩)⟩) ?_
  exact ew_room (Nat.le_refl _) (Nat.zero_le _) (Nat.zero_le _) (ew_sub (List.forall_mem_cons.mpr ⟨lm0, (List.forall_mem_cons.mpr ⟨lm1, (List.forall_mem_cons.mpr ⟨lm2, (List.forall_mem_cons.mpr ⟨lm3, e_nm⟩)⟩)⟩)⟩) H)
def C_X6_common_N (a : Int) (b : Int) (s0 : XS) (K : Int → XS → Prop) : Prop := ∀ (X2 : Int → Int → Int → XS → Prop) (X23 : Int → Int → XS → Prop) (X47 : Int → XS → Prop), (∀ (x1 : Int) (x2 : Int) (x3 : Int) (s0 : XS), B_X6_common_N_2 X2 X23 X47 K x1 x2 x3 s0 → X2 x1 x2 x3 s0) → (∀ (x2 : Int) (x3 : Int) (s0 : XS), B_X6_common_N_23 X2 X23 X47 K x2 x3 s0 → X23 x2 x3 s0) → (∀ (x3 : Int) (s0 : XS), B_X6_common_N_47 X2 X23 X47 K x3 s0 → X47 x3 s0) → B_X6_common_N_E X2 X23 X47 K a b s0
theorem S_X6_common_N {d : Nat} {V : XV} {g : AH} {K : Int → XS → Prop} {a : Int} {b : Int} {s0 : XS} (H : C_X6_common_N a b s0 K) : Sp mm_X6_common (d + 0) 0 0 [aR (some (sI V 4 99)), aI a, aI b] (xh V s0 g) (xQi V g K) :=
  ew_sp rfl (Nat.le_of_ble_eq_true rfl) (T_X6_common_N_E d V g K a b s0 (H _ _ _ (fun x1 x2 x3 s0 H => T_X6_common_N_2 d V g K x1 x2 x3 s0 H) (fun x2 x3 s0 H => T_X6_common_N_23 d V g K x2 x3 s0 H) (fun x3 s0 H => T_X6_common_N_47 d V g K x3 s0 H)))
