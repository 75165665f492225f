/-! ReasonCloser: sheet 4, by program (gen/gxn.py) -/
set_option maxRecDepth 100000
abbrev mm_X6_leads : EM := (yX6_leads, cX6_leads, 5, (Option.none : Option Jvm.ClassFile.FieldType), [])
theorem me_X6_leads : e_mth mm_X6_leads 2 := ⟨rfl, q1168, q116, by decide +kernel, by decide⟩
abbrev mm_X6_takes : EM := (yX6_takes, cX6_takes, 5, (Option.none : Option Jvm.ClassFile.FieldType), [])
theorem me_X6_takes : e_mth mm_X6_takes 1 := ⟨rfl, q1176, q116, by decide +kernel, by decide⟩
def B_X6_takes_N_93 (R : Int → Int → XS → (XS → Prop) → Prop) (X93 : Int → Int → Int → XS → Prop) (K : XS → Prop) (x2 : Int) (x3 : Int) (x4 : Int) (s0 : XS) : Prop :=
  (((0 ≤ x2 ∧ x2 < s0.1.1 41) ∧ 0 ≤ s0.1.2 34 x2 ∧ s0.1.2 34 x2 < 2147483648) ∧ (((s0.1.2 34 x2) ≤ x4 → K s0) ∧ (¬ (s0.1.2 34 x2) ≤ x4 → (((0 ≤ x2 ∧ x2 < s0.1.1 41) ∧ 0 ≤ x4 ∧ x4 < s0.1.2 34 x2) ∧ (((0 ≤ x3 ∧ x3 < s0.1.1 41) ∧ 0 ≤ x4 ∧ x4 < s0.1.2 34 x3) ∧ (R (s0.1.2 (100 + (x2).toNat) x4) (s0.1.2 (100 + (x3).toNat) x4) s0 (fun s5 => (inI (x4 + 1) ∧ X93 x2 x3 (x4 + 1) s5))))))))
def B_X6_takes_N_E (R : Int → Int → XS → (XS → Prop) → Prop) (X93 : Int → Int → Int → XS → Prop) (K : XS → Prop) (a : Int) (s0 : XS) : Prop :=
  ((0 ≤ a ∧ a < 24) ∧ ((((s0.2 4).2 12 a) = 0 → (((0 ≤ a ∧ a < 24)) ∧ ∀ s3 : XS, s3 = ya s0 4 12 a 1 → ((0 ≤ a ∧ a < 24) ∧ ((((s3.2 4).2 9 a) = (-2) → ((0 ≤ a ∧ a < 24) ∧ (((0 ≤ ((s3.2 4).2 7 a) ∧ ((s3.2 4).2 7 a) < s3.1.1 31) ∧ xok s3 1) ∧ ((0 ≤ ((s3.2 4).2 7 a) ∧ ((s3.2 4).2 7 a) < s3.1.1 41) ∧ ((0 ≤ ((s3.2 4).2 7 a) ∧ ((s3.2 4).2 7 a) < s3.1.1 41) ∧ ((0 ≤ a ∧ a < 24) ∧ (((0 ≤ ((s3.2 4).2 8 a) ∧ ((s3.2 4).2 8 a) < s3.1.1 31) ∧ xok s3 1) ∧ ((0 ≤ ((s3.2 4).2 8 a) ∧ ((s3.2 4).2 8 a) < s3.1.1 41) ∧ ((0 ≤ ((s3.2 4).2 8 a) ∧ ((s3.2 4).2 8 a) < s3.1.1 41) ∧ X93 ((s3.2 4).2 7 a) ((s3.2 4).2 8 a) 0 s3))))))))) ∧ (¬ ((s3.2 4).2 9 a) = (-2) → ((0 ≤ a ∧ a < 24) ∧ (∀ s17 : XS, s17 = ys s3 4 13 (jor ((s3.2 4).1 13) (jshl 1 ((s3.2 4).2 9 a))) → K s17))))))) ∧ (¬ ((s0.2 4).2 12 a) = 0 → K s0)))
def W_X6_takes_N_93 (d : Nat) (V : XV) (g : AH) (K : XS → Prop) (x2 : Int) (x3 : Int) (x4 : Int) (s0 : XS) : Prop := EW mm_X6_takes (d + 4) 0 0 (xQv V g K) 93 [(0, aR (some (sI V 4 99))), (2, aR (some (bI V 14 (x2).toNat))), (3, aR (some (bI V 14 (x3).toNat))), (4, aI x4)] [] (xh V s0 g)
set_option maxHeartbeats 4000000 in
theorem T_X6_takes_N_93 (d : Nat) (V : XV) (g : AH) (R : Int → Int → XS → (XS → Prop) → Prop) (hR : ∀ a b s K, R a b s K → Sp mm_X6_leads (d + 3) 0 0 [aR (some (sI V 4 99)), aI a, aI b] (xh V s g) (xQv V g K)) (K : XS → Prop) (x2 : Int) (x3 : Int) (x4 : Int) (s0 : XS) (H : B_X6_takes_N_93 R (W_X6_takes_N_93 d V g K) K x2 x3 x4 s0) : EW mm_X6_takes (d + 4) 0 0 (xQv V g K) 93 [(0, aR (some (sI V 4 99))), (2, aR (some (bI V 14 (x2).toNat))), (3, aR (some (bI V 14 (x3).toNat))), (4, aI x4)] [] (xh V s0 g) := by
  refine ew_iload dX6_takes_93 lm3 ?_
  refine ew_aload_n dX6_takes_95 rfl lm1 ?_
  obtain ⟨v1, H⟩ := H
  refine pw_alen (f := x2) dX6_takes_96 v1.1 v1.2 ?_
  refine ew_icmp_ge (tgt := 118) dX6_takes_97 (by decide) (fun c2 => ?_) (fun c2 => ?_)
  · replace H := H.1 c2
    exact ew_ret (o := none) rfl ⟨_, rfl, rfl, H⟩ ⟨rfl, dX6_takes_118⟩
  · replace H := H.2 c2
    refine ew_aload_n dX6_takes_100 rfl lm0 ?_
    refine ew_aload_n dX6_takes_101 rfl lm1 ?_
    refine ew_iload dX6_takes_102 lm3 ?_
    obtain ⟨v3, H⟩ := H
    refine pw_iald (f := x2) dX6_takes_104 v3.1 v3.2 ?_
    refine ew_aload_n dX6_takes_105 rfl lm2 ?_
    refine ew_iload dX6_takes_106 lm3 ?_
    obtain ⟨v4, H⟩ := H
    refine pw_iald (f := x3) dX6_takes_108 v4.1 v4.2 ?_
    refine ew_callYP (d := d + 3) (as := [aI (s0.1.2 (100 + (x2).toNat) x4), aI (s0.1.2 (100 + (x3).toNat) x4)]) rfl dX6_takes_109 me_X6_leads rfl (by decide) q1165 q1167 q214 q1166 (Nat.le_of_ble_eq_true rfl) (Nat.zero_le _) (Nat.zero_le _) (hR _ _ _ _ H) (fun o h' hq6 _ => ?_) (fun E i h' q _ => (xQv_no q).elim)
    obtain ⟨s5, E7, rfl, H⟩ := hq6
    cases E7
    obtain ⟨v8, H⟩ := H
    refine ew_iinc dX6_takes_112 lm3 (by decide) v8 (lv' := [(4, aI (x4 + 1)), (0, aR (some (sI V 4 99))), (2, aR (some (bI V 14 (x2).toNat))), (3, aR (some (bI V 14 (x3).toNat)))]) rfl ?_
    refine ew_sub (List.forall_mem_cons.mpr ⟨lm1, (List.forall_mem_cons.mpr ⟨lm2, (List.forall_mem_cons.mpr ⟨lm3, (List.forall_mem_cons.mpr ⟨lm0, e_nm⟩)⟩)⟩)⟩) ?_
    refine ew_goto (tgt := 93) dX6_takes_115 (by decide) ?_
    exact ew_room (Nat.le_refl _) (Nat.zero_le _) (Nat.zero_le _) (ew_sub (List.forall_mem_cons.mpr ⟨lm0, (List.forall_mem_cons.mpr ⟨lm1, (List.forall_mem_cons.mpr ⟨lm2, (List.forall_mem_cons.mpr ⟨lm3, e_nm⟩)⟩)⟩)⟩) H)
set_option maxHeartbeats 4000000 in
theorem T_X6_takes_N_E (d : Nat) (V : XV) (g : AH) (R : Int → Int → XS → (XS → Prop) → Prop) (hR : ∀ a b s K, R a b s K → Sp mm_X6_leads (d + 3) 0 0 [aR (some (sI V 4 99)), aI a, aI b] (xh V s g) (xQv V g K)) (K : XS → Prop) (a : Int) (s0 : XS) (H : B_X6_takes_N_E R (W_X6_takes_N_93 d V g K) K a s0) : EW mm_X6_takes (d + 4) 0 0 (xQv V g K) 0 [(0, aR (some (sI V 4 99))), (1, aI a)] [] (xh V s0 g) := by
  refine ew_aload_n dX6_takes_0 rfl lm0 ?_
  refine yw_get (cs := [5]) (v := aR (some (sI V 4 12))) dX6_takes_1 (by decide) (e_fl.a q229) yf_12 (by decide) rfl ?_
  refine ew_iload_n dX6_takes_4 rfl lm1 ?_
  obtain ⟨v1, H⟩ := H
  refine yw_bald dX6_takes_5 (by decide) rfl v1.1 v1.2 ?_
  refine ew_if_eq (tgt := 10) dX6_takes_6 (by decide) (fun c2 => ?_) (fun c2 => ?_)
  · replace H := H.1 c2
    refine ew_aload_n dX6_takes_10 rfl lm0 ?_
    refine yw_get (cs := [5]) (v := aR (some (sI V 4 12))) dX6_takes_11 (by decide) (e_fl.a q229) yf_12 (by decide) rfl ?_
    refine ew_iload_n dX6_takes_14 rfl lm1 ?_
    refine ew_iconst dX6_takes_15 (inI_of rfl) ?_
    obtain ⟨v5, H⟩ := H
    refine yw_bast dX6_takes_16 (by decide) (by decide) rfl rfl (Or.inr rfl) v5.1 v5.2 (fun s3 e4 => ?_)
    replace H := H s3 e4
    refine ew_aload_n dX6_takes_17 rfl lm0 ?_
    refine yw_get (cs := [5]) (v := aR (some (sI V 4 9))) dX6_takes_18 (by decide) (e_fl.b q247 q248) yf_9 (by decide) rfl ?_
    refine ew_iload_n dX6_takes_21 rfl lm1 ?_
    obtain ⟨v6, H⟩ := H
    refine yw_iald dX6_takes_22 (by decide) rfl v6.1 v6.2 ?_
    refine ew_bipush dX6_takes_23 (inI_of rfl) (by decide) ?_
    refine ew_icmp_eq (tgt := 46) dX6_takes_25 (by decide) (fun c7 => ?_) (fun c7 => ?_)
    · replace H := H.1 c7
      refine ew_aload_n dX6_takes_46 rfl lm0 ?_
      refine yw_get (cs := [4, 5]) (v := aR (some (bI V 2 1))) dX6_takes_47 (by decide) (e_fl.b q254 q255) yf_4 (by decide) rfl ?_
      refine ew_aload_n dX6_takes_50 rfl lm0 ?_
      refine yw_get (cs := [5]) (v := aR (some (sI V 4 7))) dX6_takes_51 (by decide) (e_fl.b q239 q240) yf_7 (by decide) rfl ?_
      refine ew_iload_n dX6_takes_54 rfl lm1 ?_
      obtain ⟨v8, H⟩ := H
      refine yw_iald dX6_takes_55 (by decide) rfl v8.1 v8.2 ?_
      obtain ⟨v9, H⟩ := H
      refine lw_g1 (d := d + 1) dX6_takes_56 q1178 (Nat.le_of_ble_eq_true rfl) v9.1 v9.2 ?_
      obtain ⟨v10, H⟩ := H
      refine cm_cast (f := ((s3.2 4).2 7 a)) dX6_takes_61 q1179 v10 ?_
      obtain ⟨v11, H⟩ := H
      refine gm_3 (f := ((s3.2 4).2 7 a)) dX6_takes_64 (e_fl.c q826) tf2_3 v11 ?_
      refine ew_astore_n dX6_takes_67 rfl (by decide) (lv' := [(2, aR (some (bI V 14 (((s3.2 4).2 7 a)).toNat))), (0, aR (some (sI V 4 99))), (1, aI a)]) rfl ?_
      refine ew_sub (List.forall_mem_cons.mpr ⟨lm1, (List.forall_mem_cons.mpr ⟨lm2, (List.forall_mem_cons.mpr ⟨lm0, e_nm⟩)⟩)⟩) ?_
      refine ew_aload_n dX6_takes_68 rfl lm0 ?_
      refine yw_get (cs := [4, 5]) (v := aR (some (bI V 2 1))) dX6_takes_69 (by decide) (e_fl.b q254 q255) yf_4 (by decide) rfl ?_
      refine ew_aload_n dX6_takes_72 rfl lm0 ?_
      refine yw_get (cs := [5]) (v := aR (some (sI V 4 8))) dX6_takes_73 (by decide) (e_fl.b q243 q244) yf_8 (by decide) rfl ?_
      refine ew_iload_n dX6_takes_76 rfl lm1 ?_
      obtain ⟨v12, H⟩ := H
      refine yw_iald dX6_takes_77 (by decide) rfl v12.1 v12.2 ?_
      obtain ⟨v13, H⟩ := H
      refine lw_g1 (d := d + 1) dX6_takes_78 q1178 (Nat.le_of_ble_eq_true rfl) v13.1 v13.2 ?_
      obtain ⟨v14, H⟩ := H
      refine cm_cast (f := ((s3.2 4).2 8 a)) dX6_takes_83 q1179 v14 ?_
      obtain ⟨v15, H⟩ := H
      refine gm_3 (f := ((s3.2 4).2 8 a)) dX6_takes_86 (e_fl.c q826) tf2_3 v15 ?_
      refine ew_astore_n dX6_takes_89 rfl (by decide) (lv' := [(3, aR (some (bI V 14 (((s3.2 4).2 8 a)).toNat))), (0, aR (some (sI V 4 99))), (1, aI a), (2, aR (some (bI V 14 (((s3.2 4).2 7 a)).toNat)))]) rfl ?_
      refine ew_sub (List.forall_mem_cons.mpr ⟨lm1, (List.forall_mem_cons.mpr ⟨lm2, (List.forall_mem_cons.mpr ⟨lm3, (List.forall_mem_cons.mpr ⟨lm0, e_nm⟩)⟩)⟩)⟩) ?_
      refine ew_iconst dX6_takes_90 (inI_of rfl) ?_
      refine ew_istore dX6_takes_91 (by decide) (lv' := [(4, aI 0), (0, aR (some (sI V 4 99))), (1, aI a), (2, aR (some (bI V 14 (((s3.2 4).2 7 a)).toNat))), (3, aR (some (bI V 14 (((s3.2 4).2 8 a)).toNat)))]) rfl ?_
      refine ew_sub (List.forall_mem_cons.mpr ⟨lm1, (List.forall_mem_cons.mpr ⟨lm2, (List.forall_mem_cons.mpr ⟨lm3, (List.forall_mem_cons.mpr ⟨lm4, (List.forall_mem_cons.mpr ⟨lm0, e_nm⟩)⟩)⟩)⟩)⟩) ?_
      exact ew_room (Nat.le_refl _) (Nat.zero_le _) (Nat.zero_le _) (ew_sub (List.forall_mem_cons.mpr ⟨lm0, (List.forall_mem_cons.mpr ⟨lm2, (List.forall_mem_cons.mpr ⟨lm3, (List.forall_mem_cons.mpr ⟨lm4, e_nm⟩)⟩)⟩)⟩) H)
    · replace H := H.2 c7
      refine ew_aload_n dX6_takes_28 rfl lm0 ?_
      refine ew_dup dX6_takes_29 rfl ?_
      refine yw_get (cs := [5]) (v := aI ((s3.2 4).1 13)) dX6_takes_30 (by decide) (e_fl.a q230) yf_13 (by decide) rfl ?_
      refine ew_iconst dX6_takes_33 (inI_of rfl) ?_
      refine ew_aload_n dX6_takes_34 rfl lm0 ?_
      refine yw_get (cs := [5]) (v := aR (some (sI V 4 9))) dX6_takes_35 (by decide) (e_fl.b q247 q248) yf_9 (by decide) rfl ?_
      refine ew_iload_n dX6_takes_38 rfl lm1 ?_
      obtain ⟨v16, H⟩ := H
      refine yw_iald dX6_takes_39 (by decide) rfl v16.1 v16.2 ?_
      refine ew_ishl dX6_takes_40 ?_
      refine ew_ior dX6_takes_41 ?_
      refine yw_put (cs := [5]) dX6_takes_42 (by decide) (e_fl.a q230) yf_13 (by decide) rfl (by decide +kernel) (fun s17 e18 => ?_)
      replace H := H s17 e18
      exact ew_ret (o := none) rfl ⟨_, rfl, rfl, H⟩ ⟨rfl, dX6_takes_45⟩
  · replace H := H.2 c2
    exact ew_ret (o := none) rfl ⟨_, rfl, rfl, H⟩ ⟨rfl, dX6_takes_9⟩
def C_X6_takes_N_ (R : Int → Int → XS → (XS → Prop) → Prop) (a : Int) (s0 : XS) (K : XS → Prop) : Prop := ∀ (X93 : Int → Int → Int → XS → Prop), (∀ (x2 : Int) (x3 : Int) (x4 : Int) (s0 : XS), B_X6_takes_N_93 R X93 K x2 x3 x4 s0 → X93 x2 x3 x4 s0) → B_X6_takes_N_E R X93 K a s0
theorem S_X6_takes_N_ {d : Nat} {V : XV} {g : AH} {R : Int → Int → XS → (XS → Prop) → Prop} {K : XS → Prop} {a : Int} {s0 : XS} (hR : ∀ a b s K, R a b s K → Sp mm_X6_leads (d + 3) 0 0 [aR (some (sI V 4 99)), aI a, aI b] (xh V s g) (xQv V g K)) (H : C_X6_takes_N_ R a s0 K) : Sp mm_X6_takes (d + 4) 0 0 [aR (some (sI V 4 99)), aI a] (xh V s0 g) (xQv V g K) :=
  ew_sp rfl (Nat.le_of_ble_eq_true rfl) (T_X6_takes_N_E d V g R hR K a s0 (H _ (fun x2 x3 x4 s0 H => T_X6_takes_N_93 d V g R hR K x2 x3 x4 s0 H)))
def B_X6_leads_N_10 (R : Int → XS → (XS → Prop) → Prop) (X10 : Int → Int → Int → XS → Prop) (X42 : Int → Int → XS → Prop) (K : XS → Prop) (x2 : Int) (x3 : Int) (x4 : Int) (s0 : XS) : Prop :=
  ((x4 = x3 → X42 x3 x2 s0) ∧ (¬ x4 = x3 → ((0 ≤ x4 ∧ x4 < 24) ∧ (R ((s0.2 4).2 6 x4) s0 (fun s3 => ((0 ≤ x4 ∧ x4 < 24) ∧ X10 x2 x3 ((s3.2 4).2 5 x4) s3))))))
def B_X6_leads_N_42 (R : Int → XS → (XS → Prop) → Prop) (X10 : Int → Int → Int → XS → Prop) (X42 : Int → Int → XS → Prop) (K : XS → Prop) (x3 : Int) (x4 : Int) (s0 : XS) : Prop :=
  ((x4 = x3 → K s0) ∧ (¬ x4 = x3 → ((0 ≤ x4 ∧ x4 < 24) ∧ (R ((s0.2 4).2 6 x4) s0 (fun s3 => ((0 ≤ x4 ∧ x4 < 24) ∧ X42 x3 ((s3.2 4).2 5 x4) s3))))))
def B_X6_leads_N_E (R : Int → XS → (XS → Prop) → Prop) (X10 : Int → Int → Int → XS → Prop) (X42 : Int → Int → XS → Prop) (K : XS → Prop) (a : Int) (b : Int) (s0 : XS) : Prop :=
  (C_X6_common_N a b s0 (fun r1 s2 => X10 b r1 a s2))
def W_X6_leads_N_10 (d : Nat) (V : XV) (g : AH) (K : XS → Prop) (x2 : Int) (x3 : Int) (x4 : Int) (s0 : XS) : Prop := EW mm_X6_leads (d + 5) 0 0 (xQv V g K) 10 [(0, aR (some (sI V 4 99))), (2, aI x2), (3, aI x3), (4, aI x4)] [] (xh V s0 g)
def W_X6_leads_N_42 (d : Nat) (V : XV) (g : AH) (K : XS → Prop) (x3 : Int) (x4 : Int) (s0 : XS) : Prop := EW mm_X6_leads (d + 5) 0 0 (xQv V g K) 42 [(0, aR (some (sI V 4 99))), (3, aI x3), (4, aI x4)] [] (xh V s0 g)
set_option maxHeartbeats 4000000 in
theorem T_X6_leads_N_10 (d : Nat) (V : XV) (g : AH) (R : Int → XS → (XS → Prop) → Prop) (hR : ∀ a s K, R a s K → Sp mm_X6_takes (d + 4) 0 0 [aR (some (sI V 4 99)), aI a] (xh V s g) (xQv V g K)) (K : XS → Prop) (x2 : Int) (x3 : Int) (x4 : Int) (s0 : XS) (H : B_X6_leads_N_10 R (W_X6_leads_N_10 d V g K) (W_X6_leads_N_42 d V g K) K x2 x3 x4 s0) : EW mm_X6_leads (d + 5) 0 0 (xQv V g K) 10 [(0, aR (some (sI V 4 99))), (2, aI x2), (3, aI x3), (4, aI x4)] [] (xh V s0 g) := by
  refine ew_iload dX6_leads_10 lm3 ?_
  refine ew_iload_n dX6_leads_12 rfl lm2 ?_
  refine ew_icmp_eq (tgt := 39) dX6_leads_13 (by decide) (fun c1 => ?_) (fun c1 => ?_)
  · replace H := H.1 c1
    refine ew_iload_n dX6_leads_39 rfl lm1 ?_
    refine ew_istore dX6_leads_40 (by decide) (lv' := [(4, aI x2), (0, aR (some (sI V 4 99))), (2, aI x2), (3, aI x3)]) rfl ?_
    refine ew_sub (List.forall_mem_cons.mpr ⟨lm1, (List.forall_mem_cons.mpr ⟨lm2, (List.forall_mem_cons.mpr ⟨lm3, (List.forall_mem_cons.mpr ⟨lm0, e_nm⟩)⟩)⟩)⟩) ?_
    exact ew_room (Nat.le_refl _) (Nat.zero_le _) (Nat.zero_le _) (ew_sub (List.forall_mem_cons.mpr ⟨lm0, (List.forall_mem_cons.mpr ⟨lm2, (List.forall_mem_cons.mpr ⟨lm3, e_nm⟩)⟩)⟩) H)
  · replace H := H.2 c1
    refine ew_aload_n dX6_leads_16 rfl lm0 ?_
    refine ew_aload_n dX6_leads_17 rfl lm0 ?_
    refine yw_get (cs := [5]) (v := aR (some (sI V 4 6))) dX6_leads_18 (by decide) (e_fl.b q236 q237) yf_6 (by decide) rfl ?_
    refine ew_iload dX6_leads_21 lm3 ?_
    obtain ⟨v2, H⟩ := H
    refine yw_iald dX6_leads_23 (by decide) rfl v2.1 v2.2 ?_
    refine ew_callYP (d := d + 4) (as := [aI ((s0.2 4).2 6 x4)]) rfl dX6_leads_24 me_X6_takes rfl (by decide) q1173 q1175 q214 q1174 (Nat.le_of_ble_eq_true rfl) (Nat.zero_le _) (Nat.zero_le _) (hR _ _ _ H) (fun o h' hq4 _ => ?_) (fun E i h' q _ => (xQv_no q).elim)
    obtain ⟨s3, E5, rfl, H⟩ := hq4
    cases E5
    refine ew_aload_n dX6_leads_27 rfl lm0 ?_
    refine yw_get (cs := [5]) (v := aR (some (sI V 4 5))) dX6_leads_28 (by decide) (e_fl.b q232 q233) yf_5 (by decide) rfl ?_
    refine ew_iload dX6_leads_31 lm3 ?_
    obtain ⟨v6, H⟩ := H
    refine yw_iald dX6_leads_33 (by decide) rfl v6.1 v6.2 ?_
    refine ew_istore dX6_leads_34 (by decide) (lv' := [(4, aI ((s3.2 4).2 5 x4)), (0, aR (some (sI V 4 99))), (2, aI x2), (3, aI x3)]) rfl ?_
    refine ew_sub (List.forall_mem_cons.mpr ⟨lm1, (List.forall_mem_cons.mpr ⟨lm2, (List.forall_mem_cons.mpr ⟨lm3, (List.forall_mem_cons.mpr ⟨lm0, e_nm⟩)⟩)⟩)⟩) ?_
    refine ew_goto (tgt := 10) dX6_leads_36 (by decide) ?_
    exact ew_room (Nat.le_refl _) (Nat.zero_le _) (Nat.zero_le _) (ew_sub (List.forall_mem_cons.mpr ⟨lm0, (List.forall_mem_cons.mpr ⟨lm1, (List.forall_mem_cons.mpr ⟨lm2, (List.forall_mem_cons.mpr ⟨lm3, e_nm⟩)⟩)⟩)⟩) H)
set_option maxHeartbeats 4000000 in
theorem T_X6_leads_N_42 (d : Nat) (V : XV) (g : AH) (R : Int → XS → (XS → Prop) → Prop) (hR : ∀ a s K, R a s K → Sp mm_X6_takes (d + 4) 0 0 [aR (some (sI V 4 99)), aI a] (xh V s g) (xQv V g K)) (K : XS → Prop) (x3 : Int) (x4 : Int) (s0 : XS) (H : B_X6_leads_N_42 R (W_X6_leads_N_10 d V g K) (W_X6_leads_N_42 d V g K) K x3 x4 s0) : EW mm_X6_leads (d + 5) 0 0 (xQv V g K) 42 [(0, aR (some (sI V 4 99))), (3, aI x3), (4, aI x4)] [] (xh V s0 g) := by
  refine ew_iload dX6_leads_42 lm2 ?_
  refine ew_iload_n dX6_leads_44 rfl lm1 ?_
  refine ew_icmp_eq (tgt := 71) dX6_leads_45 (by decide) (fun c1 => ?_) (fun c1 => ?_)
  · replace H := H.1 c1
    exact ew_ret (o := none) rfl ⟨_, rfl, rfl, H⟩ ⟨rfl, dX6_leads_71⟩
  · replace H := H.2 c1
    refine ew_aload_n dX6_leads_48 rfl lm0 ?_
    refine ew_aload_n dX6_leads_49 rfl lm0 ?_
    refine yw_get (cs := [5]) (v := aR (some (sI V 4 6))) dX6_leads_50 (by decide) (e_fl.b q236 q237) yf_6 (by decide) rfl ?_
    refine ew_iload dX6_leads_53 lm2 ?_
    obtain ⟨v2, H⟩ := H
    refine yw_iald dX6_leads_55 (by decide) rfl v2.1 v2.2 ?_
    refine ew_callYP (d := d + 4) (as := [aI ((s0.2 4).2 6 x4)]) rfl dX6_leads_56 me_X6_takes rfl (by decide) q1173 q1175 q214 q1174 (Nat.le_of_ble_eq_true rfl) (Nat.zero_le _) (Nat.zero_le _) (hR _ _ _ H) (fun o h' hq4 _ => ?_) (fun E i h' q _ => (xQv_no q).elim)
    obtain ⟨s3, E5, rfl, H⟩ := hq4
    cases E5
    refine ew_aload_n dX6_leads_59 rfl lm0 ?_
    refine yw_get (cs := [5]) (v := aR (some (sI V 4 5))) dX6_leads_60 (by decide) (e_fl.b q232 q233) yf_5 (by decide) rfl ?_
    refine ew_iload dX6_leads_63 lm2 ?_
    obtain ⟨v6, H⟩ := H
    refine yw_iald dX6_leads_65 (by decide) rfl v6.1 v6.2 ?_
    refine ew_istore dX6_leads_66 (by decide) (lv' := [(4, aI ((s3.2 4).2 5 x4)), (0, aR (some (sI V 4 99))), (3, aI x3)]) rfl ?_
    refine ew_sub (List.forall_mem_cons.mpr ⟨lm1, (List.forall_mem_cons.mpr ⟨lm2, (List.forall_mem_cons.mpr ⟨lm0, e_nm⟩)⟩)⟩) ?_
    refine ew_goto (tgt := 42) dX6_leads_68 (by decide) ?_
    exact ew_room (Nat.le_refl _) (Nat.zero_le _) (Nat.zero_le _) (ew_sub (List.forall_mem_cons.mpr ⟨lm0, (List.forall_mem_cons.mpr ⟨lm1, (List.forall_mem_cons.mpr ⟨lm2, e_nm⟩)⟩)⟩) H)
set_option maxHeartbeats 4000000 in
theorem T_X6_leads_N_E (d : Nat) (V : XV) (g : AH) (R : Int → XS → (XS → Prop) → Prop) (hR : ∀ a s K, R a s K → Sp mm_X6_takes (d + 4) 0 0 [aR (some (sI V 4 99)), aI a] (xh V s g) (xQv V g K)) (K : XS → Prop) (a : Int) (b : Int) (s0 : XS) (H : B_X6_leads_N_E R (W_X6_leads_N_10 d V g K) (W_X6_leads_N_42 d V g K) K a b s0) : EW mm_X6_leads (d + 5) 0 0 (xQv V g K) 0 [(0, aR (some (sI V 4 99))), (1, aI a), (2, aI b)] [] (xh V s0 g) := by
  refine ew_aload_n dX6_leads_0 rfl lm0 ?_
  refine ew_iload_n dX6_leads_1 rfl lm1 ?_
  refine ew_iload_n dX6_leads_2 rfl lm2 ?_
  refine ew_callYP (d := d + 4) (as := [aI a, aI b]) rfl dX6_leads_3 me_X6_common rfl (by decide) q1169 q1171 q214 q1170 (Nat.le_of_ble_eq_true rfl) (Nat.zero_le _) (Nat.zero_le _) (S_X6_common_N (d := d + 4) H) (fun o h' hq3 _ => ?_) (fun E i h' q _ => (xQi_no q).elim)
  obtain ⟨r1, s2, E4, rfl, H⟩ := hq3
  cases E4
  refine ew_istore_n dX6_leads_6 rfl (by decide) (lv' := [(3, aI r1), (0, aR (some (sI V 4 99))), (1, aI a), (2, aI b)]) rfl ?_
  refine ew_sub (List.forall_mem_cons.mpr ⟨lm1, (List.forall_mem_cons.mpr ⟨lm2, (List.forall_mem_cons.mpr ⟨lm3, (List.forall_mem_cons.mpr ⟨lm0, e_nm⟩)⟩)⟩)⟩) ?_
  refine ew_iload_n dX6_leads_7 rfl lm1 ?_
  refine ew_istore dX6_leads_8 (by decide) (lv' := [(4, aI a), (0, aR (some (sI V 4 99))), (1, aI a), (2, aI b), (3, aI r1)]) rfl ?_
  refine ew_sub (List.forall_mem_cons.mpr ⟨lm1, (List.forall_mem_cons.mpr ⟨lm2, (List.forall_mem_cons.mpr ⟨lm3, (List.forall_mem_cons.mpr ⟨lm4, (List.forall_mem_cons.mpr ⟨lm0, e_nm⟩)⟩)⟩)⟩)⟩) ?_
  exact ew_room (Nat.le_refl _) (Nat.zero_le _) (Nat.zero_le _) (ew_sub (List.forall_mem_cons.mpr ⟨lm0, (List.forall_mem_cons.mpr ⟨lm2, (List.forall_mem_cons.mpr ⟨lm3, (List.forall_mem_cons.mpr ⟨lm4, e_nm⟩)⟩)⟩)⟩) H)
def C_X6_leads_N_ (R : Int → XS → (XS → Prop) → Prop) (a : Int) (b : Int) (s0 : XS) (K : XS → Prop) : Prop := ∀ (X10 : Int → Int → Int → XS → Prop) (X42 : Int → Int → XS → Prop), (∀ (x2 : Int) (x3 : Int) (x4 : Int) (s0 : XS), B_X6_leads_N_10 R X10 X42 K x2 x3 x4 s0 → X10 x2 x3 x4 s0) → (∀ (x3 : Int) (x4 : Int) (s0 : XS), B_X6_leads_N_42 R X10 X42 K x3 x4 s0 → X42 x3 x4 s0) → B_X6_leads_N_E R X10 X42 K a b s0
theorem S_X6_leads_N_ {d : Nat} {V : XV} {g : AH} {R : Int → XS → (XS → Prop) → Prop} {K : XS → Prop} {a : Int} {b : Int} {s0 : XS} (hR : ∀ a s K, R a s K → Sp mm_X6_takes (d + 4) 0 0 [aR (some (sI V 4 99)), aI a] (xh V s g) (xQv V g K)) (H : C_X6_leads_N_ R a b s0 K) : Sp mm_X6_leads (d + 5) 0 0 [aR (some (sI V 4 99)), aI a, aI b] (xh V s0 g) (xQv V g K) :=
  ew_sp rfl (Nat.le_of_ble_eq_true rfl) (T_X6_leads_N_E d V g R hR K a b s0 (H _ _ (fun x2 x3 x4 s0 H => T_X6_leads_N_10 d V g R hR K x2 x3 x4 s0 H) (fun x3 x4 s0 H => T_X6_leads_N_42 d V g R hR K x3 x4 s0 H)))
def C_X6_leads_Nf : Nat → Int → Int → XS → (XS → Prop) → Prop
  | 0 => fun _ _ _ _ => False
  | n + 1 => C_X6_leads_N_ (C_X6_takes_N_ (C_X6_leads_Nf n))
theorem S_X6_leads_Nf {d : Nat} {V : XV} {g : AH} : ∀ (n : Nat) (a b : Int) (s : XS) (K : XS → Prop), C_X6_leads_Nf n a b s K → Sp mm_X6_leads (d + 2 * n + 3) 0 0 [aR (some (sI V 4 99)), aI a, aI b] (xh V s g) (xQv V g K)
  | 0, _, _, _, _, H => False.elim H
  | n + 1, a, b, s, K, H => S_X6_leads_N_ (d := d + 2 * n) (R := C_X6_takes_N_ (C_X6_leads_Nf n)) (fun a s K H => S_X6_takes_N_ (d := d + 2 * n) (R := C_X6_leads_Nf n) (fun a b s K H => S_X6_leads_Nf n a b s K H) H) H
def C_X6_leads_N : Int → Int → XS → (XS → Prop) → Prop := C_X6_leads_Nf 40
theorem S_X6_leads_N {d : Nat} {V : XV} {g : AH} {K : XS → Prop} {a b : Int} {s0 : XS} (H : C_X6_leads_N a b s0 K) : Sp mm_X6_leads (d + 83) 0 0 [aR (some (sI V 4 99)), aI a, aI b] (xh V s0 g) (xQv V g K) := S_X6_leads_Nf (d := d) 40 a b s0 K H
abbrev mm_X6_of : EM := (yX6_of, cX6_of, 4, (Option.some .int), [])
theorem me_X6_of : e_mth mm_X6_of 2 := ⟨rfl, q1164, q116, by decide +kernel, by decide⟩
def B_X6_of_N_7 (X7 : Int → Int → Int → XS → Prop) (K : Int → XS → Prop) (x1 : Int) (x2 : Int) (x3 : Int) (s0 : XS) : Prop :=
  ((24 ≤ x3 → (C_X6_leads_N x1 x2 s0 (fun s3 => K ((s3.2 4).1 13) s3))) ∧ (¬ 24 ≤ x3 → (((0 ≤ x3 ∧ x3 < 24)) ∧ ∀ s6 : XS, s6 = ya s0 4 12 x3 0 → (inI (x3 + 1) ∧ X7 x1 x2 (x3 + 1) s6))))
def B_X6_of_N_E (X7 : Int → Int → Int → XS → Prop) (K : Int → XS → Prop) (a : Int) (b : Int) (s0 : XS) : Prop :=
  (∀ s1 : XS, s1 = ys s0 4 13 0 → X7 a b 0 s1)
def W_X6_of_N_7 (d : Nat) (V : XV) (g : AH) (K : Int → XS → Prop) (x1 : Int) (x2 : Int) (x3 : Int) (s0 : XS) : Prop := EW mm_X6_of (d + 84) 0 0 (xQi V g K) 7 [(0, aR (some (sI V 4 99))), (1, aI x1), (2, aI x2), (3, aI x3)] [] (xh V s0 g)
set_option maxHeartbeats 4000000 in
theorem T_X6_of_N_7 (d : Nat) (V : XV) (g : AH) (K : Int → XS → Prop) (x1 : Int) (x2 : Int) (x3 : Int) (s0 : XS) (H : B_X6_of_N_7 (W_X6_of_N_7 d V g K) K x1 x2 x3 s0) : EW mm_X6_of (d + 84) 0 0 (xQi V g K) 7 [(0, aR (some (sI V 4 99))), (1, aI x1), (2, aI x2), (3, aI x3)] [] (xh V s0 g) := by
  refine ew_iload_n dX6_of_7 rfl lm3 ?_
  refine ew_bipush dX6_of_8 (inI_of rfl) (by decide) ?_
  refine ew_icmp_ge (tgt := 26) dX6_of_10 (by decide) (fun c1 => ?_) (fun c1 => ?_)
  · replace H := H.1 c1
    refine ew_aload_n dX6_of_26 rfl lm0 ?_
    refine ew_iload_n dX6_of_27 rfl lm1 ?_
    refine ew_iload_n dX6_of_28 rfl lm2 ?_
    refine ew_callYP (d := d + 83) (as := [aI x1, aI x2]) rfl dX6_of_29 me_X6_leads rfl (by decide) q1165 q1167 q214 q1166 (Nat.le_of_ble_eq_true rfl) (Nat.zero_le _) (Nat.zero_le _) (S_X6_leads_N (d := d + 0) H) (fun o h' hq4 _ => ?_) (fun E i h' q _ => (xQv_no q).elim)
    obtain ⟨s3, E5, rfl, H⟩ := hq4
    cases E5
    refine ew_aload_n dX6_of_32 rfl lm0 ?_
    refine yw_get (cs := [5]) (v := aI ((s3.2 4).1 13)) dX6_of_33 (by decide) (e_fl.a q230) yf_13 (by decide) rfl ?_
    exact ew_ret (o := some (aI ((s3.2 4).1 13))) rfl ⟨_, _, rfl, rfl, H⟩ ⟨dX6_of_36, .int, rfl, Or.inl rfl, rfl⟩
  · replace H := H.2 c1
    refine ew_aload_n dX6_of_13 rfl lm0 ?_
    refine yw_get (cs := [5]) (v := aR (some (sI V 4 12))) dX6_of_14 (by decide) (e_fl.a q229) yf_12 (by decide) rfl ?_
    refine ew_iload_n dX6_of_17 rfl lm3 ?_
    refine ew_iconst dX6_of_18 (inI_of rfl) ?_
    obtain ⟨v8, H⟩ := H
    refine yw_bast dX6_of_19 (by decide) (by decide) rfl rfl (Or.inl rfl) v8.1 v8.2 (fun s6 e7 => ?_)
    replace H := H s6 e7
    obtain ⟨v9, H⟩ := H
    refine ew_iinc dX6_of_20 lm3 (by decide) v9 (lv' := [(3, aI (x3 + 1)), (0, aR (some (sI V 4 99))), (1, aI x1), (2, aI x2)]) rfl ?_
    refine ew_sub (List.forall_mem_cons.mpr ⟨lm1, (List.forall_mem_cons.mpr ⟨lm2, (List.forall_mem_cons.mpr ⟨lm3, (List.forall_mem_cons.mpr ⟨lm0, e_nm⟩)⟩)⟩)⟩) ?_
    refine ew_goto (tgt := 7) dX6_of_23 (by decide) ?_
    exact ew_room (Nat.le_refl _) (Nat.zero_le _) (Nat.zero_le _) (ew_sub (List.forall_mem_cons.mpr ⟨lm0, (List.forall_mem_cons.mpr ⟨lm1, (List.forall_mem_cons.mpr ⟨lm2, (List.forall_mem_cons.mpr ⟨lm3, e_nm⟩)⟩)⟩)⟩) H)
set_option maxHeartbeats 4000000 in
theorem T_X6_of_N_E (d : Nat) (V : XV) (g : AH) (K : Int → XS → Prop) (a : Int) (b : Int) (s0 : XS) (H : B_X6_of_N_E (W_X6_of_N_7 d V g K) K a b s0) : EW mm_X6_of (d + 84) 0 0 (xQi V g K) 0 [(0, aR (some (sI V 4 99))), (1, aI a), (2, aI b)] [] (xh V s0 g) := by
  refine ew_aload_n dX6_of_0 rfl lm0 ?_
  refine ew_iconst dX6_of_1 (inI_of rfl) ?_
  refine yw_put (cs := [5]) dX6_of_2 (by decide) (e_fl.a q230) yf_13 (by decide) rfl (by decide +kernel) (fun s1 e2 => ?_)
  replace H := H s1 e2
  refine ew_iconst dX6_of_5 (inI_of rfl) ?_
  refine ew_istore_n dX6_of_6 rfl (by decide) (lv' := [(3, aI 0), (0, aR (some (sI V 4 99))), (1, aI a), (2, aI b)]) rfl ?_
  refine ew_sub (List.forall_mem_cons.mpr ⟨lm1, (List.forall_mem_cons.mpr ⟨lm2, (List.forall_mem_cons.mpr ⟨lm3, (List.forall_mem_cons.mpr ⟨lm0, e_nm⟩)⟩)⟩)⟩) ?_
  exact ew_room (Nat.le_refl _) (Nat.zero_le _) (Nat.zero_le _) (ew_sub (List.forall_mem_cons.mpr ⟨lm0, (List.forall_mem_cons.mpr ⟨lm1, (List.forall_mem_cons.mpr ⟨lm2, (List.forall_mem_cons.mpr ⟨lm3, e_nm⟩)⟩)⟩)⟩) H)
def C_X6_of_N (a : Int) (b : Int) (s0 : XS) (K : Int → XS → Prop) : Prop := ∀ (X7 : Int → Int → Int → XS → Prop), (∀ (x1 : Int) (x2 : Int) (x3 : Int) (s0 : XS), B_X6_of_N_7 X7 K x1 x2 x3 s0 → X7 x1 x2 x3 s0) → B_X6_of_N_E X7 K a b s0
theorem S_X6_of_N {d : Nat} {V : XV} {g : AH} {K : Int → XS → Prop} {a : Int} {b : Int} {s0 : XS} (H : C_X6_of_N a b s0 K) : Sp mm_X6_of (d + 84) 0 0 [aR (some (sI V 4 99)), aI a, aI b] (xh V s0 g) (xQi V g K) :=
  ew_sp rfl (Nat.le_of_ble_eq_true rfl) (T_X6_of_N_E d V g K a b s0 (H _ (fun x1 x2 x3 s0 H => T_X6_of_N_7 d V g K x1 x2 x3 s0 H)))
abbrev mm_X1_reasons : EM := (yX1_reasons, cX1_reasons, 4, (Option.some .int), [])
theorem me_X1_reasons : e_mth mm_X1_reasons 2 := ⟨rfl, q1156, q108, by decide +kernel, by decide⟩
def B_X1_reasons_E (K : Int → XS → Prop) (a : Int) (b : Int) (s0 : XS) : Prop :=
  (C_X1_why a b s0 (fun r1 => ((r1 ≤ 0 → (C_X6_of_N a b s0 (fun r6 s7 => (C_X1_fine r6 s7 (fun r10 s11 => K r10 s11))))) ∧ (¬ r1 ≤ 0 → (C_X1_refused r1 s0 (fun r14 s15 => K r14 s15))))))
set_option maxHeartbeats 4000000 in
theorem T_X1_reasons_E (d : Nat) (V : XV) (g : AH) (hg : xf 85 g) (hr : xfree V g) (K : Int → XS → Prop) (a : Int) (b : Int) (s0 : XS) (H : B_X1_reasons_E K a b s0) : EW mm_X1_reasons (d + 85) 1 2 (tQi V g K) 0 [(0, aR (some xT)), (1, aI a), (2, aI b)] [] (xh V s0 g) := by
  refine ew_aload_n dX1_reasons_0 rfl lm0 ?_
  refine ew_iload_n dX1_reasons_1 rfl lm1 ?_
  refine ew_iload_n dX1_reasons_2 rfl lm2 ?_
  refine ew_callV (d := d + 84) (as := [aI a, aI b]) rfl dX1_reasons_3 me_X1_why rfl (ci := 0) rfl rfl xh_x (Or.inl q1157) q1159 qs35 (Nat.le_of_ble_eq_true rfl) (Nat.le_of_ble_eq_true rfl) (Nat.le_of_ble_eq_true rfl) (S_X1_why (d := d + 81) (xf.le hg (Nat.le_of_ble_eq_true rfl)) hr H) (fun o h' hq3 _ => ?_) (fun E i h' q _ => (cQ_no q).elim)
  obtain ⟨r1, E4, rfl, H⟩ := hq3
  cases E4
  refine ew_istore_n dX1_reasons_6 rfl (by decide) (lv' := [(3, aI r1), (0, aR (some xT)), (1, aI a), (2, aI b)]) rfl ?_
  refine ew_sub (List.forall_mem_cons.mpr ⟨lm1, (List.forall_mem_cons.mpr ⟨lm2, (List.forall_mem_cons.mpr ⟨lm3, (List.forall_mem_cons.mpr ⟨lm0, e_nm⟩)⟩)⟩)⟩) ?_
  refine ew_iload_n dX1_reasons_7 rfl lm3 ?_
  refine ew_if_le (tgt := 19) dX1_reasons_8 (by decide) (fun c5 => ?_) (fun c5 => ?_)
  · replace H := H.1 c5
    refine ew_aload_n dX1_reasons_19 rfl lm0 ?_
    refine ew_aload_n dX1_reasons_20 rfl lm0 ?_
    refine xw_get (v := aR (some (sI V 4 99))) dX1_reasons_21 (e_fl.a q334) xf_6 rfl ?_
    refine ew_iload_n dX1_reasons_24 rfl lm1 ?_
    refine ew_iload_n dX1_reasons_25 rfl lm2 ?_
    refine ew_callV (d := d + 84) (as := [aI a, aI b]) rfl dX1_reasons_26 me_X6_of rfl (ci := 5) rfl rfl (xh_y (j := 4) (by decide)) (Or.inl q1161) q1162 q1163 (Nat.le_of_ble_eq_true rfl) (Nat.zero_le _) (Nat.zero_le _) (S_X6_of_N (d := d + 0) H) (fun o h' hq8 _ => ?_) (fun E i h' q _ => (xQi_no q).elim)
    obtain ⟨r6, s7, E9, rfl, H⟩ := hq8
    cases E9
    refine ew_callV (d := d + 84) (as := [aI r6]) rfl dX1_reasons_29 me_X1_fine rfl (ci := 0) rfl rfl xh_x (Or.inl q1032) q1034 qs24 (Nat.le_of_ble_eq_true rfl) (Nat.zero_le _) (Nat.zero_le _) (S_X1_fine (d := d + 84) H) (fun o h' hq12 _ => ?_) (fun E i h' q _ => (xQi_no q).elim)
    obtain ⟨r10, s11, E13, rfl, H⟩ := hq12
    cases E13
    exact ew_ret (o := some (aI r10)) rfl ⟨_, _, _, rfl, rfl, eX.rf, H⟩ ⟨dX1_reasons_32, .int, rfl, Or.inl rfl, rfl⟩
  · replace H := H.2 c5
    refine ew_aload_n dX1_reasons_11 rfl lm0 ?_
    refine ew_iload_n dX1_reasons_12 rfl lm3 ?_
    refine ew_callV (d := d + 84) (as := [aI r1]) rfl dX1_reasons_13 me_X1_refused rfl (ci := 0) rfl rfl xh_x (Or.inl q406) q408 qs1 (Nat.le_of_ble_eq_true rfl) (Nat.zero_le _) (Nat.zero_le _) (S_X1_refused (d := d + 84) H) (fun o h' hq16 _ => ?_) (fun E i h' q _ => (xQi_no q).elim)
    obtain ⟨r14, s15, E17, rfl, H⟩ := hq16
    cases E17
    refine ew_goto (tgt := 32) dX1_reasons_16 (by decide) ?_
    exact ew_ret (o := some (aI r14)) rfl ⟨_, _, _, rfl, rfl, eX.rf, H⟩ ⟨dX1_reasons_32, .int, rfl, Or.inl rfl, rfl⟩
def C_X1_reasons (a : Int) (b : Int) (s0 : XS) (K : Int → XS → Prop) : Prop := B_X1_reasons_E K a b s0
theorem S_X1_reasons {d : Nat} {V : XV} {g : AH} {K : Int → XS → Prop} {a : Int} {b : Int} {s0 : XS} (hg : xf 85 g) (hr : xfree V g) (H : C_X1_reasons a b s0 K) : Sp mm_X1_reasons (d + 85) 1 2 [aR (some xT), aI a, aI b] (xh V s0 g) (xQi V g K) :=
  Sp.forget hr tQi_x (ew_sp rfl (Nat.le_of_ble_eq_true rfl) (T_X1_reasons_E d V g hg hr K a b s0 (H )))
abbrev mm_X1_feedAll : EM := (yX1_feedAll, cX1_feedAll, 7, (Option.none : Option Jvm.ClassFile.FieldType), [])
theorem me_X1_feedAll : e_mth mm_X1_feedAll 1 := ⟨rfl, q397, q108, by decide +kernel, by decide⟩
def B_X1_feedAll_8 (X8 : Int → Int → XS → Prop) (X24 : Int → Int → Int → Int → XS → Prop) (K : XS → Prop) (x3 : Int) (x4 : Int) (n : Nat) (f : Int → Int) (s0 : XS) : Prop :=
  ((x3 ≤ x4 → K s0) ∧ (¬ x3 ≤ x4 → ((0 ≤ x4 ∧ x4 < (n : Int)) ∧ X24 x3 x4 (f x4) 24 s0)))
def B_X1_feedAll_24 (X8 : Int → Int → XS → Prop) (X24 : Int → Int → Int → Int → XS → Prop) (K : XS → Prop) (x3 : Int) (x4 : Int) (x5 : Int) (x6 : Int) (n : Nat) (f : Int → Int) (s0 : XS) : Prop :=
  ((x6 < 0 → (inI (x4 + 1) ∧ X8 x3 (x4 + 1) s0)) ∧ (¬ x6 < 0 → ((((Int32.ofInt (jb (jshr x5 x6))).toInt8.toInt32 = Int32.ofInt (jb (jshr x5 x6)) ∧ 0 ≤ (s0.1.1 3) ∧ (s0.1.1 3) < 500)) ∧ ∀ s3 : XS, s3 = xa s0 2 (s0.1.1 3) (jb (jshr x5 x6)) → ((inI ((s3.1.1 3) + 1)) ∧ (∀ s7 : XS, s7 = xs s3 3 ((s3.1.1 3) + 1) → (inI (x6 + (-8)) ∧ X24 x3 x4 x5 (x6 + (-8)) s7))))))
def B_X1_feedAll_E (X8 : Int → Int → XS → Prop) (X24 : Int → Int → Int → Int → XS → Prop) (K : XS → Prop) (n : Nat) (f : Int → Int) (s0 : XS) : Prop :=
  X8 (n : Int) 0 s0
def W_X1_feedAll_8 (d : Nat) (V : XV) (g : AH) (ia : EId) (n : Nat) (f : Int → Int) (K : XS → Prop) (x3 : Int) (x4 : Int) (s0 : XS) : Prop := EW mm_X1_feedAll (d + 0) 0 0 (xQv V g K) 8 [(0, aR (some xT)), (2, aR (some ia)), (3, aI x3), (4, aI x4)] [] (xh V s0 g)
def W_X1_feedAll_24 (d : Nat) (V : XV) (g : AH) (ia : EId) (n : Nat) (f : Int → Int) (K : XS → Prop) (x3 : Int) (x4 : Int) (x5 : Int) (x6 : Int) (s0 : XS) : Prop := EW mm_X1_feedAll (d + 0) 0 0 (xQv V g K) 24 [(0, aR (some xT)), (2, aR (some ia)), (3, aI x3), (4, aI x4), (5, aI x5), (6, aI x6)] [] (xh V s0 g)
set_option maxHeartbeats 4000000 in
theorem T_X1_feedAll_8 (d : Nat) (V : XV) (g : AH) (ia : EId) (n : Nat) (f : Int → Int) (K : XS → Prop) (x3 : Int) (x4 : Int) (s0 : XS) (hA : ∀ s, xh V s g ia = some (kI 0 n f)) (hn : (n : Int) < 2147483648) (H : B_X1_feedAll_8 (W_X1_feedAll_8 d V g ia n f K) (W_X1_feedAll_24 d V g ia n f K) K x3 x4 n f s0) : EW mm_X1_feedAll (d + 0) 0 0 (xQv V g K) 8 [(0, aR (some xT)), (2, aR (some ia)), (3, aI x3), (4, aI x4)] [] (xh V s0 g) := by
  refine ew_iload dX1_feedAll_8 lm3 ?_
  refine ew_iload_n dX1_feedAll_10 rfl lm2 ?_
  refine ew_icmp_ge (tgt := 66) dX1_feedAll_11 (by decide) (fun c1 => ?_) (fun c1 => ?_)
  · replace H := H.1 c1
    exact ew_ret (o := none) rfl ⟨_, rfl, rfl, H⟩ ⟨rfl, dX1_feedAll_66⟩
  · replace H := H.2 c1
    refine ew_aload_n dX1_feedAll_14 rfl lm1 ?_
    refine ew_iload dX1_feedAll_15 lm3 ?_
    obtain ⟨v2, H⟩ := H
    refine ew_iald dX1_feedAll_17 (hA _) v2.1 v2.2 ?_
    refine ew_istore dX1_feedAll_18 (by decide) (lv' := [(5, aI (f x4)), (0, aR (some xT)), (2, aR (some ia)), (3, aI x3), (4, aI x4)]) rfl ?_
    refine ew_sub (List.forall_mem_cons.mpr ⟨lm1, (List.forall_mem_cons.mpr ⟨lm2, (List.forall_mem_cons.mpr ⟨lm3, (List.forall_mem_cons.mpr ⟨lm4, (List.forall_mem_cons.mpr ⟨lm0, e_nm⟩)⟩)⟩)⟩)⟩) ?_
    refine ew_bipush dX1_feedAll_20 (inI_of rfl) (by decide) ?_
    refine ew_istore dX1_feedAll_22 (by decide) (lv' := [(6, aI 24), (0, aR (some xT)), (2, aR (some ia)), (3, aI x3), (4, aI x4), (5, aI (f x4))]) rfl ?_
    refine ew_sub (List.forall_mem_cons.mpr ⟨lm1, (List.forall_mem_cons.mpr ⟨lm2, (List.forall_mem_cons.mpr ⟨lm3, (List.forall_mem_cons.mpr ⟨lm4, (List.forall_mem_cons.mpr ⟨lm5, (List.forall_mem_cons.mpr ⟨lm0, e_nm⟩)⟩)⟩)⟩)⟩)⟩) ?_
    exact ew_room (Nat.le_refl _) (Nat.zero_le _) (Nat.zero_le _) (ew_sub (List.forall_mem_cons.mpr ⟨lm0, (List.forall_mem_cons.mpr ⟨lm1, (List.forall_mem_cons.mpr ⟨lm2, (List.forall_mem_cons.mpr ⟨lm3, (List.forall_mem_cons.mpr ⟨lm4, (List.forall_mem_cons.mpr ⟨lm5, e_nm⟩)⟩)⟩)⟩)⟩)⟩) H)
set_option maxHeartbeats 4000000 in
theorem T_X1_feedAll_24 (d : Nat) (V : XV) (g : AH) (ia : EId) (n : Nat) (f : Int → Int) (K : XS → Prop) (x3 : Int) (x4 : Int) (x5 : Int) (x6 : Int) (s0 : XS) (hA : ∀ s, xh V s g ia = some (kI 0 n f)) (hn : (n : Int) < 2147483648) (H : B_X1_feedAll_24 (W_X1_feedAll_8 d V g ia n f K) (W_X1_feedAll_24 d V g ia n f K) K x3 x4 x5 x6 n f s0) : EW mm_X1_feedAll (d + 0) 0 0 (xQv V g K) 24 [(0, aR (some xT)), (2, aR (some ia)), (3, aI x3), (4, aI x4), (5, aI x5), (6, aI x6)] [] (xh V s0 g) := by
  refine ew_iload dX1_feedAll_24 lm5 ?_
  refine ew_if_lt (tgt := 60) dX1_feedAll_26 (by decide) (fun c1 => ?_) (fun c1 => ?_)
  · replace H := H.1 c1
    obtain ⟨v2, H⟩ := H
    refine ew_iinc dX1_feedAll_60 lm3 (by decide) v2 (lv' := [(4, aI (x4 + 1)), (0, aR (some xT)), (2, aR (some ia)), (3, aI x3), (5, aI x5), (6, aI x6)]) rfl ?_
    refine ew_sub (List.forall_mem_cons.mpr ⟨lm1, (List.forall_mem_cons.mpr ⟨lm2, (List.forall_mem_cons.mpr ⟨lm3, (List.forall_mem_cons.mpr ⟨lm0, (List.forall_mem_cons.mpr ⟨lm4, (List.forall_mem_cons.mpr ⟨lm5, e_nm⟩)⟩)⟩)⟩)⟩)⟩) ?_
    refine ew_goto (tgt := 8) dX1_feedAll_63 (by decide) ?_
    exact ew_room (Nat.le_refl _) (Nat.zero_le _) (Nat.zero_le _) (ew_sub (List.forall_mem_cons.mpr ⟨lm0, (List.forall_mem_cons.mpr ⟨lm1, (List.forall_mem_cons.mpr ⟨lm2, (List.forall_mem_cons.mpr ⟨lm3, e_nm⟩)⟩)⟩)⟩) H)
  · replace H := H.2 c1
    refine ew_aload_n dX1_feedAll_29 rfl lm0 ?_
    refine xw_get (v := aR (some (0, 2, 2))) dX1_feedAll_30 (e_fl.a q330) xf_2 rfl ?_
    refine ew_aload_n dX1_feedAll_33 rfl lm0 ?_
    refine xw_get (v := aI (s0.1.1 3)) dX1_feedAll_34 (e_fl.a q331) xf_3 rfl ?_
    refine ew_iload dX1_feedAll_37 lm4 ?_
    refine ew_iload dX1_feedAll_39 lm5 ?_
    refine ew_ishr dX1_feedAll_41 ?_
    refine ew_i2b dX1_feedAll_42 ?_
    obtain ⟨v5, H⟩ := H
    refine xw_bast dX1_feedAll_43 (by decide) rfl rfl (Or.inr ⟨rfl, v5.1⟩) v5.2.1 v5.2.2 (fun s3 e4 => ?_)
    replace H := H s3 e4
    refine ew_aload_n dX1_feedAll_44 rfl lm0 ?_
    refine ew_dup dX1_feedAll_45 rfl ?_
    refine xw_get (v := aI (s3.1.1 3)) dX1_feedAll_46 (e_fl.a q331) xf_3 rfl ?_
    refine ew_iconst dX1_feedAll_49 (inI_of rfl) ?_
    obtain ⟨v6, H⟩ := H
    refine ew_iadd dX1_feedAll_50 v6 ?_
    refine xw_put dX1_feedAll_51 (e_fl.a q331) xf_3 rfl (by decide +kernel) (fun s7 e8 => ?_)
    replace H := H s7 e8
    obtain ⟨v10, H⟩ := H
    refine ew_iinc dX1_feedAll_54 lm5 (by decide) v10 (lv' := [(6, aI (x6 + (-8))), (0, aR (some xT)), (2, aR (some ia)), (3, aI x3), (4, aI x4), (5, aI x5)]) rfl ?_
    refine ew_sub (List.forall_mem_cons.mpr ⟨lm1, (List.forall_mem_cons.mpr ⟨lm2, (List.forall_mem_cons.mpr ⟨lm3, (List.forall_mem_cons.mpr ⟨lm4, (List.forall_mem_cons.mpr ⟨lm5, (List.forall_mem_cons.mpr ⟨lm0, e_nm⟩)⟩)⟩)⟩)⟩)⟩) ?_
    refine ew_goto (tgt := 24) dX1_feedAll_57 (by decide) ?_
    exact ew_room (Nat.le_refl _) (Nat.zero_le _) (Nat.zero_le _) (ew_sub (List.forall_mem_cons.mpr ⟨lm0, (List.forall_mem_cons.mpr ⟨lm1, (List.forall_mem_cons.mpr ⟨lm2, (List.forall_mem_cons.mpr ⟨lm3, (List.forall_mem_cons.mpr ⟨lm4, (List.forall_mem_cons.mpr ⟨lm5, e_nm⟩)⟩)⟩)⟩)⟩)⟩) H)
set_option maxHeartbeats 4000000 in
theorem T_X1_feedAll_E (d : Nat) (V : XV) (g : AH) (ia : EId) (n : Nat) (f : Int → Int) (K : XS → Prop) (s0 : XS) (hA : ∀ s, xh V s g ia = some (kI 0 n f)) (hn : (n : Int) < 2147483648) (H : B_X1_feedAll_E (W_X1_feedAll_8 d V g ia n f K) (W_X1_feedAll_24 d V g ia n f K) K n f s0) : EW mm_X1_feedAll (d + 0) 0 0 (xQv V g K) 0 [(0, aR (some xT)), (1, aR (some ia))] [] (xh V s0 g) := by
  refine ew_aload_n dX1_feedAll_0 rfl lm1 ?_
  refine ew_astore_n dX1_feedAll_1 rfl (by decide) (lv' := [(2, aR (some ia)), (0, aR (some xT)), (1, aR (some ia))]) rfl ?_
  refine ew_sub (List.forall_mem_cons.mpr ⟨lm1, (List.forall_mem_cons.mpr ⟨lm2, (List.forall_mem_cons.mpr ⟨lm0, e_nm⟩)⟩)⟩) ?_
  refine ew_aload_n dX1_feedAll_2 rfl lm2 ?_
  refine ew_alen dX1_feedAll_3 (hA _) (Or.inl ⟨_, _, rfl⟩) hn ?_
  refine ew_istore_n dX1_feedAll_4 rfl (by decide) (lv' := [(3, aI (n : Int)), (0, aR (some xT)), (1, aR (some ia)), (2, aR (some ia))]) rfl ?_
  refine ew_sub (List.forall_mem_cons.mpr ⟨lm1, (List.forall_mem_cons.mpr ⟨lm2, (List.forall_mem_cons.mpr ⟨lm3, (List.forall_mem_cons.mpr ⟨lm0, e_nm⟩)⟩)⟩)⟩) ?_
  refine ew_iconst dX1_feedAll_5 (inI_of rfl) ?_
  refine ew_istore dX1_feedAll_6 (by decide) (lv' := [(4, aI 0), (0, aR (some xT)), (1, aR (some ia)), (2, aR (some ia)), (3, aI (n : Int))]) rfl ?_
  refine ew_sub (List.forall_mem_cons.mpr ⟨lm1, (List.forall_mem_cons.mpr ⟨lm2, (List.forall_mem_cons.mpr ⟨lm3, (List.forall_mem_cons.mpr ⟨lm4, (List.forall_mem_cons.mpr ⟨lm0, e_nm⟩)⟩)⟩)⟩)⟩) ?_
  exact ew_room (Nat.le_refl _) (Nat.zero_le _) (Nat.zero_le _) (ew_sub (List.forall_mem_cons.mpr ⟨lm0, (List.forall_mem_cons.mpr ⟨lm2, (List.forall_mem_cons.mpr ⟨lm3, (List.forall_mem_cons.mpr ⟨lm4, e_nm⟩)⟩)⟩)⟩) H)
def C_X1_feedAll (n : Nat) (f : Int → Int) (s0 : XS) (K : XS → Prop) : Prop := ∀ (X8 : Int → Int → XS → Prop) (X24 : Int → Int → Int → Int → XS → Prop), (∀ (x3 : Int) (x4 : Int) (s0 : XS), B_X1_feedAll_8 X8 X24 K x3 x4 n f s0 → X8 x3 x4 s0) → (∀ (x3 : Int) (x4 : Int) (x5 : Int) (x6 : Int) (s0 : XS), B_X1_feedAll_24 X8 X24 K x3 x4 x5 x6 n f s0 → X24 x3 x4 x5 x6 s0) → B_X1_feedAll_E X8 X24 K n f s0
theorem S_X1_feedAll {d : Nat} {V : XV} {g : AH} {ia : EId} {n : Nat} {f : Int → Int} {K : XS → Prop} {s0 : XS} (hA : ∀ s, xh V s g ia = some (kI 0 n f)) (hn : (n : Int) < 2147483648) (H : C_X1_feedAll n f s0 K) : Sp mm_X1_feedAll (d + 0) 0 0 [aR (some xT), aR (some ia)] (xh V s0 g) (xQv V g K) :=
  ew_sp rfl (Nat.le_of_ble_eq_true rfl) (T_X1_feedAll_E d V g ia n f K s0 hA hn (H _ _ (fun x3 x4 s0 H => T_X1_feedAll_8 d V g ia n f K x3 x4 s0 hA hn H) (fun x3 x4 x5 x6 s0 H => T_X1_feedAll_24 d V g ia n f K x3 x4 x5 x6 s0 hA hn H)))
