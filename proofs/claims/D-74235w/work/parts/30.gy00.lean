/-! ReasonCloser: sheet 4, by program (gen/gxn.py) -/
set_option maxRecDepth 100000
def B_X3_puts_N_E (K : XS → Prop) (a : Nat) (b : Int) (c : Int) (e : Int) (kc ks : Nat) (s0 : XS) : Prop :=
  (((xtl (xq s0) : Int) < 2147483648) ∧ (((xtl (xq s0) : Int) ≤ 0 → ((((a = 0 ∨ a = 5 ∨ a = 6) ∧ 0 ≤ c ∧ c < 24)) ∧ ∀ s3 : XS, s3 = ya s0 4 a c e → K s3)) ∧ (¬ (xtl (xq s0) : Int) ≤ 0 → ((inI (((s0.2 4).1 3) + 3)) ∧ (((xtl (xq s0) : Int) < 2147483648) ∧ (((((s0.2 4).1 3) + 3) ≤ (xtl (xq s0) : Int) → (((0 ≤ ((s0.2 4).1 3) ∧ ((s0.2 4).1 3) < (xtl (xq s0) : Int))) ∧ ∀ s9 : XS, s9 = ya s0 4 (100 + xq s0) ((s0.2 4).1 3) b → ((inI (((s9.2 4).1 3) + 1)) ∧ (((0 ≤ (((s9.2 4).1 3) + 1) ∧ (((s9.2 4).1 3) + 1) < (xtl (xq s9) : Int))) ∧ ∀ s13 : XS, s13 = ya s9 4 (100 + xq s9) (((s9.2 4).1 3) + 1) c → ((inI (((s13.2 4).1 3) + 2)) ∧ (((a = 0 ∨ a = 5 ∨ a = 6) ∧ 0 ≤ c ∧ c < 24) ∧ (((0 ≤ (((s13.2 4).1 3) + 2) ∧ (((s13.2 4).1 3) + 2) < (xtl (xq s13) : Int))) ∧ ∀ s18 : XS, s18 = ya s13 4 (100 + xq s13) (((s13.2 4).1 3) + 2) ((s13.2 4).2 a c) → ((inI (((s18.2 4).1 3) + 3)) ∧ (∀ s22 : XS, s22 = ys s18 4 3 (((s18.2 4).1 3) + 3) → ((((a = 0 ∨ a = 5 ∨ a = 6) ∧ 0 ≤ c ∧ c < 24)) ∧ ∀ s25 : XS, s25 = ya s22 4 a c e → K s25)))))))))) ∧ (¬ (((s0.2 4).1 3) + 3) ≤ (xtl (xq s0) : Int) → (((xtl (xq s0) : Int) < 2147483648) ∧ ((inI (2 * (xtl (xq s0) : Int))) ∧ ((xtl (xq s0) ≤ 5000 ∧ 1 ≤ kc ∧ xtl (xq s0 + 1) ≤ ks) ∧ ((0 ≤ ((s0.2 4).1 3) ∧ ((s0.2 4).1 3) ≤ (xtl (xq s0) : Int)) ∧ (∀ s32 : XS, s32 = yg s0 (icpy ((s0.2 4).2 (100 + xq s0)) (fun _ => 0) 0 0 ((s0.2 4).1 3)) → (((0 ≤ ((s32.2 4).1 3) ∧ ((s32.2 4).1 3) < (xtl (xq s32) : Int))) ∧ ∀ s34 : XS, s34 = ya s32 4 (100 + xq s32) ((s32.2 4).1 3) b → ((inI (((s34.2 4).1 3) + 1)) ∧ (((0 ≤ (((s34.2 4).1 3) + 1) ∧ (((s34.2 4).1 3) + 1) < (xtl (xq s34) : Int))) ∧ ∀ s38 : XS, s38 = ya s34 4 (100 + xq s34) (((s34.2 4).1 3) + 1) c → ((inI (((s38.2 4).1 3) + 2)) ∧ (((a = 0 ∨ a = 5 ∨ a = 6) ∧ 0 ≤ c ∧ c < 24) ∧ (((0 ≤ (((s38.2 4).1 3) + 2) ∧ (((s38.2 4).1 3) + 2) < (xtl (xq s38) : Int))) ∧ ∀ s43 : XS, s43 = ya s38 4 (100 + xq s38) (((s38.2 4).1 3) + 2) ((s38.2 4).2 a c) → ((inI (((s43.2 4).1 3) + 3)) ∧ (∀ s47 : XS, s47 = ys s43 4 3 (((s43.2 4).1 3) + 3) → ((((a = 0 ∨ a = 5 ∨ a = 6) ∧ 0 ≤ c ∧ c < 24)) ∧ ∀ s50 : XS, s50 = ya s47 4 a c e → K s50)))))))))))))))))))))
set_option maxHeartbeats 4000000 in
theorem T_X3_puts_N_E (d : Nat) (V : XV) (g : AH) (ht : ∀ q, g (tI V 4 q) = none) (K : XS → Prop) (a : Nat) (b : Int) (c : Int) (e : Int) (kc ks : Nat) (s0 : XS) (H : B_X3_puts_N_E K a b c e kc ks s0) : EW mm_X3_puts (d + 1) kc ks (xQv V g K) 0 [(0, aR (some (sI V 4 99))), (1, aR (some (sI V 4 a))), (2, aI b), (3, aI c), (4, aI e)] [] (xh V s0 g) := by
  refine ew_aload_n dX3_puts_0 rfl lm0 ?_
  refine yw_get (cs := [3, 4, 5]) (v := aR (some (tI V 4 (xq s0)))) dX3_puts_1 (by decide) (e_fl.a q271) yf_2 (by decide) rfl ?_
  obtain ⟨v1, H⟩ := H
  refine tw_alen dX3_puts_4 v1 ?_
  refine ew_if_le (tgt := 100) dX3_puts_5 (by decide) (fun c2 => ?_) (fun c2 => ?_)
  · replace H := H.1 c2
    refine ew_aload_n dX3_puts_100 rfl lm1 ?_
    refine ew_iload_n dX3_puts_101 rfl lm3 ?_
    refine ew_iload dX3_puts_102 lm4 ?_
    obtain ⟨v5, H⟩ := H
    refine yw_iast dX3_puts_104 (by decide) (row_100 v5.1) (sC_rowN v5.1) (sC_rowN v5.1) v5.2.1 v5.2.2 (fun s3 e4 => ?_)
    replace H := H s3 e4
    exact ew_ret (o := none) rfl ⟨_, rfl, rfl, H⟩ ⟨rfl, dX3_puts_105⟩
  · replace H := H.2 c2
    refine ew_aload_n dX3_puts_8 rfl lm0 ?_
    refine yw_get (cs := [3, 4, 5]) (v := aI ((s0.2 4).1 3)) dX3_puts_9 (by decide) (e_fl.a q272) yf_3 (by decide) rfl ?_
    refine ew_iconst dX3_puts_12 (inI_of rfl) ?_
    obtain ⟨v6, H⟩ := H
    refine ew_iadd dX3_puts_13 v6 ?_
    refine ew_aload_n dX3_puts_14 rfl lm0 ?_
    refine yw_get (cs := [3, 4, 5]) (v := aR (some (tI V 4 (xq s0)))) dX3_puts_15 (by decide) (e_fl.a q271) yf_2 (by decide) rfl ?_
    obtain ⟨v7, H⟩ := H
    refine tw_alen dX3_puts_18 v7 ?_
    refine ew_icmp_le (tgt := 54) dX3_puts_19 (by decide) (fun c8 => ?_) (fun c8 => ?_)
    · replace H := H.1 c8
      refine ew_aload_n dX3_puts_54 rfl lm0 ?_
      refine yw_get (cs := [3, 4, 5]) (v := aR (some (tI V 4 (xq s0)))) dX3_puts_55 (by decide) (e_fl.a q271) yf_2 (by decide) rfl ?_
      refine ew_aload_n dX3_puts_58 rfl lm0 ?_
      refine yw_get (cs := [3, 4, 5]) (v := aI ((s0.2 4).1 3)) dX3_puts_59 (by decide) (e_fl.a q272) yf_3 (by decide) rfl ?_
      refine ew_iload_n dX3_puts_62 rfl lm2 ?_
      obtain ⟨v11, H⟩ := H
      refine tw_iast dX3_puts_63 v11.1 v11.2 (fun s9 e10 => ?_)
      replace H := H s9 e10
      refine ew_aload_n dX3_puts_64 rfl lm0 ?_
      refine yw_get (cs := [3, 4, 5]) (v := aR (some (tI V 4 (xq s9)))) dX3_puts_65 (by decide) (e_fl.a q271) yf_2 (by decide) rfl ?_
      refine ew_aload_n dX3_puts_68 rfl lm0 ?_
      refine yw_get (cs := [3, 4, 5]) (v := aI ((s9.2 4).1 3)) dX3_puts_69 (by decide) (e_fl.a q272) yf_3 (by decide) rfl ?_
      refine ew_iconst dX3_puts_72 (inI_of rfl) ?_
      obtain ⟨v12, H⟩ := H
      refine ew_iadd dX3_puts_73 v12 ?_
      refine ew_iload_n dX3_puts_74 rfl lm3 ?_
      obtain ⟨v15, H⟩ := H
      refine tw_iast dX3_puts_75 v15.1 v15.2 (fun s13 e14 => ?_)
      replace H := H s13 e14
      refine ew_aload_n dX3_puts_76 rfl lm0 ?_
      refine yw_get (cs := [3, 4, 5]) (v := aR (some (tI V 4 (xq s13)))) dX3_puts_77 (by decide) (e_fl.a q271) yf_2 (by decide) rfl ?_
      refine ew_aload_n dX3_puts_80 rfl lm0 ?_
      refine yw_get (cs := [3, 4, 5]) (v := aI ((s13.2 4).1 3)) dX3_puts_81 (by decide) (e_fl.a q272) yf_3 (by decide) rfl ?_
      refine ew_iconst dX3_puts_84 (inI_of rfl) ?_
      obtain ⟨v16, H⟩ := H
      refine ew_iadd dX3_puts_85 v16 ?_
      refine ew_aload_n dX3_puts_86 rfl lm1 ?_
      refine ew_iload_n dX3_puts_87 rfl lm3 ?_
      obtain ⟨v17, H⟩ := H
      refine yw_iald dX3_puts_88 (by decide) (sC_rowN v17.1) v17.2.1 v17.2.2 ?_
      obtain ⟨v20, H⟩ := H
      refine tw_iast dX3_puts_89 v20.1 v20.2 (fun s18 e19 => ?_)
      replace H := H s18 e19
      refine ew_aload_n dX3_puts_90 rfl lm0 ?_
      refine ew_dup dX3_puts_91 rfl ?_
      refine yw_get (cs := [3, 4, 5]) (v := aI ((s18.2 4).1 3)) dX3_puts_92 (by decide) (e_fl.a q272) yf_3 (by decide) rfl ?_
      refine ew_iconst dX3_puts_95 (inI_of rfl) ?_
      obtain ⟨v21, H⟩ := H
      refine ew_iadd dX3_puts_96 v21 ?_
      refine yw_put (cs := [3, 4, 5]) dX3_puts_97 (by decide) (e_fl.a q272) yf_3 (by decide) rfl (by decide +kernel) (fun s22 e23 => ?_)
      replace H := H s22 e23
      refine ew_aload_n dX3_puts_100 rfl lm1 ?_
      refine ew_iload_n dX3_puts_101 rfl lm3 ?_
      refine ew_iload dX3_puts_102 lm4 ?_
      obtain ⟨v27, H⟩ := H
      refine yw_iast dX3_puts_104 (by decide) (row_100 v27.1) (sC_rowN v27.1) (sC_rowN v27.1) v27.2.1 v27.2.2 (fun s25 e26 => ?_)
      replace H := H s25 e26
      exact ew_ret (o := none) rfl ⟨_, rfl, rfl, H⟩ ⟨rfl, dX3_puts_105⟩
    · replace H := H.2 c8
      refine ew_iconst dX3_puts_22 (inI_of rfl) ?_
      refine ew_aload_n dX3_puts_23 rfl lm0 ?_
      refine yw_get (cs := [3, 4, 5]) (v := aR (some (tI V 4 (xq s0)))) dX3_puts_24 (by decide) (e_fl.a q271) yf_2 (by decide) rfl ?_
      obtain ⟨v28, H⟩ := H
      refine tw_alen dX3_puts_27 v28 ?_
      obtain ⟨v29, H⟩ := H
      refine ew_imul dX3_puts_28 v29 ?_
      obtain ⟨v30, H⟩ := H
      refine gw_new dX3_puts_29 rfl v30.1 ht v30.2.1 v30.2.2 ?_
      refine ew_astore dX3_puts_31 (by decide) (lv' := [(5, aR (some (tI V 4 (xq s0 + 1)))), (0, aR (some (sI V 4 99))), (1, aR (some (sI V 4 a))), (2, aI b), (3, aI c), (4, aI e)]) rfl ?_
      refine ew_sub (List.forall_mem_cons.mpr ⟨lm1, (List.forall_mem_cons.mpr ⟨lm2, (List.forall_mem_cons.mpr ⟨lm3, (List.forall_mem_cons.mpr ⟨lm4, (List.forall_mem_cons.mpr ⟨lm5, (List.forall_mem_cons.mpr ⟨lm0, e_nm⟩)⟩)⟩)⟩)⟩)⟩) ?_
      refine ew_aload_n dX3_puts_33 rfl lm0 ?_
      refine yw_get (cs := [3, 4, 5]) (v := aR (some (tI V 4 (xq s0)))) dX3_puts_34 (by decide) (e_fl.a q271) yf_2 (by decide) rfl ?_
      refine ew_iconst dX3_puts_37 (inI_of rfl) ?_
      refine ew_aload dX3_puts_38 lm5 ?_
      refine ew_iconst dX3_puts_40 (inI_of rfl) ?_
      refine ew_aload_n dX3_puts_41 rfl lm0 ?_
      refine yw_get (cs := [3, 4, 5]) (v := aI ((s0.2 4).1 3)) dX3_puts_42 (by decide) (e_fl.a q272) yf_3 (by decide) rfl ?_
      obtain ⟨v31, H⟩ := H
      refine gw_copy (d := d + 0) dX3_puts_45 q965 rfl rfl v31 (Nat.le_of_ble_eq_true rfl) ?_
      refine ew_aload_n dX3_puts_48 rfl lm0 ?_
      refine ew_aload dX3_puts_49 lm5 ?_
      refine gw_put dX3_puts_51 (e_fl.a q271) (fun s32 e33 => ?_)
      replace H := H s32 e33
      refine ew_aload_n dX3_puts_54 rfl lm0 ?_
      refine yw_get (cs := [3, 4, 5]) (v := aR (some (tI V 4 (xq s32)))) dX3_puts_55 (by decide) (e_fl.a q271) yf_2 (by decide) rfl ?_
      refine ew_aload_n dX3_puts_58 rfl lm0 ?_
      refine yw_get (cs := [3, 4, 5]) (v := aI ((s32.2 4).1 3)) dX3_puts_59 (by decide) (e_fl.a q272) yf_3 (by decide) rfl ?_
      refine ew_iload_n dX3_puts_62 rfl lm2 ?_
      obtain ⟨v36, H⟩ := H
      refine tw_iast dX3_puts_63 v36.1 v36.2 (fun s34 e35 => ?_)
      replace H := H s34 e35
      refine ew_aload_n dX3_puts_64 rfl lm0 ?_
      refine yw_get (cs := [3, 4, 5]) (v := aR (some (tI V 4 (xq s34)))) dX3_puts_65 (by decide) (e_fl.a q271) yf_2 (by decide) rfl ?_
      refine ew_aload_n dX3_puts_68 rfl lm0 ?_
      refine yw_get (cs := [3, 4, 5]) (v := aI ((s34.2 4).1 3)) dX3_puts_69 (by decide) (e_fl.a q272) yf_3 (by decide) rfl ?_
      refine ew_iconst dX3_puts_72 (inI_of rfl) ?_
      obtain ⟨v37, H⟩ := H
      refine ew_iadd dX3_puts_73 v37 ?_
      refine ew_iload_n dX3_puts_74 rfl lm3 ?_
      obtain ⟨v40, H⟩ := H
      refine tw_iast dX3_puts_75 v40.1 v40.2 (fun s38 e39 => ?_)
      replace H := H s38 e39
      refine ew_aload_n dX3_puts_76 rfl lm0 ?_
      refine yw_get (cs := [3, 4, 5]) (v := aR (some (tI V 4 (xq s38)))) dX3_puts_77 (by decide) (e_fl.a q271) yf_2 (by decide) rfl ?_
      refine ew_aload_n dX3_puts_80 rfl lm0 ?_
      refine yw_get (cs := [3, 4, 5]) (v := aI ((s38.2 4).1 3)) dX3_puts_81 (by decide) (e_fl.a q272) yf_3 (by decide) rfl ?_
      refine ew_iconst dX3_puts_84 (inI_of rfl) ?_
      obtain ⟨v41, H⟩ := H
      refine ew_iadd dX3_puts_85 v41 ?_
      refine ew_aload_n dX3_puts_86 rfl lm1 ?_
      refine ew_iload_n dX3_puts_87 rfl lm3 ?_
      obtain ⟨v42, H⟩ := H
      refine yw_iald dX3_puts_88 (by decide) (sC_rowN v42.1) v42.2.1 v42.2.2 ?_
      obtain ⟨v45, H⟩ := H
      refine tw_iast dX3_puts_89 v45.1 v45.2 (fun s43 e44 => ?_)
      replace H := H s43 e44
      refine ew_aload_n dX3_puts_90 rfl lm0 ?_
      refine ew_dup dX3_puts_91 rfl ?_
      refine yw_get (cs := [3, 4, 5]) (v := aI ((s43.2 4).1 3)) dX3_puts_92 (by decide) (e_fl.a q272) yf_3 (by decide) rfl ?_
      refine ew_iconst dX3_puts_95 (inI_of rfl) ?_
      obtain ⟨v46, H⟩ := H
      refine ew_iadd dX3_puts_96 v46 ?_
      refine yw_put (cs := [3, 4, 5]) dX3_puts_97 (by decide) (e_fl.a q272) yf_3 (by decide) rfl (by decide +kernel) (fun s47 e48 => ?_)
      replace H := H s47 e48
      refine ew_aload_n dX3_puts_100 rfl lm1 ?_
      refine ew_iload_n dX3_puts_101 rfl lm3 ?_
      refine ew_iload dX3_puts_102 lm4 ?_
      obtain ⟨v52, H⟩ := H
      refine yw_iast dX3_puts_104 (by decide) (row_100 v52.1) (sC_rowN v52.1) (sC_rowN v52.1) v52.2.1 v52.2.2 (fun s50 e51 => ?_)
      replace H := H s50 e51
      exact ew_ret (o := none) rfl ⟨_, rfl, rfl, H⟩ ⟨rfl, dX3_puts_105⟩
def C_X3_puts_N (kc ks : Nat) (a : Nat) (b : Int) (c : Int) (e : Int) (s0 : XS) (K : XS → Prop) : Prop := B_X3_puts_N_E K a b c e kc ks s0
theorem S_X3_puts_N {d : Nat} {V : XV} {g : AH} {K : XS → Prop} {a : Nat} {b : Int} {c : Int} {e : Int} {kc ks : Nat} {s0 : XS} (ht : ∀ q, g (tI V 4 q) = none) (H : C_X3_puts_N kc ks a b c e s0 K) : Sp mm_X3_puts (d + 1) kc ks [aR (some (sI V 4 99)), aR (some (sI V 4 a)), aI b, aI c, aI e] (xh V s0 g) (xQv V g K) :=
  ew_sp rfl (Nat.le_of_ble_eq_true rfl) (T_X3_puts_N_E d V g ht K a b c e kc ks s0 (H ))
def B_X3_unites_N_36 (X36 : Int → Int → Int → Nat → Nat → XS → Prop) (K : XS → Prop) (x3 : Int) (x4 : Int) (x5 : Int) (kc ks : Nat) (s0 : XS) : Prop :=
  ((((s0.2 4).1 1) ≤ x5 → K s0) ∧ (¬ ((s0.2 4).1 1) ≤ x5 → ((0 ≤ x5 ∧ x5 < 24) ∧ ((((s0.2 4).2 0 x5) = x4 → (∃ mc9c mc9s, mc9c ≤ kc ∧ mc9s ≤ ks ∧ C_X3_puts_N mc9c mc9s 0 0 x5 x3 s0 (fun s6 => (inI (x5 + 1) ∧ X36 x3 x4 (x5 + 1) (kc - mc9c) (ks - mc9s) s6)))) ∧ (¬ ((s0.2 4).2 0 x5) = x4 → (inI (x5 + 1) ∧ X36 x3 x4 (x5 + 1) kc ks s0))))))
def B_X3_unites_N_E (X36 : Int → Int → Int → Nat → Nat → XS → Prop) (K : XS → Prop) (a : Int) (b : Int) (kc ks : Nat) (s0 : XS) : Prop :=
  ((0 ≤ a ∧ a < 24) ∧ ((0 ≤ b ∧ b < 24) ∧ ((0 ≤ a ∧ a < 24) ∧ ((0 ≤ b ∧ b < 24) ∧ X36 (jmin ((s0.2 4).2 0 a) ((s0.2 4).2 0 b)) (jmax ((s0.2 4).2 0 a) ((s0.2 4).2 0 b)) 0 kc ks s0))))
def W_X3_unites_N_36 (d : Nat) (V : XV) (g : AH) (K : XS → Prop) (x3 : Int) (x4 : Int) (x5 : Int) (kc ks : Nat) (s0 : XS) : Prop := EW mm_X3_unites (d + 2) kc ks (xQv V g K) 36 [(0, aR (some (sI V 4 99))), (3, aI x3), (4, aI x4), (5, aI x5)] [] (xh V s0 g)
set_option maxHeartbeats 4000000 in
theorem T_X3_unites_N_36 (d : Nat) (V : XV) (g : AH) (ht : ∀ q, g (tI V 4 q) = none) (K : XS → Prop) (x3 : Int) (x4 : Int) (x5 : Int) (kc ks : Nat) (s0 : XS) (H : B_X3_unites_N_36 (W_X3_unites_N_36 d V g K) K x3 x4 x5 kc ks s0) : EW mm_X3_unites (d + 2) kc ks (xQv V g K) 36 [(0, aR (some (sI V 4 99))), (3, aI x3), (4, aI x4), (5, aI x5)] [] (xh V s0 g) := by
  refine ew_iload dX3_unites_36 lm3 ?_
  refine ew_aload_n dX3_unites_38 rfl lm0 ?_
  refine yw_get (cs := [3, 4, 5]) (v := aI ((s0.2 4).1 1)) dX3_unites_39 (by decide) (e_fl.a q266) yf_1 (by decide) rfl ?_
  refine ew_icmp_ge (tgt := 75) dX3_unites_42 (by decide) (fun c1 => ?_) (fun c1 => ?_)
  · replace H := H.1 c1
    exact ew_ret (o := none) rfl ⟨_, rfl, rfl, H⟩ ⟨rfl, dX3_unites_75⟩
  · replace H := H.2 c1
    refine ew_aload_n dX3_unites_45 rfl lm0 ?_
    refine yw_get (cs := [3, 4, 5]) (v := aR (some (sI V 4 0))) dX3_unites_46 (by decide) (e_fl.a q258) yf_0 (by decide) rfl ?_
    refine ew_iload dX3_unites_49 lm3 ?_
    obtain ⟨v2, H⟩ := H
    refine yw_iald dX3_unites_51 (by decide) rfl v2.1 v2.2 ?_
    refine ew_iload dX3_unites_52 lm2 ?_
    refine ew_icmp_ne (tgt := 69) dX3_unites_54 (by decide) (fun c3 => ?_) (fun c3 => ?_)
    · replace H := H.2 c3
      obtain ⟨v4, H⟩ := H
      refine ew_iinc dX3_unites_69 lm3 (by decide) v4 (lv' := [(5, aI (x5 + 1)), (0, aR (some (sI V 4 99))), (3, aI x3), (4, aI x4)]) rfl ?_
      refine ew_sub (List.forall_mem_cons.mpr ⟨lm1, (List.forall_mem_cons.mpr ⟨lm2, (List.forall_mem_cons.mpr ⟨lm3, (List.forall_mem_cons.mpr ⟨lm0, e_nm⟩)⟩)⟩)⟩) ?_
      refine ew_goto (tgt := 36) dX3_unites_72 (by decide) ?_
      exact ew_sub (List.forall_mem_cons.mpr ⟨lm0, (List.forall_mem_cons.mpr ⟨lm1, (List.forall_mem_cons.mpr ⟨lm2, (List.forall_mem_cons.mpr ⟨lm3, e_nm⟩)⟩)⟩)⟩) H
    · replace H := H.1 c3
      refine ew_aload_n dX3_unites_57 rfl lm0 ?_
      refine ew_aload_n dX3_unites_58 rfl lm0 ?_
      refine yw_get (cs := [3, 4, 5]) (v := aR (some (sI V 4 0))) dX3_unites_59 (by decide) (e_fl.a q258) yf_0 (by decide) rfl ?_
      refine ew_iconst dX3_unites_62 (inI_of rfl) ?_
      refine ew_iload dX3_unites_63 lm3 ?_
      refine ew_iload_n dX3_unites_65 rfl lm1 ?_
      obtain ⟨mc9c, mc9s, hm10c, hm10s, H⟩ := H
      refine ew_callY (x := ⟨"ReasonCloser$Groups", "puts", "([IIII)V"⟩) (d := d + 1) (as := [aR (some (sI V 4 0)), aI 0, aI x5, aI x3]) rfl dX3_unites_66 me_X3_puts rfl (by decide) rfl q1019 q1965 (ysel5_4 (P := fun c => Cond.selects c _ _ ∈ lw_all) q1968) q963 (Or.inl q960) (by decide) (Nat.le_of_ble_eq_true rfl) hm10c hm10s (S_X3_puts_N (d := d + 0) ht H) (fun o h' hq7 _ => ?_) (fun E i h' q _ => (xQv_no q).elim)
      obtain ⟨s6, E8, rfl, H⟩ := hq7
      cases E8
      obtain ⟨v11, H⟩ := H
      refine ew_iinc dX3_unites_69 lm3 (by decide) v11 (lv' := [(5, aI (x5 + 1)), (0, aR (some (sI V 4 99))), (3, aI x3), (4, aI x4)]) rfl ?_
      refine ew_sub (List.forall_mem_cons.mpr ⟨lm1, (List.forall_mem_cons.mpr ⟨lm2, (List.forall_mem_cons.mpr ⟨lm3, (List.forall_mem_cons.mpr ⟨lm0, e_nm⟩)⟩)⟩)⟩) ?_
      refine ew_goto (tgt := 36) dX3_unites_72 (by decide) ?_
      exact ew_sub (List.forall_mem_cons.mpr ⟨lm0, (List.forall_mem_cons.mpr ⟨lm1, (List.forall_mem_cons.mpr ⟨lm2, (List.forall_mem_cons.mpr ⟨lm3, e_nm⟩)⟩)⟩)⟩) H
set_option maxHeartbeats 4000000 in
theorem T_X3_unites_N_E (d : Nat) (V : XV) (g : AH) (ht : ∀ q, g (tI V 4 q) = none) (K : XS → Prop) (a : Int) (b : Int) (kc ks : Nat) (s0 : XS) (H : B_X3_unites_N_E (W_X3_unites_N_36 d V g K) K a b kc ks s0) : EW mm_X3_unites (d + 2) kc ks (xQv V g K) 0 [(0, aR (some (sI V 4 99))), (1, aI a), (2, aI b)] [] (xh V s0 g) := by
  refine ew_aload_n dX3_unites_0 rfl lm0 ?_
  refine yw_get (cs := [3, 4, 5]) (v := aR (some (sI V 4 0))) dX3_unites_1 (by decide) (e_fl.a q258) yf_0 (by decide) rfl ?_
  refine ew_iload_n dX3_unites_4 rfl lm1 ?_
  obtain ⟨v1, H⟩ := H
  refine yw_iald dX3_unites_5 (by decide) rfl v1.1 v1.2 ?_
  refine ew_aload_n dX3_unites_6 rfl lm0 ?_
  refine yw_get (cs := [3, 4, 5]) (v := aR (some (sI V 4 0))) dX3_unites_7 (by decide) (e_fl.a q258) yf_0 (by decide) rfl ?_
  refine ew_iload_n dX3_unites_10 rfl lm2 ?_
  obtain ⟨v2, H⟩ := H
  refine yw_iald dX3_unites_11 (by decide) rfl v2.1 v2.2 ?_
  refine ew_min (d := d + 1) dX3_unites_12 q1017 (Nat.le_of_ble_eq_true rfl) ?_
  refine ew_istore_n dX3_unites_15 rfl (by decide) (lv' := [(3, aI (jmin ((s0.2 4).2 0 a) ((s0.2 4).2 0 b))), (0, aR (some (sI V 4 99))), (1, aI a), (2, aI b)]) rfl ?_
  refine ew_sub (List.forall_mem_cons.mpr ⟨lm1, (List.forall_mem_cons.mpr ⟨lm2, (List.forall_mem_cons.mpr ⟨lm3, (List.forall_mem_cons.mpr ⟨lm0, e_nm⟩)⟩)⟩)⟩) ?_
  refine ew_aload_n dX3_unites_16 rfl lm0 ?_
  refine yw_get (cs := [3, 4, 5]) (v := aR (some (sI V 4 0))) dX3_unites_17 (by decide) (e_fl.a q258) yf_0 (by decide) rfl ?_
  refine ew_iload_n dX3_unites_20 rfl lm1 ?_
  obtain ⟨v3, H⟩ := H
  refine yw_iald dX3_unites_21 (by decide) rfl v3.1 v3.2 ?_
  refine ew_aload_n dX3_unites_22 rfl lm0 ?_
  refine yw_get (cs := [3, 4, 5]) (v := aR (some (sI V 4 0))) dX3_unites_23 (by decide) (e_fl.a q258) yf_0 (by decide) rfl ?_
  refine ew_iload_n dX3_unites_26 rfl lm2 ?_
  obtain ⟨v4, H⟩ := H
  refine yw_iald dX3_unites_27 (by decide) rfl v4.1 v4.2 ?_
  refine ew_max (d := d + 1) dX3_unites_28 q1018 (Nat.le_of_ble_eq_true rfl) ?_
  refine ew_istore dX3_unites_31 (by decide) (lv' := [(4, aI (jmax ((s0.2 4).2 0 a) ((s0.2 4).2 0 b))), (0, aR (some (sI V 4 99))), (1, aI a), (2, aI b), (3, aI (jmin ((s0.2 4).2 0 a) ((s0.2 4).2 0 b)))]) rfl ?_
  refine ew_sub (List.forall_mem_cons.mpr ⟨lm1, (List.forall_mem_cons.mpr ⟨lm2, (List.forall_mem_cons.mpr ⟨lm3, (List.forall_mem_cons.mpr ⟨lm4, (List.forall_mem_cons.mpr ⟨lm0, e_nm⟩)⟩)⟩)⟩)⟩) ?_
  refine ew_iconst dX3_unites_33 (inI_of rfl) ?_
  refine ew_istore dX3_unites_34 (by decide) (lv' := [(5, aI 0), (0, aR (some (sI V 4 99))), (1, aI a), (2, aI b), (3, aI (jmin ((s0.2 4).2 0 a) ((s0.2 4).2 0 b))), (4, aI (jmax ((s0.2 4).2 0 a) ((s0.2 4).2 0 b)))]) rfl ?_
  refine ew_sub (List.forall_mem_cons.mpr ⟨lm1, (List.forall_mem_cons.mpr ⟨lm2, (List.forall_mem_cons.mpr ⟨lm3, (List.forall_mem_cons.mpr ⟨lm4, (List.forall_mem_cons.mpr ⟨lm5, (List.forall_mem_cons.mpr ⟨lm0, e_nm⟩)⟩)⟩)⟩)⟩)⟩) ?_
  exact ew_sub (List.forall_mem_cons.mpr ⟨lm0, (List.forall_mem_cons.mpr ⟨lm3, (List.forall_mem_cons.mpr ⟨lm4, (List.forall_mem_cons.mpr ⟨lm5, e_nm⟩)⟩)⟩)⟩) H
def C_X3_unites_N (kc ks : Nat) (a : Int) (b : Int) (s0 : XS) (K : XS → Prop) : Prop := ∀ (X36 : Int → Int → Int → Nat → Nat → XS → Prop), (∀ (x3 : Int) (x4 : Int) (x5 : Int) (kc ks : Nat) (s0 : XS), B_X3_unites_N_36 X36 K x3 x4 x5 kc ks s0 → X36 x3 x4 x5 kc ks s0) → B_X3_unites_N_E X36 K a b kc ks s0
theorem S_X3_unites_N {d : Nat} {V : XV} {g : AH} {K : XS → Prop} {a : Int} {b : Int} {kc ks : Nat} {s0 : XS} (ht : ∀ q, g (tI V 4 q) = none) (H : C_X3_unites_N kc ks a b s0 K) : Sp mm_X3_unites (d + 2) kc ks [aR (some (sI V 4 99)), aI a, aI b] (xh V s0 g) (xQv V g K) :=
  ew_sp rfl (Nat.le_of_ble_eq_true rfl) (T_X3_unites_N_E d V g ht K a b kc ks s0 (H _ (fun x3 x4 x5 kc ks s0 H => T_X3_unites_N_36 d V g ht K x3 x4 x5 kc ks s0 H)))
abbrev mm_X5_hangs : EM := (yX5_hangs, cX5_hangs, 6, (Option.none : Option Jvm.ClassFile.FieldType), [])
theorem me_X5_hangs : e_mth mm_X5_hangs 3 := ⟨rfl, q1003, q115, by decide +kernel, by decide⟩
def B_X5_hangs_N_E (R : Nat → Nat → Int → Int → Int → XS → (XS → Prop) → Prop) (K : XS → Prop) (a : Int) (b : Int) (c : Int) (kc ks : Nat) (s0 : XS) : Prop :=
  ((0 ≤ a ∧ a < 24) ∧ ((0 ≤ a ∧ a < 24) ∧ (∃ mc7c mc7s, mc7c ≤ kc ∧ mc7s ≤ ks ∧ C_X3_puts_N mc7c mc7s 5 1 a b s0 (fun s4 => (∃ mc13c mc13s, mc13c ≤ (kc - mc7c) ∧ mc13s ≤ (ks - mc7s) ∧ C_X3_puts_N mc13c mc13s 6 2 a c s4 (fun s10 => ((((s0.2 4).2 5 a) = (-1) → K s10) ∧ (¬ ((s0.2 4).2 5 a) = (-1) → (∃ mc19c mc19s, mc19c ≤ ((kc - mc7c) - mc13c) ∧ mc19s ≤ ((ks - mc7s) - mc13s) ∧ R mc19c mc19s ((s0.2 4).2 5 a) a ((s0.2 4).2 6 a) s10 (fun s16 => K s16))))))))))
set_option maxHeartbeats 4000000 in
theorem T_X5_hangs_N_E (d : Nat) (V : XV) (g : AH) (ht : ∀ q, g (tI V 4 q) = none) (R : Nat → Nat → Int → Int → Int → XS → (XS → Prop) → Prop) (hR : ∀ kc ks a b c s K, R kc ks a b c s K → Sp mm_X5_hangs (d + 1) kc ks [aR (some (sI V 4 99)), aI a, aI b, aI c] (xh V s g) (xQv V g K)) (K : XS → Prop) (a : Int) (b : Int) (c : Int) (kc ks : Nat) (s0 : XS) (H : B_X5_hangs_N_E R K a b c kc ks s0) : EW mm_X5_hangs (d + 2) kc ks (xQv V g K) 0 [(0, aR (some (sI V 4 99))), (1, aI a), (2, aI b), (3, aI c)] [] (xh V s0 g) := by
  refine ew_aload_n dX5_hangs_0 rfl lm0 ?_
  refine yw_get (cs := [5]) (v := aR (some (sI V 4 5))) dX5_hangs_1 (by decide) (e_fl.a q231) yf_5 (by decide) rfl ?_
  refine ew_iload_n dX5_hangs_4 rfl lm1 ?_
  obtain ⟨v1, H⟩ := H
  refine yw_iald dX5_hangs_5 (by decide) rfl v1.1 v1.2 ?_
  refine ew_istore dX5_hangs_6 (by decide) (lv' := [(4, aI ((s0.2 4).2 5 a)), (0, aR (some (sI V 4 99))), (1, aI a), (2, aI b), (3, aI c)]) rfl ?_
  refine ew_sub (List.forall_mem_cons.mpr ⟨lm1, (List.forall_mem_cons.mpr ⟨lm2, (List.forall_mem_cons.mpr ⟨lm3, (List.forall_mem_cons.mpr ⟨lm4, (List.forall_mem_cons.mpr ⟨lm0, e_nm⟩)⟩)⟩)⟩)⟩) ?_
  refine ew_aload_n dX5_hangs_8 rfl lm0 ?_
  refine yw_get (cs := [5]) (v := aR (some (sI V 4 6))) dX5_hangs_9 (by decide) (e_fl.a q235) yf_6 (by decide) rfl ?_
  refine ew_iload_n dX5_hangs_12 rfl lm1 ?_
  obtain ⟨v2, H⟩ := H
  refine yw_iald dX5_hangs_13 (by decide) rfl v2.1 v2.2 ?_
  refine ew_istore dX5_hangs_14 (by decide) (lv' := [(5, aI ((s0.2 4).2 6 a)), (0, aR (some (sI V 4 99))), (1, aI a), (2, aI b), (3, aI c), (4, aI ((s0.2 4).2 5 a))]) rfl ?_
  refine ew_sub (List.forall_mem_cons.mpr ⟨lm1, (List.forall_mem_cons.mpr ⟨lm2, (List.forall_mem_cons.mpr ⟨lm3, (List.forall_mem_cons.mpr ⟨lm4, (List.forall_mem_cons.mpr ⟨lm5, (List.forall_mem_cons.mpr ⟨lm0, e_nm⟩)⟩)⟩)⟩)⟩)⟩) ?_
  refine ew_aload_n dX5_hangs_16 rfl lm0 ?_
  refine ew_aload_n dX5_hangs_17 rfl lm0 ?_
  refine yw_get (cs := [5]) (v := aR (some (sI V 4 5))) dX5_hangs_18 (by decide) (e_fl.a q231) yf_5 (by decide) rfl ?_
  refine ew_iconst dX5_hangs_21 (inI_of rfl) ?_
  refine ew_iload_n dX5_hangs_22 rfl lm1 ?_
  refine ew_iload_n dX5_hangs_23 rfl lm2 ?_
  obtain ⟨mc7c, mc7s, hm8c, hm8s, H⟩ := H
  refine ew_callY (x := ⟨"ReasonCloser$Forest", "puts", "([IIII)V"⟩) (d := d + 1) (as := [aR (some (sI V 4 5)), aI 1, aI a, aI b]) rfl dX5_hangs_24 me_X3_puts rfl (by decide) rfl q1004 q1005 (ysel5_4 (P := fun c => Cond.selects c _ _ ∈ lw_all) q1006) q963 (Or.inl q960) (by decide) (Nat.le_of_ble_eq_true rfl) hm8c hm8s (S_X3_puts_N (d := d + 0) ht H) (fun o h' hq5 _ => ?_) (fun E i h' q _ => (xQv_no q).elim)
  obtain ⟨s4, E6, rfl, H⟩ := hq5
  cases E6
  refine ew_aload_n dX5_hangs_27 rfl lm0 ?_
  refine ew_aload_n dX5_hangs_28 rfl lm0 ?_
  refine yw_get (cs := [5]) (v := aR (some (sI V 4 6))) dX5_hangs_29 (by decide) (e_fl.a q235) yf_6 (by decide) rfl ?_
  refine ew_iconst dX5_hangs_32 (inI_of rfl) ?_
  refine ew_iload_n dX5_hangs_33 rfl lm1 ?_
  refine ew_iload_n dX5_hangs_34 rfl lm3 ?_
  obtain ⟨mc13c, mc13s, hm14c, hm14s, H⟩ := H
  refine ew_callY (x := ⟨"ReasonCloser$Forest", "puts", "([IIII)V"⟩) (d := d + 1) (as := [aR (some (sI V 4 6)), aI 2, aI a, aI c]) rfl dX5_hangs_35 me_X3_puts rfl (by decide) rfl q1004 q1005 (ysel5_4 (P := fun c => Cond.selects c _ _ ∈ lw_all) q1006) q963 (Or.inl q960) (by decide) (Nat.le_of_ble_eq_true rfl) hm14c hm14s (S_X3_puts_N (d := d + 0) ht H) (fun o h' hq11 _ => ?_) (fun E i h' q _ => (xQv_no q).elim)
  obtain ⟨s10, E12, rfl, H⟩ := hq11
  cases E12
  refine ew_iload dX5_hangs_38 lm4 ?_
  refine ew_iconst dX5_hangs_40 (inI_of rfl) ?_
  refine ew_icmp_eq (tgt := 53) dX5_hangs_41 (by decide) (fun c15 => ?_) (fun c15 => ?_)
  · replace H := H.1 c15
    exact ew_ret (o := none) rfl ⟨_, rfl, rfl, H⟩ ⟨rfl, dX5_hangs_53⟩
  · replace H := H.2 c15
    refine ew_aload_n dX5_hangs_44 rfl lm0 ?_
    refine ew_iload dX5_hangs_45 lm4 ?_
    refine ew_iload_n dX5_hangs_47 rfl lm1 ?_
    refine ew_iload dX5_hangs_48 lm5 ?_
    obtain ⟨mc19c, mc19s, hm20c, hm20s, H⟩ := H
    refine ew_callYP (d := d + 1) (as := [aI ((s0.2 4).2 5 a), aI a, aI ((s0.2 4).2 6 a)]) rfl dX5_hangs_50 me_X5_hangs rfl (by decide) q999 q1001 q1002 q1000 (Nat.le_of_ble_eq_true rfl) hm20c hm20s (hR _ _ _ _ _ _ _ H) (fun o h' hq17 _ => ?_) (fun E i h' q _ => (xQv_no q).elim)
    obtain ⟨s16, E18, rfl, H⟩ := hq17
    cases E18
    exact ew_ret (o := none) rfl ⟨_, rfl, rfl, H⟩ ⟨rfl, dX5_hangs_53⟩
def C_X5_hangs_N_ (R : Nat → Nat → Int → Int → Int → XS → (XS → Prop) → Prop) (kc ks : Nat) (a : Int) (b : Int) (c : Int) (s0 : XS) (K : XS → Prop) : Prop := B_X5_hangs_N_E R K a b c kc ks s0
theorem S_X5_hangs_N_ {d : Nat} {V : XV} {g : AH} {R : Nat → Nat → Int → Int → Int → XS → (XS → Prop) → Prop} {K : XS → Prop} {a : Int} {b : Int} {c : Int} {kc ks : Nat} {s0 : XS} (ht : ∀ q, g (tI V 4 q) = none) (hR : ∀ kc ks a b c s K, R kc ks a b c s K → Sp mm_X5_hangs (d + 1) kc ks [aR (some (sI V 4 99)), aI a, aI b, aI c] (xh V s g) (xQv V g K)) (H : C_X5_hangs_N_ R kc ks a b c s0 K) : Sp mm_X5_hangs (d + 2) kc ks [aR (some (sI V 4 99)), aI a, aI b, aI c] (xh V s0 g) (xQv V g K) :=
  ew_sp rfl (Nat.le_of_ble_eq_true rfl) (T_X5_hangs_N_E d V g ht R hR K a b c kc ks s0 (H ))
def C_X5_hangs_Nf : Nat → Nat → Nat → Int → Int → Int → XS → (XS → Prop) → Prop
  | 0 => fun _ _ _ _ _ _ _ => False
  | n + 1 => C_X5_hangs_N_ (C_X5_hangs_Nf n)
theorem S_X5_hangs_Nf {d : Nat} {V : XV} {g : AH} (ht : ∀ q, g (tI V 4 q) = none) : ∀ (n : Nat) (kc ks : Nat) (a b c : Int) (s : XS) (K : XS → Prop), C_X5_hangs_Nf n kc ks a b c s K → Sp mm_X5_hangs (d + n + 1) kc ks [aR (some (sI V 4 99)), aI a, aI b, aI c] (xh V s g) (xQv V g K)
  | 0, _, _, _, _, _, _, _, H => False.elim H
  | n + 1, kc, ks, a, b, c, s, K, H => S_X5_hangs_N_ (d := d + n) (R := C_X5_hangs_Nf n) ht (fun kc ks a b c s K H => S_X5_hangs_Nf ht n kc ks a b c s K H) H
def C_X5_hangs_N : Nat → Nat → Int → Int → Int → XS → (XS → Prop) → Prop := C_X5_hangs_Nf 40
theorem S_X5_hangs_N {d : Nat} {V : XV} {g : AH} {K : XS → Prop} {a b c : Int} {kc ks : Nat} {s0 : XS} (ht : ∀ q, g (tI V 4 q) = none) (H : C_X5_hangs_N kc ks a b c s0 K) : Sp mm_X5_hangs (d + 41) kc ks [aR (some (sI V 4 99)), aI a, aI b, aI c] (xh V s0 g) (xQv V g K) := S_X5_hangs_Nf (d := d) ht 40 kc ks a b c s0 K H
def B_X4_joins_NF_E (K : XS → Prop) (a : Int) (b : Int) (c : Int) (kc ks : Nat) (s0 : XS) : Prop :=
  (∃ mc5c mc5s, mc5c ≤ kc ∧ mc5s ≤ ks ∧ C_X3_unites_N mc5c mc5s a b s0 (fun s2 => K s2))
set_option maxHeartbeats 4000000 in
theorem T_X4_joins_NF_E (d : Nat) (V : XV) (g : AH) (ht : ∀ q, g (tI V 4 q) = none) (K : XS → Prop) (a : Int) (b : Int) (c : Int) (kc ks : Nat) (s0 : XS) (H : B_X4_joins_NF_E K a b c kc ks s0) : EW mm_X4_joins (d + 3) kc ks (xQv V g K) 0 [(0, aR (some (sI V 4 99))), (1, aI a), (2, aI b), (3, aI c)] [] (xh V s0 g) := by
  refine ew_aload_n dX4_joins_0 rfl lm0 ?_
  refine ew_iload_n dX4_joins_1 rfl lm1 ?_
  refine ew_iload_n dX4_joins_2 rfl lm2 ?_
  obtain ⟨mc5c, mc5s, hm6c, hm6s, H⟩ := H
  refine ew_callY (x := ⟨"ReasonCloser$Closed", "unites", "(II)V"⟩) (d := d + 2) (as := [aI a, aI b]) rfl dX4_joins_3 me_X3_unites rfl (by decide) rfl q1010 q1011 (ysel5_4 (P := fun c => Cond.selects c _ _ ∈ lw_all) q1014) q1015 (Or.inl q1012) (by decide) (Nat.le_of_ble_eq_true rfl) hm6c hm6s (S_X3_unites_N (d := d + 0) ht H) (fun o h' hq3 _ => ?_) (fun E i h' q _ => (xQv_no q).elim)
  obtain ⟨s2, E4, rfl, H⟩ := hq3
  cases E4
  exact ew_ret (o := none) rfl ⟨_, rfl, rfl, H⟩ ⟨rfl, dX4_joins_6⟩
def C_X4_joins_NF (kc ks : Nat) (a : Int) (b : Int) (c : Int) (s0 : XS) (K : XS → Prop) : Prop := B_X4_joins_NF_E K a b c kc ks s0
theorem S_X4_joins_NF {d : Nat} {V : XV} {g : AH} {K : XS → Prop} {a : Int} {b : Int} {c : Int} {kc ks : Nat} {s0 : XS} (ht : ∀ q, g (tI V 4 q) = none) (H : C_X4_joins_NF kc ks a b c s0 K) : Sp mm_X4_joins (d + 3) kc ks [aR (some (sI V 4 99)), aI a, aI b, aI c] (xh V s0 g) (xQv V g K) :=
  ew_sp rfl (Nat.le_of_ble_eq_true rfl) (T_X4_joins_NF_E d V g ht K a b c kc ks s0 (H ))
abbrev mm_X5_joins : EM := (yX5_joins, cX5_joins, 4, (Option.none : Option Jvm.ClassFile.FieldType), [])
theorem me_X5_joins : e_mth mm_X5_joins 3 := ⟨rfl, q998, q115, by decide +kernel, by decide⟩
def B_X5_joins_N_E (K : XS → Prop) (a : Int) (b : Int) (c : Int) (kc ks : Nat) (s0 : XS) : Prop :=
  (((0 ≤ ((s0.2 4).1 10) ∧ ((s0.2 4).1 10) < 24)) ∧ ∀ s1 : XS, s1 = ya s0 4 7 ((s0.2 4).1 10) a → (((0 ≤ ((s1.2 4).1 10) ∧ ((s1.2 4).1 10) < 24)) ∧ ∀ s4 : XS, s4 = ya s1 4 8 ((s1.2 4).1 10) b → (((0 ≤ ((s4.2 4).1 10) ∧ ((s4.2 4).1 10) < 24)) ∧ ∀ s7 : XS, s7 = ya s4 4 9 ((s4.2 4).1 10) c → (∃ mc14c mc14s, mc14c ≤ kc ∧ mc14s ≤ ks ∧ C_X5_hangs_N mc14c mc14s b a ((s7.2 4).1 10) s7 (fun s11 => ((inI (((s11.2 4).1 10) + 1)) ∧ (∀ s17 : XS, s17 = ys s11 4 10 (((s11.2 4).1 10) + 1) → (∃ mc24c mc24s, mc24c ≤ (kc - mc14c) ∧ mc24s ≤ (ks - mc14s) ∧ C_X4_joins_NF mc24c mc24s a b c s17 (fun s21 => K s21)))))))))
set_option maxHeartbeats 4000000 in
theorem T_X5_joins_N_E (d : Nat) (V : XV) (g : AH) (ht : ∀ q, g (tI V 4 q) = none) (K : XS → Prop) (a : Int) (b : Int) (c : Int) (kc ks : Nat) (s0 : XS) (H : B_X5_joins_N_E K a b c kc ks s0) : EW mm_X5_joins (d + 42) kc ks (xQv V g K) 0 [(0, aR (some (sI V 4 99))), (1, aI a), (2, aI b), (3, aI c)] [] (xh V s0 g) := by
  refine ew_aload_n dX5_joins_0 rfl lm0 ?_
  refine yw_get (cs := [5]) (v := aR (some (sI V 4 7))) dX5_joins_1 (by decide) (e_fl.a q238) yf_7 (by decide) rfl ?_
  refine ew_aload_n dX5_joins_4 rfl lm0 ?_
  refine yw_get (cs := [5]) (v := aI ((s0.2 4).1 10)) dX5_joins_5 (by decide) (e_fl.a q250) yf_10 (by decide) rfl ?_
  refine ew_iload_n dX5_joins_8 rfl lm1 ?_
  obtain ⟨v3, H⟩ := H
  refine yw_iast dX5_joins_9 (by decide) (by decide) rfl rfl v3.1 v3.2 (fun s1 e2 => ?_)
  replace H := H s1 e2
  refine ew_aload_n dX5_joins_10 rfl lm0 ?_
  refine yw_get (cs := [5]) (v := aR (some (sI V 4 8))) dX5_joins_11 (by decide) (e_fl.a q242) yf_8 (by decide) rfl ?_
  refine ew_aload_n dX5_joins_14 rfl lm0 ?_
  refine yw_get (cs := [5]) (v := aI ((s1.2 4).1 10)) dX5_joins_15 (by decide) (e_fl.a q250) yf_10 (by decide) rfl ?_
  refine ew_iload_n dX5_joins_18 rfl lm2 ?_
  obtain ⟨v6, H⟩ := H
  refine yw_iast dX5_joins_19 (by decide) (by decide) rfl rfl v6.1 v6.2 (fun s4 e5 => ?_)
  replace H := H s4 e5
  refine ew_aload_n dX5_joins_20 rfl lm0 ?_
  refine yw_get (cs := [5]) (v := aR (some (sI V 4 9))) dX5_joins_21 (by decide) (e_fl.a q246) yf_9 (by decide) rfl ?_
  refine ew_aload_n dX5_joins_24 rfl lm0 ?_
  refine yw_get (cs := [5]) (v := aI ((s4.2 4).1 10)) dX5_joins_25 (by decide) (e_fl.a q250) yf_10 (by decide) rfl ?_
  refine ew_iload_n dX5_joins_28 rfl lm3 ?_
  obtain ⟨v9, H⟩ := H
  refine yw_iast dX5_joins_29 (by decide) (by decide) rfl rfl v9.1 v9.2 (fun s7 e8 => ?_)
  replace H := H s7 e8
  refine ew_aload_n dX5_joins_30 rfl lm0 ?_
  refine ew_iload_n dX5_joins_31 rfl lm2 ?_
  refine ew_iload_n dX5_joins_32 rfl lm1 ?_
  refine ew_aload_n dX5_joins_33 rfl lm0 ?_
  refine yw_get (cs := [5]) (v := aI ((s7.2 4).1 10)) dX5_joins_34 (by decide) (e_fl.a q250) yf_10 (by decide) rfl ?_
  obtain ⟨mc14c, mc14s, hm15c, hm15s, H⟩ := H
  refine ew_callYP (d := d + 41) (as := [aI b, aI a, aI ((s7.2 4).1 10)]) rfl dX5_joins_37 me_X5_hangs rfl (by decide) q999 q1001 q1002 q1000 (Nat.le_of_ble_eq_true rfl) hm15c hm15s (S_X5_hangs_N (d := d + 0) ht H) (fun o h' hq12 _ => ?_) (fun E i h' q _ => (xQv_no q).elim)
  obtain ⟨s11, E13, rfl, H⟩ := hq12
  cases E13
  refine ew_aload_n dX5_joins_40 rfl lm0 ?_
  refine ew_dup dX5_joins_41 rfl ?_
  refine yw_get (cs := [5]) (v := aI ((s11.2 4).1 10)) dX5_joins_42 (by decide) (e_fl.a q250) yf_10 (by decide) rfl ?_
  refine ew_iconst dX5_joins_45 (inI_of rfl) ?_
  obtain ⟨v16, H⟩ := H
  refine ew_iadd dX5_joins_46 v16 ?_
  refine yw_put (cs := [5]) dX5_joins_47 (by decide) (e_fl.a q250) yf_10 (by decide) rfl (by decide +kernel) (fun s17 e18 => ?_)
  replace H := H s17 e18
  refine ew_aload_n dX5_joins_50 rfl lm0 ?_
  refine ew_iload_n dX5_joins_51 rfl lm1 ?_
  refine ew_iload_n dX5_joins_52 rfl lm2 ?_
  refine ew_iload_n dX5_joins_53 rfl lm3 ?_
  obtain ⟨mc24c, mc24s, hm25c, hm25s, H⟩ := H
  refine ew_callSU (d := d + 41) (as := [aI a, aI b, aI c]) rfl dX5_joins_54 me_X4_joins rfl (ci := 5) rfl (xh_y (by decide)) (by decide) q1007 q995 q1008 q993 (Nat.le_of_ble_eq_true rfl) hm25c hm25s (S_X4_joins_NF (d := d + 38) ht H) (fun o h' hq22 _ => ?_) (fun E i h' q _ => (xQv_no q).elim)
  obtain ⟨s21, E23, rfl, H⟩ := hq22
  cases E23
  exact ew_ret (o := none) rfl ⟨_, rfl, rfl, H⟩ ⟨rfl, dX5_joins_57⟩
def C_X5_joins_N (kc ks : Nat) (a : Int) (b : Int) (c : Int) (s0 : XS) (K : XS → Prop) : Prop := B_X5_joins_N_E K a b c kc ks s0
theorem S_X5_joins_N {d : Nat} {V : XV} {g : AH} {K : XS → Prop} {a : Int} {b : Int} {c : Int} {kc ks : Nat} {s0 : XS} (ht : ∀ q, g (tI V 4 q) = none) (H : C_X5_joins_N kc ks a b c s0 K) : Sp mm_X5_joins (d + 42) kc ks [aR (some (sI V 4 99)), aI a, aI b, aI c] (xh V s0 g) (xQv V g K) :=
  ew_sp rfl (Nat.le_of_ble_eq_true rfl) (T_X5_joins_N_E d V g ht K a b c kc ks s0 (H ))
