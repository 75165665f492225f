/-! ReasonCloser: methods as predicates, by program (gen/gxx.py) -/
set_option maxRecDepth 100000
abbrev mm_X1_isSame : EM := (yX1_isSame, cX1_isSame, 5, (Option.some .boolean), [])
theorem me_X1_isSame : e_mth mm_X1_isSame 2 := ⟨rfl, q1265, q108, by decide +kernel, by decide⟩
def B_X1_isSame_2 (X2 : Int → Int → Int → Prop) (K : Int → Prop) (x1 : Int) (x2 : Int) (x3 : Int) (s0 : XS) : Prop :=
  (C_X1_sames s0 (fun r1 => ((r1 ≤ x3 → K 0) ∧ (¬ r1 ≤ x3 → (((0 ≤ x3 ∧ x3 < s0.1.1 32) ∧ xok s0 2) ∧ ((0 ≤ x3 ∧ x3 < s0.1.1 42) ∧ ((0 ≤ x3 ∧ x3 < s0.1.1 42) ∧ (((s0.1.2 40 x3) = x1 → ((0 ≤ x3 ∧ x3 < s0.1.1 42) ∧ (((s0.1.2 41 x3) = x2 → K 1) ∧ (¬ (s0.1.2 41 x3) = x2 → ((0 ≤ x3 ∧ x3 < s0.1.1 42) ∧ (((s0.1.2 40 x3) = x2 → ((0 ≤ x3 ∧ x3 < s0.1.1 42) ∧ (((s0.1.2 41 x3) = x1 → K 1) ∧ (¬ (s0.1.2 41 x3) = x1 → (inI (x3 + 1) ∧ X2 x1 x2 (x3 + 1)))))) ∧ (¬ (s0.1.2 40 x3) = x2 → (inI (x3 + 1) ∧ X2 x1 x2 (x3 + 1))))))))) ∧ (¬ (s0.1.2 40 x3) = x1 → ((0 ≤ x3 ∧ x3 < s0.1.1 42) ∧ (((s0.1.2 40 x3) = x2 → ((0 ≤ x3 ∧ x3 < s0.1.1 42) ∧ (((s0.1.2 41 x3) = x1 → K 1) ∧ (¬ (s0.1.2 41 x3) = x1 → (inI (x3 + 1) ∧ X2 x1 x2 (x3 + 1)))))) ∧ (¬ (s0.1.2 40 x3) = x2 → (inI (x3 + 1) ∧ X2 x1 x2 (x3 + 1))))))))))))))
def B_X1_isSame_E (X2 : Int → Int → Int → Prop) (K : Int → Prop) (a : Int) (b : Int) (s0 : XS) : Prop :=
  X2 a b 0
def W_X1_isSame_2 (d : Nat) (V : XV) (g : AH) (s0 : XS) (K : Int → Prop) (x1 : Int) (x2 : Int) (x3 : Int) : Prop := EW mm_X1_isSame (d + 3) 0 0 (cQ (xh V s0 g) K) 2 [(0, aR (some xT)), (1, aI x1), (2, aI x2), (3, aI x3)] [] (xh V s0 g)
set_option maxHeartbeats 4000000 in
theorem T_X1_isSame_2 (d : Nat) (V : XV) (g : AH) (K : Int → Prop) (x1 : Int) (x2 : Int) (x3 : Int) (s0 : XS) (H : B_X1_isSame_2 (W_X1_isSame_2 d V g s0 K) K x1 x2 x3 s0) : EW mm_X1_isSame (d + 3) 0 0 (cQ (xh V s0 g) K) 2 [(0, aR (some xT)), (1, aI x1), (2, aI x2), (3, aI x3)] [] (xh V s0 g) := by
  refine ew_iload_n dX1_isSame_2 rfl lm3 ?_
  refine ew_aload_n dX1_isSame_3 rfl lm0 ?_
  refine ew_callV (d := d + 2) (as := []) rfl dX1_isSame_4 me_X1_sames rfl (ci := 0) rfl rfl xh_x (Or.inl q1052) q1054 qs26 (Nat.le_of_ble_eq_true rfl) (Nat.zero_le _) (Nat.zero_le _) (S_X1_sames (d := d + 1) H) (fun o h' hq3 _ => ?_) (fun E i h' q _ => (cQ_no q).elim)
  obtain ⟨r1, E4, rfl, H⟩ := hq3
  cases E4
  refine ew_icmp_ge (tgt := 72) dX1_isSame_7 (by decide) (fun c5 => ?_) (fun c5 => ?_)
  · replace H := H.1 c5
    refine ew_iconst dX1_isSame_72 (inI_of rfl) ?_
    exact ew_ret (o := some (aI 0)) rfl ⟨_, rfl, rfl, H⟩ ⟨dX1_isSame_73, .boolean, rfl, Or.inr (Or.inl rfl), by decide⟩
  · replace H := H.2 c5
    refine ew_aload_n dX1_isSame_10 rfl lm0 ?_
    refine xw_get (v := aR (some (bI V 1 0))) dX1_isSame_11 (e_fl.a q333) xf_5 rfl ?_
    refine xw_book dX1_isSame_14 (e_fl.c q194) bf_2 ?_
    refine ew_iload_n dX1_isSame_17 rfl lm3 ?_
    obtain ⟨v6, H⟩ := H
    refine lw_g2 (d := d + 0) dX1_isSame_18 q1021 (Nat.le_of_ble_eq_true rfl) v6.1 v6.2 ?_
    obtain ⟨v7, H⟩ := H
    refine cs_cast (f := x3) dX1_isSame_23 q1022 v7 ?_
    refine ew_astore dX1_isSame_26 (by decide) (lv' := [(4, aR (some (bI V 12 (x3).toNat))), (0, aR (some xT)), (1, aI x1), (2, aI x2), (3, aI x3)]) rfl ?_
    refine ew_sub (List.forall_mem_cons.mpr ⟨lm1, (List.forall_mem_cons.mpr ⟨lm2, (List.forall_mem_cons.mpr ⟨lm3, (List.forall_mem_cons.mpr ⟨lm4, (List.forall_mem_cons.mpr ⟨lm0, e_nm⟩)⟩)⟩)⟩)⟩) ?_
    refine ew_aload dX1_isSame_28 lm4 ?_
    obtain ⟨v8, H⟩ := H
    refine gs_0 (f := x3) dX1_isSame_30 (e_fl.c q865) sf_0 v8 ?_
    refine ew_iload_n dX1_isSame_33 rfl lm1 ?_
    refine ew_icmp_ne (tgt := 46) dX1_isSame_34 (by decide) (fun c9 => ?_) (fun c9 => ?_)
    · replace H := H.2 c9
      refine ew_aload dX1_isSame_46 lm4 ?_
      obtain ⟨v10, H⟩ := H
      refine gs_0 (f := x3) dX1_isSame_48 (e_fl.c q865) sf_0 v10 ?_
      refine ew_iload_n dX1_isSame_51 rfl lm2 ?_
      refine ew_icmp_ne (tgt := 66) dX1_isSame_52 (by decide) (fun c11 => ?_) (fun c11 => ?_)
      · replace H := H.2 c11
        obtain ⟨v12, H⟩ := H
        refine ew_iinc dX1_isSame_66 lm3 (by decide) v12 (lv' := [(3, aI (x3 + 1)), (0, aR (some xT)), (1, aI x1), (2, aI x2), (4, aR (some (bI V 12 (x3).toNat)))]) rfl ?_
        refine ew_sub (List.forall_mem_cons.mpr ⟨lm1, (List.forall_mem_cons.mpr ⟨lm2, (List.forall_mem_cons.mpr ⟨lm3, (List.forall_mem_cons.mpr ⟨lm0, (List.forall_mem_cons.mpr ⟨lm4, e_nm⟩)⟩)⟩)⟩)⟩) ?_
        refine ew_goto (tgt := 2) dX1_isSame_69 (by decide) ?_
        exact ew_room (Nat.le_refl _) (Nat.zero_le _) (Nat.zero_le _) (ew_sub (List.forall_mem_cons.mpr ⟨lm0, (List.forall_mem_cons.mpr ⟨lm1, (List.forall_mem_cons.mpr ⟨lm2, (List.forall_mem_cons.mpr ⟨lm3, e_nm⟩)⟩)⟩)⟩) H)
      · replace H := H.1 c11
        refine ew_aload dX1_isSame_55 lm4 ?_
        obtain ⟨v13, H⟩ := H
        refine gs_1 (f := x3) dX1_isSame_57 (e_fl.c q867) sf_1 v13 ?_
        refine ew_iload_n dX1_isSame_60 rfl lm1 ?_
        refine ew_icmp_ne (tgt := 66) dX1_isSame_61 (by decide) (fun c14 => ?_) (fun c14 => ?_)
        · replace H := H.2 c14
          obtain ⟨v15, H⟩ := H
          refine ew_iinc dX1_isSame_66 lm3 (by decide) v15 (lv' := [(3, aI (x3 + 1)), (0, aR (some xT)), (1, aI x1), (2, aI x2), (4, aR (some (bI V 12 (x3).toNat)))]) rfl ?_
          refine ew_sub (List.forall_mem_cons.mpr ⟨lm1, (List.forall_mem_cons.mpr ⟨lm2, (List.forall_mem_cons.mpr ⟨lm3, (List.forall_mem_cons.mpr ⟨lm0, (List.forall_mem_cons.mpr ⟨lm4, e_nm⟩)⟩)⟩)⟩)⟩) ?_
          refine ew_goto (tgt := 2) dX1_isSame_69 (by decide) ?_
          exact ew_room (Nat.le_refl _) (Nat.zero_le _) (Nat.zero_le _) (ew_sub (List.forall_mem_cons.mpr ⟨lm0, (List.forall_mem_cons.mpr ⟨lm1, (List.forall_mem_cons.mpr ⟨lm2, (List.forall_mem_cons.mpr ⟨lm3, e_nm⟩)⟩)⟩)⟩) H)
        · replace H := H.1 c14
          refine ew_iconst dX1_isSame_64 (inI_of rfl) ?_
          exact ew_ret (o := some (aI 1)) rfl ⟨_, rfl, rfl, H⟩ ⟨dX1_isSame_65, .boolean, rfl, Or.inr (Or.inl rfl), by decide⟩
    · replace H := H.1 c9
      refine ew_aload dX1_isSame_37 lm4 ?_
      obtain ⟨v16, H⟩ := H
      refine gs_1 (f := x3) dX1_isSame_39 (e_fl.c q867) sf_1 v16 ?_
      refine ew_iload_n dX1_isSame_42 rfl lm2 ?_
      refine ew_icmp_eq (tgt := 64) dX1_isSame_43 (by decide) (fun c17 => ?_) (fun c17 => ?_)
      · replace H := H.1 c17
        refine ew_iconst dX1_isSame_64 (inI_of rfl) ?_
        exact ew_ret (o := some (aI 1)) rfl ⟨_, rfl, rfl, H⟩ ⟨dX1_isSame_65, .boolean, rfl, Or.inr (Or.inl rfl), by decide⟩
      · replace H := H.2 c17
        refine ew_aload dX1_isSame_46 lm4 ?_
        obtain ⟨v18, H⟩ := H
        refine gs_0 (f := x3) dX1_isSame_48 (e_fl.c q865) sf_0 v18 ?_
        refine ew_iload_n dX1_isSame_51 rfl lm2 ?_
        refine ew_icmp_ne (tgt := 66) dX1_isSame_52 (by decide) (fun c19 => ?_) (fun c19 => ?_)
        · replace H := H.2 c19
          obtain ⟨v20, H⟩ := H
          refine ew_iinc dX1_isSame_66 lm3 (by decide) v20 (lv' := [(3, aI (x3 + 1)), (0, aR (some xT)), (1, aI x1), (2, aI x2), (4, aR (some (bI V 12 (x3).toNat)))]) rfl ?_
          refine ew_sub (List.forall_mem_cons.mpr ⟨lm1, (List.forall_mem_cons.mpr ⟨lm2, (List.forall_mem_cons.mpr ⟨lm3, (List.forall_mem_cons.mpr ⟨lm0, (List.forall_mem_cons.mpr ⟨lm4, e_nm⟩)⟩)⟩)⟩)⟩) ?_
          refine ew_goto (tgt := 2) dX1_isSame_69 (by decide) ?_
          exact ew_room (Nat.le_refl _) (Nat.zero_le _) (Nat.zero_le _) (ew_sub (List.forall_mem_cons.mpr ⟨lm0, (List.forall_mem_cons.mpr ⟨lm1, (List.forall_mem_cons.mpr ⟨lm2, (List.forall_mem_cons.mpr ⟨lm3, e_nm⟩)⟩)⟩)⟩) H)
        · replace H := H.1 c19
          refine ew_aload dX1_isSame_55 lm4 ?_
          obtain ⟨v21, H⟩ := H
          refine gs_1 (f := x3) dX1_isSame_57 (e_fl.c q867) sf_1 v21 ?_
          refine ew_iload_n dX1_isSame_60 rfl lm1 ?_
          refine ew_icmp_ne (tgt := 66) dX1_isSame_61 (by decide) (fun c22 => ?_) (fun c22 => ?_)
          · replace H := H.2 c22
            obtain ⟨v23, H⟩ := H
            refine ew_iinc dX1_isSame_66 lm3 (by decide) v23 (lv' := [(3, aI (x3 + 1)), (0, aR (some xT)), (1, aI x1), (2, aI x2), (4, aR (some (bI V 12 (x3).toNat)))]) rfl ?_
            refine ew_sub (List.forall_mem_cons.mpr ⟨lm1, (List.forall_mem_cons.mpr ⟨lm2, (List.forall_mem_cons.mpr ⟨lm3, (List.forall_mem_cons.mpr ⟨lm0, (List.forall_mem_cons.mpr ⟨lm4, e_nm⟩)⟩)⟩)⟩)⟩) ?_
            refine ew_goto (tgt := 2) dX1_isSame_69 (by decide) ?_
            exact ew_room (Nat.le_refl _) (Nat.zero_le _) (Nat.zero_le _) (ew_sub (List.forall_mem_cons.mpr ⟨lm0, (List.forall_mem_cons.mpr ⟨lm1, (List.forall_mem_cons.mpr ⟨lm2, (List.forall_mem_cons.mpr ⟨lm3, e_nm⟩)⟩)⟩)⟩) H)
          · replace H := H.1 c22
            refine ew_iconst dX1_isSame_64 (inI_of rfl) ?_
            exact ew_ret (o := some (aI 1)) rfl ⟨_, rfl, rfl, H⟩ ⟨dX1_isSame_65, .boolean, rfl, Or.inr (Or.inl rfl), by decide⟩
set_option maxHeartbeats 4000000 in
theorem T_X1_isSame_E (d : Nat) (V : XV) (g : AH) (K : Int → Prop) (a : Int) (b : Int) (s0 : XS) (H : B_X1_isSame_E (W_X1_isSame_2 d V g s0 K) K a b s0) : EW mm_X1_isSame (d + 3) 0 0 (cQ (xh V s0 g) K) 0 [(0, aR (some xT)), (1, aI a), (2, aI b)] [] (xh V s0 g) := by
  refine ew_iconst dX1_isSame_0 (inI_of rfl) ?_
  refine ew_istore_n dX1_isSame_1 rfl (by decide) (lv' := [(3, aI 0), (0, aR (some xT)), (1, aI a), (2, aI b)]) rfl ?_
  refine ew_sub (List.forall_mem_cons.mpr ⟨lm1, (List.forall_mem_cons.mpr ⟨lm2, (List.forall_mem_cons.mpr ⟨lm3, (List.forall_mem_cons.mpr ⟨lm0, e_nm⟩)⟩)⟩)⟩) ?_
  exact ew_room (Nat.le_refl _) (Nat.zero_le _) (Nat.zero_le _) (ew_sub (List.forall_mem_cons.mpr ⟨lm0, (List.forall_mem_cons.mpr ⟨lm1, (List.forall_mem_cons.mpr ⟨lm2, (List.forall_mem_cons.mpr ⟨lm3, e_nm⟩)⟩)⟩)⟩) H)
def C_X1_isSame (a : Int) (b : Int) (s0 : XS) (K : Int → Prop) : Prop := ∀ (X2 : Int → Int → Int → Prop), (∀ (x1 : Int) (x2 : Int) (x3 : Int), B_X1_isSame_2 X2 K x1 x2 x3 s0 → X2 x1 x2 x3) → B_X1_isSame_E X2 K a b s0
theorem S_X1_isSame {d : Nat} {V : XV} {g : AH} {K : Int → Prop} {a : Int} {b : Int} {s0 : XS} (H : C_X1_isSame a b s0 K) : Sp mm_X1_isSame (d + 3) 0 0 [aR (some xT), aI a, aI b] (xh V s0 g) (cQ (xh V s0 g) K) :=
  ew_sp rfl (Nat.le_of_ble_eq_true rfl) (T_X1_isSame_E d V g K a b s0 (H _ (fun x1 x2 x3 H => T_X1_isSame_2 d V g K x1 x2 x3 s0 H)))
abbrev mm_X1_partsCost : EM := (yX1_partsCost, cX1_partsCost, 8, (Option.some .long), [])
theorem me_X1_partsCost : e_mth mm_X1_partsCost 2 := ⟨rfl, q1269, q108, by decide +kernel, by decide⟩
def B_X1_partsCost_47 (X47 : Int → Int → Int → Int → Prop) (K : Int → Prop) (x3 : Int) (x5 : Int) (x6 : Int) (x7 : Int) (s0 : XS) : Prop :=
  (((0 ≤ x5 ∧ x5 < s0.1.1 41) ∧ 0 ≤ s0.1.2 34 x5 ∧ s0.1.2 34 x5 < 2147483648) ∧ (((s0.1.2 34 x5) ≤ x7 → K (jmin 1000000000 x3)) ∧ (¬ (s0.1.2 34 x5) ≤ x7 → (((0 ≤ x5 ∧ x5 < s0.1.1 41) ∧ 0 ≤ x7 ∧ x7 < s0.1.2 34 x5) ∧ ((inI (24 * (s0.1.2 (100 + (x5).toNat) x7))) ∧ (((0 ≤ x6 ∧ x6 < s0.1.1 41) ∧ 0 ≤ x7 ∧ x7 < s0.1.2 34 x6) ∧ ((inI ((24 * (s0.1.2 (100 + (x5).toNat) x7)) + (s0.1.2 (100 + (x6).toNat) x7))) ∧ ((0 ≤ ((24 * (s0.1.2 (100 + (x5).toNat) x7)) + (s0.1.2 (100 + (x6).toNat) x7)) ∧ ((24 * (s0.1.2 (100 + (x5).toNat) x7)) + (s0.1.2 (100 + (x6).toNat) x7)) < 576) ∧ ((inL (x3 + (s0.1.2 17 ((24 * (s0.1.2 (100 + (x5).toNat) x7)) + (s0.1.2 (100 + (x6).toNat) x7))))) ∧ (inI (x7 + 1) ∧ X47 (x3 + (s0.1.2 17 ((24 * (s0.1.2 (100 + (x5).toNat) x7)) + (s0.1.2 (100 + (x6).toNat) x7)))) x5 x6 (x7 + 1)))))))))))
def B_X1_partsCost_E (X47 : Int → Int → Int → Int → Prop) (K : Int → Prop) (a : Int) (b : Int) (s0 : XS) : Prop :=
  (((0 ≤ a ∧ a < s0.1.1 31) ∧ xok s0 1) ∧ ((0 ≤ a ∧ a < s0.1.1 41) ∧ ((0 ≤ a ∧ a < s0.1.1 41) ∧ (((0 ≤ b ∧ b < s0.1.1 31) ∧ xok s0 1) ∧ ((0 ≤ b ∧ b < s0.1.1 41) ∧ ((0 ≤ b ∧ b < s0.1.1 41) ∧ X47 0 a b 0))))))
def W_X1_partsCost_47 (d : Nat) (V : XV) (g : AH) (s0 : XS) (K : Int → Prop) (x3 : Int) (x5 : Int) (x6 : Int) (x7 : Int) : Prop := EW mm_X1_partsCost (d + 3) 0 0 (cQl (xh V s0 g) K) 47 [(0, aR (some xT)), (3, aL x3), (5, aR (some (bI V 14 (x5).toNat))), (6, aR (some (bI V 14 (x6).toNat))), (7, aI x7)] [] (xh V s0 g)
set_option maxHeartbeats 4000000 in
theorem T_X1_partsCost_47 (d : Nat) (V : XV) (g : AH) (K : Int → Prop) (x3 : Int) (x5 : Int) (x6 : Int) (x7 : Int) (s0 : XS) (H : B_X1_partsCost_47 (W_X1_partsCost_47 d V g s0 K) K x3 x5 x6 x7 s0) : EW mm_X1_partsCost (d + 3) 0 0 (cQl (xh V s0 g) K) 47 [(0, aR (some xT)), (3, aL x3), (5, aR (some (bI V 14 (x5).toNat))), (6, aR (some (bI V 14 (x6).toNat))), (7, aI x7)] [] (xh V s0 g) := by
  refine ew_iload dX1_partsCost_47 lm4 ?_
  refine ew_aload dX1_partsCost_49 lm2 ?_
  obtain ⟨v1, H⟩ := H
  refine pw_alen (f := x5) dX1_partsCost_51 v1.1 v1.2 ?_
  refine ew_icmp_ge (tgt := 83) dX1_partsCost_52 (by decide) (fun c2 => ?_) (fun c2 => ?_)
  · replace H := H.1 c2
    refine ew_ldc2 (n := 1000000000) dX1_partsCost_83 (inL_of rfl) q1257 ?_
    refine ew_lload_n dX1_partsCost_86 rfl lm1 ?_
    refine ew_minL (d := d + 2) dX1_partsCost_87 q1270 (Nat.le_of_ble_eq_true rfl) ?_
    exact ew_ret (o := some (aL (jmin 1000000000 x3))) rfl ⟨_, rfl, rfl, H⟩ ⟨dX1_partsCost_90, rfl⟩
  · replace H := H.2 c2
    refine ew_lload_n dX1_partsCost_55 rfl lm1 ?_
    refine ew_aload_n dX1_partsCost_56 rfl lm0 ?_
    refine xw_get (v := aR (some (0, 2, 17))) dX1_partsCost_57 (e_fl.a q345) xf_17 rfl ?_
    refine ew_bipush dX1_partsCost_60 (inI_of rfl) (by decide) ?_
    refine ew_aload dX1_partsCost_62 lm2 ?_
    refine ew_iload dX1_partsCost_64 lm4 ?_
    obtain ⟨v3, H⟩ := H
    refine pw_iald (f := x5) dX1_partsCost_66 v3.1 v3.2 ?_
    obtain ⟨v4, H⟩ := H
    refine ew_imul dX1_partsCost_67 v4 ?_
    refine ew_aload dX1_partsCost_68 lm3 ?_
    refine ew_iload dX1_partsCost_70 lm4 ?_
    obtain ⟨v5, H⟩ := H
    refine pw_iald (f := x6) dX1_partsCost_72 v5.1 v5.2 ?_
    obtain ⟨v6, H⟩ := H
    refine ew_iadd dX1_partsCost_73 v6 ?_
    obtain ⟨v7, H⟩ := H
    refine xw_lald dX1_partsCost_74 rfl v7.1 v7.2 ?_
    obtain ⟨v8, H⟩ := H
    refine ew_ladd dX1_partsCost_75 v8 ?_
    refine ew_lstore_n dX1_partsCost_76 rfl (by decide) (lv' := [(3, aL (x3 + (s0.1.2 17 ((24 * (s0.1.2 (100 + (x5).toNat) x7)) + (s0.1.2 (100 + (x6).toNat) x7))))), (0, aR (some xT)), (5, aR (some (bI V 14 (x5).toNat))), (6, aR (some (bI V 14 (x6).toNat))), (7, aI x7)]) rfl ?_
    refine ew_sub (List.forall_mem_cons.mpr ⟨lm1, (List.forall_mem_cons.mpr ⟨lm0, (List.forall_mem_cons.mpr ⟨lm2, (List.forall_mem_cons.mpr ⟨lm3, (List.forall_mem_cons.mpr ⟨lm4, e_nm⟩)⟩)⟩)⟩)⟩) ?_
    obtain ⟨v9, H⟩ := H
    refine ew_iinc dX1_partsCost_77 lm4 (by decide) v9 (lv' := [(7, aI (x7 + 1)), (0, aR (some xT)), (3, aL (x3 + (s0.1.2 17 ((24 * (s0.1.2 (100 + (x5).toNat) x7)) + (s0.1.2 (100 + (x6).toNat) x7))))), (5, aR (some (bI V 14 (x5).toNat))), (6, aR (some (bI V 14 (x6).toNat)))]) rfl ?_
    refine ew_sub (List.forall_mem_cons.mpr ⟨lm1, (List.forall_mem_cons.mpr ⟨lm2, (List.forall_mem_cons.mpr ⟨lm3, (List.forall_mem_cons.mpr ⟨lm4, (List.forall_mem_cons.mpr ⟨lm0, e_nm⟩)⟩)⟩)⟩)⟩) ?_
    refine ew_goto (tgt := 47) dX1_partsCost_80 (by decide) ?_
    exact ew_room (Nat.le_refl _) (Nat.zero_le _) (Nat.zero_le _) (ew_sub (List.forall_mem_cons.mpr ⟨lm0, (List.forall_mem_cons.mpr ⟨lm1, (List.forall_mem_cons.mpr ⟨lm2, (List.forall_mem_cons.mpr ⟨lm3, (List.forall_mem_cons.mpr ⟨lm4, e_nm⟩)⟩)⟩)⟩)⟩) H)
set_option maxHeartbeats 4000000 in
theorem T_X1_partsCost_E (d : Nat) (V : XV) (g : AH) (K : Int → Prop) (a : Int) (b : Int) (s0 : XS) (H : B_X1_partsCost_E (W_X1_partsCost_47 d V g s0 K) K a b s0) : EW mm_X1_partsCost (d + 3) 0 0 (cQl (xh V s0 g) K) 0 [(0, aR (some xT)), (1, aI a), (2, aI b)] [] (xh V s0 g) := by
  refine ew_lconst (v := 0) dX1_partsCost_0 (inL_of rfl) (by decide) ?_
  refine ew_lstore_n dX1_partsCost_1 rfl (by decide) (lv' := [(3, aL 0), (0, aR (some xT)), (1, aI a), (2, aI b)]) rfl ?_
  refine ew_sub (List.forall_mem_cons.mpr ⟨lm1, (List.forall_mem_cons.mpr ⟨lm2, (List.forall_mem_cons.mpr ⟨lm3, (List.forall_mem_cons.mpr ⟨lm0, e_nm⟩)⟩)⟩)⟩) ?_
  refine ew_aload_n dX1_partsCost_2 rfl lm0 ?_
  refine xw_get (v := aR (some (bI V 1 0))) dX1_partsCost_3 (e_fl.a q333) xf_5 rfl ?_
  refine xw_book dX1_partsCost_6 (e_fl.c q191) bf_1 ?_
  refine ew_iload_n dX1_partsCost_9 rfl lm1 ?_
  obtain ⟨v1, H⟩ := H
  refine lw_g1 (d := d + 0) dX1_partsCost_10 q1021 (Nat.le_of_ble_eq_true rfl) v1.1 v1.2 ?_
  obtain ⟨v2, H⟩ := H
  refine cm_cast (f := a) dX1_partsCost_15 q1072 v2 ?_
  obtain ⟨v3, H⟩ := H
  refine gm_3 (f := a) dX1_partsCost_18 (e_fl.c q827) tf2_3 v3 ?_
  refine ew_astore dX1_partsCost_21 (by decide) (lv' := [(5, aR (some (bI V 14 (a).toNat))), (0, aR (some xT)), (1, aI a), (2, aI b), (3, aL 0)]) rfl ?_
  refine ew_sub (List.forall_mem_cons.mpr ⟨lm1, (List.forall_mem_cons.mpr ⟨lm2, (List.forall_mem_cons.mpr ⟨lm3, (List.forall_mem_cons.mpr ⟨lm4, (List.forall_mem_cons.mpr ⟨lm0, e_nm⟩)⟩)⟩)⟩)⟩) ?_
  refine ew_aload_n dX1_partsCost_23 rfl lm0 ?_
  refine xw_get (v := aR (some (bI V 1 0))) dX1_partsCost_24 (e_fl.a q333) xf_5 rfl ?_
  refine xw_book dX1_partsCost_27 (e_fl.c q191) bf_1 ?_
  refine ew_iload_n dX1_partsCost_30 rfl lm2 ?_
  obtain ⟨v4, H⟩ := H
  refine lw_g1 (d := d + 0) dX1_partsCost_31 q1021 (Nat.le_of_ble_eq_true rfl) v4.1 v4.2 ?_
  obtain ⟨v5, H⟩ := H
  refine cm_cast (f := b) dX1_partsCost_36 q1072 v5 ?_
  obtain ⟨v6, H⟩ := H
  refine gm_3 (f := b) dX1_partsCost_39 (e_fl.c q827) tf2_3 v6 ?_
  refine ew_astore dX1_partsCost_42 (by decide) (lv' := [(6, aR (some (bI V 14 (b).toNat))), (0, aR (some xT)), (1, aI a), (2, aI b), (3, aL 0), (5, aR (some (bI V 14 (a).toNat)))]) rfl ?_
  refine ew_sub (List.forall_mem_cons.mpr ⟨lm1, (List.forall_mem_cons.mpr ⟨lm2, (List.forall_mem_cons.mpr ⟨lm3, (List.forall_mem_cons.mpr ⟨lm4, (List.forall_mem_cons.mpr ⟨lm5, (List.forall_mem_cons.mpr ⟨lm0, e_nm⟩)⟩)⟩)⟩)⟩)⟩) ?_
  refine ew_iconst dX1_partsCost_44 (inI_of rfl) ?_
  refine ew_istore dX1_partsCost_45 (by decide) (lv' := [(7, aI 0), (0, aR (some xT)), (1, aI a), (2, aI b), (3, aL 0), (5, aR (some (bI V 14 (a).toNat))), (6, aR (some (bI V 14 (b).toNat)))]) rfl ?_
  refine ew_sub (List.forall_mem_cons.mpr ⟨lm1, (List.forall_mem_cons.mpr ⟨lm2, (List.forall_mem_cons.mpr ⟨lm3, (List.forall_mem_cons.mpr ⟨lm4, (List.forall_mem_cons.mpr ⟨lm5, (List.forall_mem_cons.mpr ⟨lm6, (List.forall_mem_cons.mpr ⟨lm0, e_nm⟩)⟩)⟩)⟩)⟩)⟩)⟩) ?_
  exact ew_room (Nat.le_refl _) (Nat.zero_le _) (Nat.zero_le _) (ew_sub (List.forall_mem_cons.mpr ⟨lm0, (List.forall_mem_cons.mpr ⟨lm3, (List.forall_mem_cons.mpr ⟨lm4, (List.forall_mem_cons.mpr ⟨lm5, (List.forall_mem_cons.mpr ⟨lm6, e_nm⟩)⟩)⟩)⟩)⟩) H)
def C_X1_partsCost (a : Int) (b : Int) (s0 : XS) (K : Int → Prop) : Prop := ∀ (X47 : Int → Int → Int → Int → Prop), (∀ (x3 : Int) (x5 : Int) (x6 : Int) (x7 : Int), B_X1_partsCost_47 X47 K x3 x5 x6 x7 s0 → X47 x3 x5 x6 x7) → B_X1_partsCost_E X47 K a b s0
theorem S_X1_partsCost {d : Nat} {V : XV} {g : AH} {K : Int → Prop} {a : Int} {b : Int} {s0 : XS} (H : C_X1_partsCost a b s0 K) : Sp mm_X1_partsCost (d + 3) 0 0 [aR (some xT), aI a, aI b] (xh V s0 g) (cQl (xh V s0 g) K) :=
  ew_sp rfl (Nat.le_of_ble_eq_true rfl) (T_X1_partsCost_E d V g K a b s0 (H _ (fun x3 x5 x6 x7 H => T_X1_partsCost_47 d V g K x3 x5 x6 x7 s0 H)))
abbrev mm_X1_laysEdges : EM := (yX1_laysEdges, cX1_laysEdges, 5, (Option.none : Option Jvm.ClassFile.FieldType), [])
theorem me_X1_laysEdges : e_mth mm_X1_laysEdges 0 := ⟨rfl, q1261, q108, by decide +kernel, by decide⟩
def B_X1_laysEdges_2 (X2 : Int → XS → Prop) (X12 : Int → Int → XS → Prop) (K : XS → Prop) (x1 : Int) (s0 : XS) : Prop :=
  (C_X1_terms s0 (fun r1 => ((r1 ≤ x1 → K s0) ∧ (¬ r1 ≤ x1 → X12 x1 0 s0))))
def B_X1_laysEdges_12 (X2 : Int → XS → Prop) (X12 : Int → Int → XS → Prop) (K : XS → Prop) (x1 : Int) (x2 : Int) (s0 : XS) : Prop :=
  (C_X1_terms s0 (fun r1 => ((r1 ≤ x2 → (inI (x1 + 1) ∧ X2 (x1 + 1) s0)) ∧ (¬ r1 ≤ x2 → (C_X1_isSame x1 x2 s0 (fun r7 => ((r7 = 0 → ((x1 = x2 → ((inI (24 * x1)) ∧ ((inI ((24 * x1) + x2)) ∧ (((0 ≤ ((24 * x1) + x2) ∧ ((24 * x1) + x2) < 576)) ∧ ∀ s15 : XS, s15 = xa s0 18 ((24 * x1) + x2) 1000000000 → (inI (x2 + 1) ∧ X12 x1 (x2 + 1) s15))))) ∧ (¬ x1 = x2 → (C_X1_follow x1 x2 4 s0 (fun r19 => ((r19 = 0 → ((inI (24 * x1)) ∧ ((inI ((24 * x1) + x2)) ∧ (((0 ≤ ((24 * x1) + x2) ∧ ((24 * x1) + x2) < 576)) ∧ ∀ s26 : XS, s26 = xa s0 18 ((24 * x1) + x2) 1000000000 → (inI (x2 + 1) ∧ X12 x1 (x2 + 1) s26))))) ∧ (¬ r19 = 0 → (C_X1_partsCost x1 x2 s0 (fun r30 => ((inI (24 * x1)) ∧ ((inI ((24 * x1) + x2)) ∧ (((0 ≤ ((24 * x1) + x2) ∧ ((24 * x1) + x2) < 576)) ∧ ∀ s36 : XS, s36 = xa s0 18 ((24 * x1) + x2) (jmin 1000000000 r30) → (inI (x2 + 1) ∧ X12 x1 (x2 + 1) s36))))))))))))) ∧ (¬ r7 = 0 → ((x1 = x2 → ((inI (24 * x1)) ∧ ((inI ((24 * x1) + x2)) ∧ (((0 ≤ ((24 * x1) + x2) ∧ ((24 * x1) + x2) < 576)) ∧ ∀ s43 : XS, s43 = xa s0 18 ((24 * x1) + x2) 1 → (inI (x2 + 1) ∧ X12 x1 (x2 + 1) s43))))) ∧ (¬ x1 = x2 → (C_X1_follow x1 x2 4 s0 (fun r47 => ((r47 = 0 → ((inI (24 * x1)) ∧ ((inI ((24 * x1) + x2)) ∧ (((0 ≤ ((24 * x1) + x2) ∧ ((24 * x1) + x2) < 576)) ∧ ∀ s54 : XS, s54 = xa s0 18 ((24 * x1) + x2) 1 → (inI (x2 + 1) ∧ X12 x1 (x2 + 1) s54))))) ∧ (¬ r47 = 0 → (C_X1_partsCost x1 x2 s0 (fun r58 => ((inI (24 * x1)) ∧ ((inI ((24 * x1) + x2)) ∧ (((0 ≤ ((24 * x1) + x2) ∧ ((24 * x1) + x2) < 576)) ∧ ∀ s64 : XS, s64 = xa s0 18 ((24 * x1) + x2) (jmin 1 r58) → (inI (x2 + 1) ∧ X12 x1 (x2 + 1) s64))))))))))))))))))))
def B_X1_laysEdges_E (X2 : Int → XS → Prop) (X12 : Int → Int → XS → Prop) (K : XS → Prop) (s0 : XS) : Prop :=
  X2 0 s0
def W_X1_laysEdges_2 (d : Nat) (V : XV) (g : AH) (K : XS → Prop) (x1 : Int) (s0 : XS) : Prop := EW mm_X1_laysEdges (d + 4) 0 0 (xQv V g K) 2 [(0, aR (some xT)), (1, aI x1)] [] (xh V s0 g)
def W_X1_laysEdges_12 (d : Nat) (V : XV) (g : AH) (K : XS → Prop) (x1 : Int) (x2 : Int) (s0 : XS) : Prop := EW mm_X1_laysEdges (d + 4) 0 0 (xQv V g K) 12 [(0, aR (some xT)), (1, aI x1), (2, aI x2)] [] (xh V s0 g)
set_option maxHeartbeats 4000000 in
theorem T_X1_laysEdges_2 (d : Nat) (V : XV) (g : AH) (K : XS → Prop) (x1 : Int) (s0 : XS) (H : B_X1_laysEdges_2 (W_X1_laysEdges_2 d V g K) (W_X1_laysEdges_12 d V g K) K x1 s0) : EW mm_X1_laysEdges (d + 4) 0 0 (xQv V g K) 2 [(0, aR (some xT)), (1, aI x1)] [] (xh V s0 g) := by
  refine ew_iload_n dX1_laysEdges_2 rfl lm1 ?_
  refine ew_aload_n dX1_laysEdges_3 rfl lm0 ?_
  refine ew_callV (d := d + 3) (as := []) rfl dX1_laysEdges_4 me_X1_terms rfl (ci := 0) rfl rfl xh_x (Or.inl q1048) q1050 qs25 (Nat.le_of_ble_eq_true rfl) (Nat.zero_le _) (Nat.zero_le _) (S_X1_terms (d := d + 2) H) (fun o h' hq3 _ => ?_) (fun E i h' q _ => (cQ_no q).elim)
  obtain ⟨r1, E4, rfl, H⟩ := hq3
  cases E4
  refine ew_icmp_ge (tgt := 90) dX1_laysEdges_7 (by decide) (fun c5 => ?_) (fun c5 => ?_)
  · replace H := H.1 c5
    exact ew_ret (o := none) rfl ⟨_, rfl, rfl, H⟩ ⟨rfl, dX1_laysEdges_90⟩
  · replace H := H.2 c5
    refine ew_iconst dX1_laysEdges_10 (inI_of rfl) ?_
    refine ew_istore_n dX1_laysEdges_11 rfl (by decide) (lv' := [(2, aI 0), (0, aR (some xT)), (1, aI x1)]) rfl ?_
    refine ew_sub (List.forall_mem_cons.mpr ⟨lm1, (List.forall_mem_cons.mpr ⟨lm2, (List.forall_mem_cons.mpr ⟨lm0, e_nm⟩)⟩)⟩) ?_
    exact ew_room (Nat.le_refl _) (Nat.zero_le _) (Nat.zero_le _) (ew_sub (List.forall_mem_cons.mpr ⟨lm0, (List.forall_mem_cons.mpr ⟨lm1, (List.forall_mem_cons.mpr ⟨lm2, e_nm⟩)⟩)⟩) H)
set_option maxHeartbeats 4000000 in
theorem T_X1_laysEdges_12 (d : Nat) (V : XV) (g : AH) (K : XS → Prop) (x1 : Int) (x2 : Int) (s0 : XS) (H : B_X1_laysEdges_12 (W_X1_laysEdges_2 d V g K) (W_X1_laysEdges_12 d V g K) K x1 x2 s0) : EW mm_X1_laysEdges (d + 4) 0 0 (xQv V g K) 12 [(0, aR (some xT)), (1, aI x1), (2, aI x2)] [] (xh V s0 g) := by
  refine ew_iload_n dX1_laysEdges_12 rfl lm2 ?_
  refine ew_aload_n dX1_laysEdges_13 rfl lm0 ?_
  refine ew_callV (d := d + 3) (as := []) rfl dX1_laysEdges_14 me_X1_terms rfl (ci := 0) rfl rfl xh_x (Or.inl q1048) q1050 qs25 (Nat.le_of_ble_eq_true rfl) (Nat.zero_le _) (Nat.zero_le _) (S_X1_terms (d := d + 2) H) (fun o h' hq3 _ => ?_) (fun E i h' q _ => (cQ_no q).elim)
  obtain ⟨r1, E4, rfl, H⟩ := hq3
  cases E4
  refine ew_icmp_ge (tgt := 84) dX1_laysEdges_17 (by decide) (fun c5 => ?_) (fun c5 => ?_)
  · replace H := H.1 c5
    obtain ⟨v6, H⟩ := H
    refine ew_iinc dX1_laysEdges_84 lm1 (by decide) v6 (lv' := [(1, aI (x1 + 1)), (0, aR (some xT)), (2, aI x2)]) rfl ?_
    refine ew_sub (List.forall_mem_cons.mpr ⟨lm1, (List.forall_mem_cons.mpr ⟨lm0, (List.forall_mem_cons.mpr ⟨lm2, e_nm⟩)⟩)⟩) ?_
    refine ew_goto (tgt := 2) dX1_laysEdges_87 (by decide) ?_
    exact ew_room (Nat.le_refl _) (Nat.zero_le _) (Nat.zero_le _) (ew_sub (List.forall_mem_cons.mpr ⟨lm0, (List.forall_mem_cons.mpr ⟨lm1, e_nm⟩)⟩) H)
  · replace H := H.2 c5
    refine ew_aload_n dX1_laysEdges_20 rfl lm0 ?_
    refine ew_iload_n dX1_laysEdges_21 rfl lm1 ?_
    refine ew_iload_n dX1_laysEdges_22 rfl lm2 ?_
    refine ew_callV (d := d + 3) (as := [aI x1, aI x2]) rfl dX1_laysEdges_23 me_X1_isSame rfl (ci := 0) rfl rfl xh_x (Or.inl q1262) q1264 qs46 (Nat.le_of_ble_eq_true rfl) (Nat.zero_le _) (Nat.zero_le _) (S_X1_isSame (d := d + 0) H) (fun o h' hq9 _ => ?_) (fun E i h' q _ => (cQ_no q).elim)
    obtain ⟨r7, E10, rfl, H⟩ := hq9
    cases E10
    refine ew_if_eq (tgt := 33) dX1_laysEdges_26 (by decide) (fun c11 => ?_) (fun c11 => ?_)
    · replace H := H.1 c11
      refine ew_ldc2 (n := 1000000000) dX1_laysEdges_33 (inL_of rfl) q1257 ?_
      refine ew_lstore_n dX1_laysEdges_36 rfl (by decide) (lv' := [(3, aL 1000000000), (0, aR (some xT)), (1, aI x1), (2, aI x2)]) rfl ?_
      refine ew_sub (List.forall_mem_cons.mpr ⟨lm1, (List.forall_mem_cons.mpr ⟨lm2, (List.forall_mem_cons.mpr ⟨lm3, (List.forall_mem_cons.mpr ⟨lm0, e_nm⟩)⟩)⟩)⟩) ?_
      refine ew_iload_n dX1_laysEdges_37 rfl lm1 ?_
      refine ew_iload_n dX1_laysEdges_38 rfl lm2 ?_
      refine ew_icmp_eq (tgt := 66) dX1_laysEdges_39 (by decide) (fun c12 => ?_) (fun c12 => ?_)
      · replace H := H.1 c12
        refine ew_aload_n dX1_laysEdges_66 rfl lm0 ?_
        refine xw_get (v := aR (some (0, 2, 18))) dX1_laysEdges_67 (e_fl.a q346) xf_18 rfl ?_
        refine ew_bipush dX1_laysEdges_70 (inI_of rfl) (by decide) ?_
        refine ew_iload_n dX1_laysEdges_72 rfl lm1 ?_
        obtain ⟨v13, H⟩ := H
        refine ew_imul dX1_laysEdges_73 v13 ?_
        refine ew_iload_n dX1_laysEdges_74 rfl lm2 ?_
        obtain ⟨v14, H⟩ := H
        refine ew_iadd dX1_laysEdges_75 v14 ?_
        refine ew_lload_n dX1_laysEdges_76 rfl lm3 ?_
        obtain ⟨v17, H⟩ := H
        refine xw_last dX1_laysEdges_77 (by decide) rfl rfl v17.1 v17.2 (fun s15 e16 => ?_)
        replace H := H s15 e16
        obtain ⟨v18, H⟩ := H
        refine ew_iinc dX1_laysEdges_78 lm2 (by decide) v18 (lv' := [(2, aI (x2 + 1)), (0, aR (some xT)), (1, aI x1), (3, aL 1000000000)]) rfl ?_
        refine ew_sub (List.forall_mem_cons.mpr ⟨lm1, (List.forall_mem_cons.mpr ⟨lm2, (List.forall_mem_cons.mpr ⟨lm0, (List.forall_mem_cons.mpr ⟨lm3, e_nm⟩)⟩)⟩)⟩) ?_
        refine ew_goto (tgt := 12) dX1_laysEdges_81 (by decide) ?_
        exact ew_room (Nat.le_refl _) (Nat.zero_le _) (Nat.zero_le _) (ew_sub (List.forall_mem_cons.mpr ⟨lm0, (List.forall_mem_cons.mpr ⟨lm1, (List.forall_mem_cons.mpr ⟨lm2, e_nm⟩)⟩)⟩) H)
      · replace H := H.2 c12
        refine ew_aload_n dX1_laysEdges_42 rfl lm0 ?_
        refine ew_aload_n dX1_laysEdges_43 rfl lm0 ?_
        refine xw_get (v := aR (some (sI V 4 99))) dX1_laysEdges_44 (e_fl.a q334) xf_6 rfl ?_
        refine ew_iload_n dX1_laysEdges_47 rfl lm1 ?_
        refine ew_iload_n dX1_laysEdges_48 rfl lm2 ?_
        refine ew_callV (d := d + 3) (as := [aR (some (sI V 4 99)), aI x1, aI x2]) rfl dX1_laysEdges_49 me_X1_follow rfl (ci := 0) rfl rfl xh_x (Or.inl q1245) q1247 qs43 (Nat.le_of_ble_eq_true rfl) (Nat.zero_le _) (Nat.zero_le _) (S_X1_follow (d := d + 0) (by decide) H) (fun o h' hq21 _ => ?_) (fun E i h' q _ => (cQ_no q).elim)
        obtain ⟨r19, E22, rfl, H⟩ := hq21
        cases E22
        refine ew_if_eq (tgt := 66) dX1_laysEdges_52 (by decide) (fun c23 => ?_) (fun c23 => ?_)
        · replace H := H.1 c23
          refine ew_aload_n dX1_laysEdges_66 rfl lm0 ?_
          refine xw_get (v := aR (some (0, 2, 18))) dX1_laysEdges_67 (e_fl.a q346) xf_18 rfl ?_
          refine ew_bipush dX1_laysEdges_70 (inI_of rfl) (by decide) ?_
          refine ew_iload_n dX1_laysEdges_72 rfl lm1 ?_
          obtain ⟨v24, H⟩ := H
          refine ew_imul dX1_laysEdges_73 v24 ?_
          refine ew_iload_n dX1_laysEdges_74 rfl lm2 ?_
          obtain ⟨v25, H⟩ := H
          refine ew_iadd dX1_laysEdges_75 v25 ?_
          refine ew_lload_n dX1_laysEdges_76 rfl lm3 ?_
          obtain ⟨v28, H⟩ := H
          refine xw_last dX1_laysEdges_77 (by decide) rfl rfl v28.1 v28.2 (fun s26 e27 => ?_)
          replace H := H s26 e27
          obtain ⟨v29, H⟩ := H
          refine ew_iinc dX1_laysEdges_78 lm2 (by decide) v29 (lv' := [(2, aI (x2 + 1)), (0, aR (some xT)), (1, aI x1), (3, aL 1000000000)]) rfl ?_
          refine ew_sub (List.forall_mem_cons.mpr ⟨lm1, (List.forall_mem_cons.mpr ⟨lm2, (List.forall_mem_cons.mpr ⟨lm0, (List.forall_mem_cons.mpr ⟨lm3, e_nm⟩)⟩)⟩)⟩) ?_
          refine ew_goto (tgt := 12) dX1_laysEdges_81 (by decide) ?_
          exact ew_room (Nat.le_refl _) (Nat.zero_le _) (Nat.zero_le _) (ew_sub (List.forall_mem_cons.mpr ⟨lm0, (List.forall_mem_cons.mpr ⟨lm1, (List.forall_mem_cons.mpr ⟨lm2, e_nm⟩)⟩)⟩) H)
        · replace H := H.2 c23
          refine ew_lload_n dX1_laysEdges_55 rfl lm3 ?_
          refine ew_aload_n dX1_laysEdges_56 rfl lm0 ?_
          refine ew_iload_n dX1_laysEdges_57 rfl lm1 ?_
          refine ew_iload_n dX1_laysEdges_58 rfl lm2 ?_
          refine ew_callV (d := d + 3) (as := [aI x1, aI x2]) rfl dX1_laysEdges_59 me_X1_partsCost rfl (ci := 0) rfl rfl xh_x (Or.inl q1266) q1268 qs47 (Nat.le_of_ble_eq_true rfl) (Nat.zero_le _) (Nat.zero_le _) (S_X1_partsCost (d := d + 0) H) (fun o h' hq32 _ => ?_) (fun E i h' q _ => (cQl_no q).elim)
          obtain ⟨r30, E33, rfl, H⟩ := hq32
          cases E33
          refine ew_minL (d := d + 3) dX1_laysEdges_62 q1270 (Nat.le_of_ble_eq_true rfl) ?_
          refine ew_lstore_n dX1_laysEdges_65 rfl (by decide) (lv' := [(3, aL (jmin 1000000000 r30)), (0, aR (some xT)), (1, aI x1), (2, aI x2)]) rfl ?_
          refine ew_sub (List.forall_mem_cons.mpr ⟨lm1, (List.forall_mem_cons.mpr ⟨lm2, (List.forall_mem_cons.mpr ⟨lm3, (List.forall_mem_cons.mpr ⟨lm0, e_nm⟩)⟩)⟩)⟩) ?_
          refine ew_aload_n dX1_laysEdges_66 rfl lm0 ?_
          refine xw_get (v := aR (some (0, 2, 18))) dX1_laysEdges_67 (e_fl.a q346) xf_18 rfl ?_
          refine ew_bipush dX1_laysEdges_70 (inI_of rfl) (by decide) ?_
          refine ew_iload_n dX1_laysEdges_72 rfl lm1 ?_
          obtain ⟨v34, H⟩ := H
          refine ew_imul dX1_laysEdges_73 v34 ?_
          refine ew_iload_n dX1_laysEdges_74 rfl lm2 ?_
          obtain ⟨v35, H⟩ := H
          refine ew_iadd dX1_laysEdges_75 v35 ?_
          refine ew_lload_n dX1_laysEdges_76 rfl lm3 ?_
          obtain ⟨v38, H⟩ := H
          refine xw_last dX1_laysEdges_77 (by decide) rfl rfl v38.1 v38.2 (fun s36 e37 => ?_)
          replace H := H s36 e37
          obtain ⟨v39, H⟩ := H
          refine ew_iinc dX1_laysEdges_78 lm2 (by decide) v39 (lv' := [(2, aI (x2 + 1)), (0, aR (some xT)), (1, aI x1), (3, aL (jmin 1000000000 r30))]) rfl ?_
          refine ew_sub (List.forall_mem_cons.mpr ⟨lm1, (List.forall_mem_cons.mpr ⟨lm2, (List.forall_mem_cons.mpr ⟨lm0, (List.forall_mem_cons.mpr ⟨lm3, e_nm⟩)⟩)⟩)⟩) ?_
          refine ew_goto (tgt := 12) dX1_laysEdges_81 (by decide) ?_
          exact ew_room (Nat.le_refl _) (Nat.zero_le _) (Nat.zero_le _) (ew_sub (List.forall_mem_cons.mpr ⟨lm0, (List.forall_mem_cons.mpr ⟨lm1, (List.forall_mem_cons.mpr ⟨lm2, e_nm⟩)⟩)⟩) H)
    · replace H := H.2 c11
      refine ew_lconst (v := 1) dX1_laysEdges_29 (inL_of rfl) (by decide) ?_
      refine ew_goto (tgt := 36) dX1_laysEdges_30 (by decide) ?_
      refine ew_lstore_n dX1_laysEdges_36 rfl (by decide) (lv' := [(3, aL 1), (0, aR (some xT)), (1, aI x1), (2, aI x2)]) rfl ?_
      refine ew_sub (List.forall_mem_cons.mpr ⟨lm1, (List.forall_mem_cons.mpr ⟨lm2, (List.forall_mem_cons.mpr ⟨lm3, (List.forall_mem_cons.mpr ⟨lm0, e_nm⟩)⟩)⟩)⟩) ?_
      refine ew_iload_n dX1_laysEdges_37 rfl lm1 ?_
      refine ew_iload_n dX1_laysEdges_38 rfl lm2 ?_
      refine ew_icmp_eq (tgt := 66) dX1_laysEdges_39 (by decide) (fun c40 => ?_) (fun c40 => ?_)
      · replace H := H.1 c40
        refine ew_aload_n dX1_laysEdges_66 rfl lm0 ?_
        refine xw_get (v := aR (some (0, 2, 18))) dX1_laysEdges_67 (e_fl.a q346) xf_18 rfl ?_
        refine ew_bipush dX1_laysEdges_70 (inI_of rfl) (by decide) ?_
        refine ew_iload_n dX1_laysEdges_72 rfl lm1 ?_
        obtain ⟨v41, H⟩ := H
        refine ew_imul dX1_laysEdges_73 v41 ?_
        refine ew_iload_n dX1_laysEdges_74 rfl lm2 ?_
        obtain ⟨v42, H⟩ := H
        refine ew_iadd dX1_laysEdges_75 v42 ?_
        refine ew_lload_n dX1_laysEdges_76 rfl lm3 ?_
        obtain ⟨v45, H⟩ := H
        refine xw_last dX1_laysEdges_77 (by decide) rfl rfl v45.1 v45.2 (fun s43 e44 => ?_)
        replace H := H s43 e44
        obtain ⟨v46, H⟩ := H
        refine ew_iinc dX1_laysEdges_78 lm2 (by decide) v46 (lv' := [(2, aI (x2 + 1)), (0, aR (some xT)), (1, aI x1), (3, aL 1)]) rfl ?_
        refine ew_sub (List.forall_mem_cons.mpr ⟨lm1, (List.forall_mem_cons.mpr ⟨lm2, (List.forall_mem_cons.mpr ⟨lm0, (List.forall_mem_cons.mpr ⟨lm3, e_nm⟩)⟩)⟩)⟩) ?_
        refine ew_goto (tgt := 12) dX1_laysEdges_81 (by decide) ?_
        exact ew_room (Nat.le_refl _) (Nat.zero_le _) (Nat.zero_le _) (ew_sub (List.forall_mem_cons.mpr ⟨lm0, (List.forall_mem_cons.mpr ⟨lm1, (List.forall_mem_cons.mpr ⟨lm2, e_nm⟩)⟩)⟩) H)
      · replace H := H.2 c40
        refine ew_aload_n dX1_laysEdges_42 rfl lm0 ?_
        refine ew_aload_n dX1_laysEdges_43 rfl lm0 ?_
        refine xw_get (v := aR (some (sI V 4 99))) dX1_laysEdges_44 (e_fl.a q334) xf_6 rfl ?_
        refine ew_iload_n dX1_laysEdges_47 rfl lm1 ?_
        refine ew_iload_n dX1_laysEdges_48 rfl lm2 ?_
        refine ew_callV (d := d + 3) (as := [aR (some (sI V 4 99)), aI x1, aI x2]) rfl dX1_laysEdges_49 me_X1_follow rfl (ci := 0) rfl rfl xh_x (Or.inl q1245) q1247 qs43 (Nat.le_of_ble_eq_true rfl) (Nat.zero_le _) (Nat.zero_le _) (S_X1_follow (d := d + 0) (by decide) H) (fun o h' hq49 _ => ?_) (fun E i h' q _ => (cQ_no q).elim)
        obtain ⟨r47, E50, rfl, H⟩ := hq49
        cases E50
        refine ew_if_eq (tgt := 66) dX1_laysEdges_52 (by decide) (fun c51 => ?_) (fun c51 => ?_)
        · replace H := H.1 c51
          refine ew_aload_n dX1_laysEdges_66 rfl lm0 ?_
          refine xw_get (v := aR (some (0, 2, 18))) dX1_laysEdges_67 (e_fl.a q346) xf_18 rfl ?_
          refine ew_bipush dX1_laysEdges_70 (inI_of rfl) (by decide) ?_
          refine ew_iload_n dX1_laysEdges_72 rfl lm1 ?_
          obtain ⟨v52, H⟩ := H
          refine ew_imul dX1_laysEdges_73 v52 ?_
          refine ew_iload_n dX1_laysEdges_74 rfl lm2 ?_
          obtain ⟨v53, H⟩ := H
          refine ew_iadd dX1_laysEdges_75 v53 ?_
          refine ew_lload_n dX1_laysEdges_76 rfl lm3 ?_
          obtain ⟨v56, H⟩ := H
          refine xw_last dX1_laysEdges_77 (by decide) rfl rfl v56.1 v56.2 (fun s54 e55 => ?_)
          replace H := H s54 e55
          obtain ⟨v57, H⟩ := H
          refine ew_iinc dX1_laysEdges_78 lm2 (by decide) v57 (lv' := [(2, aI (x2 + 1)), (0, aR (some xT)), (1, aI x1), (3, aL 1)]) rfl ?_
          refine ew_sub (List.forall_mem_cons.mpr ⟨lm1, (List.forall_mem_cons.mpr ⟨lm2, (List.forall_mem_cons.mpr ⟨lm0, (List.forall_mem_cons.mpr ⟨lm3, e_nm⟩)⟩)⟩)⟩) ?_
          refine ew_goto (tgt := 12) dX1_laysEdges_81 (by decide) ?_
          exact ew_room (Nat.le_refl _) (Nat.zero_le _) (Nat.zero_le _) (ew_sub (List.forall_mem_cons.mpr ⟨lm0, (List.forall_mem_cons.mpr ⟨lm1, (List.forall_mem_cons.mpr ⟨lm2, e_nm⟩)⟩)⟩) H)
        · replace H := H.2 c51
          refine ew_lload_n dX1_laysEdges_55 rfl lm3 ?_
          refine ew_aload_n dX1_laysEdges_56 rfl lm0 ?_
          refine ew_iload_n dX1_laysEdges_57 rfl lm1 ?_
          refine ew_iload_n dX1_laysEdges_58 rfl lm2 ?_
          refine ew_callV (d := d + 3) (as := [aI x1, aI x2]) rfl dX1_laysEdges_59 me_X1_partsCost rfl (ci := 0) rfl rfl xh_x (Or.inl q1266) q1268 qs47 (Nat.le_of_ble_eq_true rfl) (Nat.zero_le _) (Nat.zero_le _) (S_X1_partsCost (d := d + 0) H) (fun o h' hq60 _ => ?_) (fun E i h' q _ => (cQl_no q).elim)
          obtain ⟨r58, E61, rfl, H⟩ := hq60
          cases E61
          refine ew_minL (d := d + 3) dX1_laysEdges_62 q1270 (Nat.le_of_ble_eq_true rfl) ?_
          refine ew_lstore_n dX1_laysEdges_65 rfl (by decide) (lv' := [(3, aL (jmin 1 r58)), (0, aR (some xT)), (1, aI x1), (2, aI x2)]) rfl ?_
          refine ew_sub (List.forall_mem_cons.mpr ⟨lm1, (List.forall_mem_cons.mpr ⟨lm2, (List.forall_mem_cons.mpr ⟨lm3, (List.forall_mem_cons.mpr ⟨lm0, e_nm⟩)⟩)⟩)⟩) ?_
          refine ew_aload_n dX1_laysEdges_66 rfl lm0 ?_
          refine xw_get (v := aR (some (0, 2, 18))) dX1_laysEdges_67 (e_fl.a q346) xf_18 rfl ?_
          refine ew_bipush dX1_laysEdges_70 (inI_of rfl) (by decide) ?_
          refine ew_iload_n dX1_laysEdges_72 rfl lm1 ?_
          obtain ⟨v62, H⟩ := H
          refine ew_imul dX1_laysEdges_73 v62 ?_
          refine ew_iload_n dX1_laysEdges_74 rfl lm2 ?_
          obtain ⟨v63, H⟩ := H
          refine ew_iadd dX1_laysEdges_75 v63 ?_
          refine ew_lload_n dX1_laysEdges_76 rfl lm3 ?_
          obtain ⟨v66, H⟩ := H
          refine xw_last dX1_laysEdges_77 (by decide) rfl rfl v66.1 v66.2 (fun s64 e65 => ?_)
          replace H := H s64 e65
          obtain ⟨v67, H⟩ := H
          refine ew_iinc dX1_laysEdges_78 lm2 (by decide) v67 (lv' := [(2, aI (x2 + 1)), (0, aR (some xT)), (1, aI x1), (3, aL (jmin 1 r58))]) rfl ?_
          refine ew_sub (List.forall_mem_cons.mpr ⟨lm1, (List.forall_mem_cons.mpr ⟨lm2, (List.forall_mem_cons.mpr ⟨lm0, (List.forall_mem_cons.mpr ⟨lm3, e_nm⟩)⟩)⟩)⟩) ?_
          refine ew_goto (tgt := 12) dX1_laysEdges_81 (by decide) ?_
          exact ew_room (Nat.le_refl _) (Nat.zero_le _) (Nat.zero_le _) (ew_sub (List.forall_mem_cons.mpr ⟨lm0, (List.forall_mem_cons.mpr ⟨lm1, (List.forall_mem_cons.mpr ⟨lm2, e_nm⟩)⟩)⟩) H)
set_option maxHeartbeats 4000000 in
theorem T_X1_laysEdges_E (d : Nat) (V : XV) (g : AH) (K : XS → Prop) (s0 : XS) (H : B_X1_laysEdges_E (W_X1_laysEdges_2 d V g K) (W_X1_laysEdges_12 d V g K) K s0) : EW mm_X1_laysEdges (d + 4) 0 0 (xQv V g K) 0 [(0, aR (some xT))] [] (xh V s0 g) := by
  refine ew_iconst dX1_laysEdges_0 (inI_of rfl) ?_
  refine ew_istore_n dX1_laysEdges_1 rfl (by decide) (lv' := [(1, aI 0), (0, aR (some xT))]) rfl ?_
  refine ew_sub (List.forall_mem_cons.mpr ⟨lm1, (List.forall_mem_cons.mpr ⟨lm0, e_nm⟩)⟩) ?_
  exact ew_room (Nat.le_refl _) (Nat.zero_le _) (Nat.zero_le _) (ew_sub (List.forall_mem_cons.mpr ⟨lm0, (List.forall_mem_cons.mpr ⟨lm1, e_nm⟩)⟩) H)
def C_X1_laysEdges (s0 : XS) (K : XS → Prop) : Prop := ∀ (X2 : Int → XS → Prop) (X12 : Int → Int → XS → Prop), (∀ (x1 : Int) (s0 : XS), B_X1_laysEdges_2 X2 X12 K x1 s0 → X2 x1 s0) → (∀ (x1 : Int) (x2 : Int) (s0 : XS), B_X1_laysEdges_12 X2 X12 K x1 x2 s0 → X12 x1 x2 s0) → B_X1_laysEdges_E X2 X12 K s0
theorem S_X1_laysEdges {d : Nat} {V : XV} {g : AH} {K : XS → Prop} {s0 : XS} (H : C_X1_laysEdges s0 K) : Sp mm_X1_laysEdges (d + 4) 0 0 [aR (some xT)] (xh V s0 g) (xQv V g K) :=
  ew_sp rfl (Nat.le_of_ble_eq_true rfl) (T_X1_laysEdges_E d V g K s0 (H _ _ (fun x1 s0 H => T_X1_laysEdges_2 d V g K x1 s0 H) (fun x1 x2 s0 H => T_X1_laysEdges_12 d V g K x1 x2 s0 H)))
