/-! ReasonCloser.fewestBy (gen/gxl.py) -/
set_option maxRecDepth 100000
abbrev mm_X1_fewestBy : EM := (yX1_fewestBy, cX1_fewestBy, 4, (Option.some .int), [])
theorem me_X1_fewestBy : e_mth mm_X1_fewestBy 1 := ⟨rfl, q1193, q108, by decide +kernel, by decide⟩
/-- what is asked at pc 39: R answers -/
def askP (d : Nat) (V : XV) (g : AH) (lI : EId) (R : XS → (Int → Prop) → Prop) : Prop := ∀ (Q : AO → AH → Prop) (kc ks : Nat) (lv : List (Nat × AV)) (s : XS) (K' : Int → Prop), R s K' → (∀ n, K' n → EW mm_X1_fewestBy (d + 8) kc ks Q 44 lv [aI n] (xh V s g)) → EW mm_X1_fewestBy (d + 8) kc ks Q 39 lv [aR (some (sI V 3 99)), aR (some lI)] (xh V s g)
def B_X1_fewestBy_5 (R : XS → (Int → Prop) → Prop) (X5 : Int → Int → XS → Prop) (K : Int → XS → Prop) (x2 : Int) (x3 : Int) (s0 : XS) : Prop :=
  (C_X1_every s0 (fun r1 => ((r1 < x3 → K x2 s0) ∧ (¬ r1 < x3 → ((x2 = (-2) → (C_X1_by x3 s0 (fun s8 => (R s8 (fun r11 => ((r11 = 0 → (inI (x3 + 1) ∧ X5 x2 (x3 + 1) s8)) ∧ (¬ r11 = 0 → (inI (x3 + 1) ∧ X5 x3 (x3 + 1) s8)))))))) ∧ (¬ x2 = (-2) → (C_J15_bitCount x3 (fun r15 => (C_J15_bitCount x2 (fun r18 => ((r15 < r18 → (C_X1_by x3 s0 (fun s23 => (R s23 (fun r26 => ((r26 = 0 → (inI (x3 + 1) ∧ X5 x2 (x3 + 1) s23)) ∧ (¬ r26 = 0 → (inI (x3 + 1) ∧ X5 x3 (x3 + 1) s23)))))))) ∧ (¬ r15 < r18 → (inI (x3 + 1) ∧ X5 x2 (x3 + 1) s0)))))))))))))
def B_X1_fewestBy_E (R : XS → (Int → Prop) → Prop) (X5 : Int → Int → XS → Prop) (K : Int → XS → Prop) (s0 : XS) : Prop :=
  X5 (-2) 0 s0
def W_X1_fewestBy_5 (d : Nat) (V : XV) (g : AH) (lI : EId) (K : Int → XS → Prop) (x2 : Int) (x3 : Int) (s0 : XS) : Prop := EW mm_X1_fewestBy (d + 8) 0 0 (xQi V g K) 5 [(0, aR (some xT)), (1, aR (some lI)), (2, aI x2), (3, aI x3)] [] (xh V s0 g)
set_option maxHeartbeats 4000000 in
theorem T_X1_fewestBy_5 (d : Nat) (V : XV) (g : AH) (lI : EId) (R : XS → (Int → Prop) → Prop) (hR : askP d V g lI R) (K : Int → XS → Prop) (x2 : Int) (x3 : Int) (s0 : XS) (H : B_X1_fewestBy_5 R (W_X1_fewestBy_5 d V g lI K) K x2 x3 s0) : EW mm_X1_fewestBy (d + 8) 0 0 (xQi V g K) 5 [(0, aR (some xT)), (1, aR (some lI)), (2, aI x2), (3, aI x3)] [] (xh V s0 g) := by
  refine ew_iload_n dX1_fewestBy_5 rfl lm3 ?_
  refine ew_aload_n dX1_fewestBy_6 rfl lm0 ?_
  refine ew_callV (d := d + 7) (as := []) rfl dX1_fewestBy_7 me_X1_every rfl (ci := 0) rfl rfl xh_x (Or.inl q1109) q1111 qs33 (Nat.le_of_ble_eq_true rfl) (Nat.zero_le _) (Nat.zero_le _) (S_X1_every (d := d + 5) H) (fun o h' hq3 _ => ?_) (fun E i h' q _ => (cQ_no q).elim)
  obtain ⟨r1, E4, rfl, H⟩ := hq3
  cases E4
  refine ew_icmp_gt (tgt := 55) dX1_fewestBy_10 (by decide) (fun c5 => ?_) (fun c5 => ?_)
  · replace H := H.1 c5
    refine ew_iload_n dX1_fewestBy_55 rfl lm2 ?_
    exact ew_ret (o := some (aI x2)) rfl ⟨_, _, rfl, rfl, H⟩ ⟨dX1_fewestBy_56, .int, rfl, Or.inl rfl, rfl⟩
  · replace H := H.2 c5
    refine ew_iload_n dX1_fewestBy_13 rfl lm2 ?_
    refine ew_bipush dX1_fewestBy_14 (inI_of rfl) (by decide) ?_
    refine ew_icmp_eq (tgt := 33) dX1_fewestBy_16 (by decide) (fun c6 => ?_) (fun c6 => ?_)
    · replace H := H.1 c6
      refine ew_aload_n dX1_fewestBy_33 rfl lm1 ?_
      refine ew_aload_n dX1_fewestBy_34 rfl lm0 ?_
      refine ew_iload_n dX1_fewestBy_35 rfl lm3 ?_
      refine ew_callV (d := d + 7) (as := [aI x3]) rfl dX1_fewestBy_36 me_X1_by rfl (ci := 0) rfl rfl xh_x (Or.inl q1113) q1115 qs34 (Nat.le_of_ble_eq_true rfl) (Nat.zero_le _) (Nat.zero_le _) (S_X1_by (d := d + 0) H) (fun o h' hq9 _ => ?_) (fun E i h' q _ => (xQp_no q).elim)
      obtain ⟨s8, E10, rfl, H⟩ := hq9
      cases E10
      refine hR _ _ _ _ _ _ H (fun r11 H => ?_)
      refine ew_if_eq (tgt := 49) dX1_fewestBy_44 (by decide) (fun c12 => ?_) (fun c12 => ?_)
      · replace H := H.1 c12
        obtain ⟨v13, H⟩ := H
        refine ew_iinc dX1_fewestBy_49 lm3 (by decide) v13 (lv' := [(3, aI (x3 + 1)), (0, aR (some xT)), (1, aR (some lI)), (2, aI x2)]) rfl ?_
        refine ew_sub (List.forall_mem_cons.mpr ⟨lm1, (List.forall_mem_cons.mpr ⟨lm2, (List.forall_mem_cons.mpr ⟨lm3, (List.forall_mem_cons.mpr ⟨lm0, e_nm⟩)⟩)⟩)⟩) ?_
        refine ew_goto (tgt := 5) dX1_fewestBy_52 (by decide) ?_
        exact ew_room (Nat.le_refl _) (Nat.zero_le _) (Nat.zero_le _) (ew_sub (List.forall_mem_cons.mpr ⟨lm0, (List.forall_mem_cons.mpr ⟨lm1, (List.forall_mem_cons.mpr ⟨lm2, (List.forall_mem_cons.mpr ⟨lm3, e_nm⟩)⟩)⟩)⟩) H)
      · replace H := H.2 c12
        refine ew_iload_n dX1_fewestBy_47 rfl lm3 ?_
        refine ew_istore_n dX1_fewestBy_48 rfl (by decide) (lv' := [(2, aI x3), (0, aR (some xT)), (1, aR (some lI)), (3, aI x3)]) rfl ?_
        refine ew_sub (List.forall_mem_cons.mpr ⟨lm1, (List.forall_mem_cons.mpr ⟨lm2, (List.forall_mem_cons.mpr ⟨lm0, (List.forall_mem_cons.mpr ⟨lm3, e_nm⟩)⟩)⟩)⟩) ?_
        obtain ⟨v14, H⟩ := H
        refine ew_iinc dX1_fewestBy_49 lm3 (by decide) v14 (lv' := [(3, aI (x3 + 1)), (0, aR (some xT)), (1, aR (some lI)), (2, aI x3)]) rfl ?_
        refine ew_sub (List.forall_mem_cons.mpr ⟨lm1, (List.forall_mem_cons.mpr ⟨lm2, (List.forall_mem_cons.mpr ⟨lm3, (List.forall_mem_cons.mpr ⟨lm0, e_nm⟩)⟩)⟩)⟩) ?_
        refine ew_goto (tgt := 5) dX1_fewestBy_52 (by decide) ?_
        exact ew_room (Nat.le_refl _) (Nat.zero_le _) (Nat.zero_le _) (ew_sub (List.forall_mem_cons.mpr ⟨lm0, (List.forall_mem_cons.mpr ⟨lm1, (List.forall_mem_cons.mpr ⟨lm2, (List.forall_mem_cons.mpr ⟨lm3, e_nm⟩)⟩)⟩)⟩) H)
    · replace H := H.2 c6
      refine ew_iload_n dX1_fewestBy_19 rfl lm3 ?_
      refine ew_callS (d := d + 7) (as := [aI x3]) rfl dX1_fewestBy_20 me_J15_bitCount rfl (Or.inl q1194) q1195 (Nat.le_of_ble_eq_true rfl) (Nat.zero_le _) (Nat.zero_le _) (S_J15_bitCount (d := d + 7) H) (fun o h' hq16 _ => ?_) (fun E i h' q _ => (cQ_no q).elim)
      obtain ⟨r15, E17, rfl, H⟩ := hq16
      cases E17
      refine ew_iload_n dX1_fewestBy_23 rfl lm2 ?_
      refine ew_callS (d := d + 7) (as := [aI x2]) rfl dX1_fewestBy_24 me_J15_bitCount rfl (Or.inl q1194) q1195 (Nat.le_of_ble_eq_true rfl) (Nat.zero_le _) (Nat.zero_le _) (S_J15_bitCount (d := d + 7) H) (fun o h' hq19 _ => ?_) (fun E i h' q _ => (cQ_no q).elim)
      obtain ⟨r18, E20, rfl, H⟩ := hq19
      cases E20
      refine ew_icmp_lt (tgt := 33) dX1_fewestBy_27 (by decide) (fun c21 => ?_) (fun c21 => ?_)
      · replace H := H.1 c21
        refine ew_aload_n dX1_fewestBy_33 rfl lm1 ?_
        refine ew_aload_n dX1_fewestBy_34 rfl lm0 ?_
        refine ew_iload_n dX1_fewestBy_35 rfl lm3 ?_
        refine ew_callV (d := d + 7) (as := [aI x3]) rfl dX1_fewestBy_36 me_X1_by rfl (ci := 0) rfl rfl xh_x (Or.inl q1113) q1115 qs34 (Nat.le_of_ble_eq_true rfl) (Nat.zero_le _) (Nat.zero_le _) (S_X1_by (d := d + 0) H) (fun o h' hq24 _ => ?_) (fun E i h' q _ => (xQp_no q).elim)
        obtain ⟨s23, E25, rfl, H⟩ := hq24
        cases E25
        refine hR _ _ _ _ _ _ H (fun r26 H => ?_)
        refine ew_if_eq (tgt := 49) dX1_fewestBy_44 (by decide) (fun c27 => ?_) (fun c27 => ?_)
        · replace H := H.1 c27
          obtain ⟨v28, H⟩ := H
          refine ew_iinc dX1_fewestBy_49 lm3 (by decide) v28 (lv' := [(3, aI (x3 + 1)), (0, aR (some xT)), (1, aR (some lI)), (2, aI x2)]) rfl ?_
          refine ew_sub (List.forall_mem_cons.mpr ⟨lm1, (List.forall_mem_cons.mpr ⟨lm2, (List.forall_mem_cons.mpr ⟨lm3, (List.forall_mem_cons.mpr ⟨lm0, e_nm⟩)⟩)⟩)⟩) ?_
          refine ew_goto (tgt := 5) dX1_fewestBy_52 (by decide) ?_
          exact ew_room (Nat.le_refl _) (Nat.zero_le _) (Nat.zero_le _) (ew_sub (List.forall_mem_cons.mpr ⟨lm0, (List.forall_mem_cons.mpr ⟨lm1, (List.forall_mem_cons.mpr ⟨lm2, (List.forall_mem_cons.mpr ⟨lm3, e_nm⟩)⟩)⟩)⟩) H)
        · replace H := H.2 c27
          refine ew_iload_n dX1_fewestBy_47 rfl lm3 ?_
          refine ew_istore_n dX1_fewestBy_48 rfl (by decide) (lv' := [(2, aI x3), (0, aR (some xT)), (1, aR (some lI)), (3, aI x3)]) rfl ?_
          refine ew_sub (List.forall_mem_cons.mpr ⟨lm1, (List.forall_mem_cons.mpr ⟨lm2, (List.forall_mem_cons.mpr ⟨lm0, (List.forall_mem_cons.mpr ⟨lm3, e_nm⟩)⟩)⟩)⟩) ?_
          obtain ⟨v29, H⟩ := H
          refine ew_iinc dX1_fewestBy_49 lm3 (by decide) v29 (lv' := [(3, aI (x3 + 1)), (0, aR (some xT)), (1, aR (some lI)), (2, aI x3)]) rfl ?_
          refine ew_sub (List.forall_mem_cons.mpr ⟨lm1, (List.forall_mem_cons.mpr ⟨lm2, (List.forall_mem_cons.mpr ⟨lm3, (List.forall_mem_cons.mpr ⟨lm0, e_nm⟩)⟩)⟩)⟩) ?_
          refine ew_goto (tgt := 5) dX1_fewestBy_52 (by decide) ?_
          exact ew_room (Nat.le_refl _) (Nat.zero_le _) (Nat.zero_le _) (ew_sub (List.forall_mem_cons.mpr ⟨lm0, (List.forall_mem_cons.mpr ⟨lm1, (List.forall_mem_cons.mpr ⟨lm2, (List.forall_mem_cons.mpr ⟨lm3, e_nm⟩)⟩)⟩)⟩) H)
      · replace H := H.2 c21
        refine ew_goto (tgt := 49) dX1_fewestBy_30 (by decide) ?_
        obtain ⟨v30, H⟩ := H
        refine ew_iinc dX1_fewestBy_49 lm3 (by decide) v30 (lv' := [(3, aI (x3 + 1)), (0, aR (some xT)), (1, aR (some lI)), (2, aI x2)]) rfl ?_
        refine ew_sub (List.forall_mem_cons.mpr ⟨lm1, (List.forall_mem_cons.mpr ⟨lm2, (List.forall_mem_cons.mpr ⟨lm3, (List.forall_mem_cons.mpr ⟨lm0, e_nm⟩)⟩)⟩)⟩) ?_
        refine ew_goto (tgt := 5) dX1_fewestBy_52 (by decide) ?_
        exact ew_room (Nat.le_refl _) (Nat.zero_le _) (Nat.zero_le _) (ew_sub (List.forall_mem_cons.mpr ⟨lm0, (List.forall_mem_cons.mpr ⟨lm1, (List.forall_mem_cons.mpr ⟨lm2, (List.forall_mem_cons.mpr ⟨lm3, e_nm⟩)⟩)⟩)⟩) H)
set_option maxHeartbeats 4000000 in
theorem T_X1_fewestBy_E (d : Nat) (V : XV) (g : AH) (lI : EId) (R : XS → (Int → Prop) → Prop) (hR : askP d V g lI R) (K : Int → XS → Prop) (s0 : XS) (H : B_X1_fewestBy_E R (W_X1_fewestBy_5 d V g lI K) K s0) : EW mm_X1_fewestBy (d + 8) 0 0 (xQi V g K) 0 [(0, aR (some xT)), (1, aR (some lI))] [] (xh V s0 g) := by
  refine ew_bipush dX1_fewestBy_0 (inI_of rfl) (by decide) ?_
  refine ew_istore_n dX1_fewestBy_2 rfl (by decide) (lv' := [(2, aI (-2)), (0, aR (some xT)), (1, aR (some lI))]) rfl ?_
  refine ew_sub (List.forall_mem_cons.mpr ⟨lm1, (List.forall_mem_cons.mpr ⟨lm2, (List.forall_mem_cons.mpr ⟨lm0, e_nm⟩)⟩)⟩) ?_
  refine ew_iconst dX1_fewestBy_3 (inI_of rfl) ?_
  refine ew_istore_n dX1_fewestBy_4 rfl (by decide) (lv' := [(3, aI 0), (0, aR (some xT)), (1, aR (some lI)), (2, aI (-2))]) rfl ?_
  refine ew_sub (List.forall_mem_cons.mpr ⟨lm1, (List.forall_mem_cons.mpr ⟨lm2, (List.forall_mem_cons.mpr ⟨lm3, (List.forall_mem_cons.mpr ⟨lm0, e_nm⟩)⟩)⟩)⟩) ?_
  exact ew_room (Nat.le_refl _) (Nat.zero_le _) (Nat.zero_le _) (ew_sub (List.forall_mem_cons.mpr ⟨lm0, (List.forall_mem_cons.mpr ⟨lm1, (List.forall_mem_cons.mpr ⟨lm2, (List.forall_mem_cons.mpr ⟨lm3, e_nm⟩)⟩)⟩)⟩) H)
def C_X1_fewestBy_ (R : XS → (Int → Prop) → Prop) (s0 : XS) (K : Int → XS → Prop) : Prop := ∀ (X5 : Int → Int → XS → Prop), (∀ (x2 : Int) (x3 : Int) (s0 : XS), B_X1_fewestBy_5 R X5 K x2 x3 s0 → X5 x2 x3 s0) → B_X1_fewestBy_E R X5 K s0
theorem S_X1_fewestBy_ {d : Nat} {V : XV} {g : AH} {lI : EId} {R : XS → (Int → Prop) → Prop} {K : Int → XS → Prop} {s0 : XS} (hR : askP d V g lI R) (H : C_X1_fewestBy_ R s0 K) : Sp mm_X1_fewestBy (d + 8) 0 0 [aR (some xT), aR (some lI)] (xh V s0 g) (xQi V g K) :=
  ew_sp rfl (Nat.le_of_ble_eq_true rfl) (T_X1_fewestBy_E d V g lI R hR K s0 (H _ (fun x2 x3 s0 H => T_X1_fewestBy_5 d V g lI R hR K x2 x3 s0 H)))
