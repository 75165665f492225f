/-! ReasonCloser: sheet 4, by program (gen/gxn.py) -/
set_option maxRecDepth 100000
abbrev mm_X1_feed : EM := (yX1_feed, cX1_feed, 6, (Option.some .int), [])
theorem me_X1_feed : e_mth mm_X1_feed 5 := ⟨rfl, q393, q108, by decide +kernel, by decide⟩
def B_X1_feed_E (K : Int → XS → Prop) (a : Int) (b : Int) (c : Int) (e : Int) (i : Int) (s0 : XS) : Prop :=
  ((inI ((s0.1.1 3) + 20)) ∧ ((((s0.1.1 3) + 20) ≤ 500 → (C_X1_feedAll 5 (iup (iup (iup (iup (iup (fun _ => 0) 0 a) 1 b) 2 c) 3 e) 4 i) s0 (fun s4 => K (s4.1.1 3) s4))) ∧ (¬ ((s0.1.1 3) + 20) ≤ 500 → K (-1) s0)))
set_option maxHeartbeats 4000000 in
theorem T_X1_feed_E (d : Nat) (V : XV) (g : AH) (hg : xf 1 g) (hr : xfree V g) (K : Int → XS → Prop) (a : Int) (b : Int) (c : Int) (e : Int) (i : Int) (s0 : XS) (H : B_X1_feed_E K a b c e i s0) : EW mm_X1_feed (d + 1) 1 5 (tQi V g K) 0 [(0, aR (some xT)), (1, aI a), (2, aI b), (3, aI c), (4, aI e), (5, aI i)] [] (xh V s0 g) := by
  refine ew_aload_n dX1_feed_0 rfl lm0 ?_
  refine xw_get (v := aI (s0.1.1 3)) dX1_feed_1 (e_fl.a q331) xf_3 rfl ?_
  refine ew_bipush dX1_feed_4 (inI_of rfl) (by decide) ?_
  obtain ⟨v1, H⟩ := H
  refine ew_iadd dX1_feed_6 v1 ?_
  refine ew_sipush dX1_feed_7 (inI_of rfl) (by decide) ?_
  refine ew_icmp_le (tgt := 15) dX1_feed_10 (by decide) (fun c2 => ?_) (fun c2 => ?_)
  · replace H := H.1 c2
    refine ew_aload_n dX1_feed_15 rfl lm0 ?_
    refine ew_iconst dX1_feed_16 (inI_of rfl) ?_
    refine ew_newIB (t := 0) (N := 5) (i := (1, 1, 0)) dX1_feed_17 rfl (by decide) q302 rfl (by decide) ((xh_g (xC_1 rfl)).trans (hg _ rfl (Nat.le_refl _))) (by decide) (Nat.le_of_ble_eq_true rfl) (Nat.le_of_ble_eq_true rfl) ?_
    rw [xh_upg (xC_1 rfl)]
    refine ew_dup dX1_feed_19 rfl ?_
    refine ew_iconst dX1_feed_20 (inI_of rfl) ?_
    refine ew_iload_n dX1_feed_21 rfl lm1 ?_
    refine ew_iast dX1_feed_22 ((xh_g (xC_1 rfl)).trans (hup_self _ _ _)) (by decide) (by decide) ?_
    rw [xh_upg (xC_1 rfl), hup_hup]
    refine ew_dup dX1_feed_23 rfl ?_
    refine ew_iconst dX1_feed_24 (inI_of rfl) ?_
    refine ew_iload_n dX1_feed_25 rfl lm2 ?_
    refine ew_iast dX1_feed_26 ((xh_g (xC_1 rfl)).trans (hup_self _ _ _)) (by decide) (by decide) ?_
    rw [xh_upg (xC_1 rfl), hup_hup]
    refine ew_dup dX1_feed_27 rfl ?_
    refine ew_iconst dX1_feed_28 (inI_of rfl) ?_
    refine ew_iload_n dX1_feed_29 rfl lm3 ?_
    refine ew_iast dX1_feed_30 ((xh_g (xC_1 rfl)).trans (hup_self _ _ _)) (by decide) (by decide) ?_
    rw [xh_upg (xC_1 rfl), hup_hup]
    refine ew_dup dX1_feed_31 rfl ?_
    refine ew_iconst dX1_feed_32 (inI_of rfl) ?_
    refine ew_iload dX1_feed_33 lm4 ?_
    refine ew_iast dX1_feed_35 ((xh_g (xC_1 rfl)).trans (hup_self _ _ _)) (by decide) (by decide) ?_
    rw [xh_upg (xC_1 rfl), hup_hup]
    refine ew_dup dX1_feed_36 rfl ?_
    refine ew_iconst dX1_feed_37 (inI_of rfl) ?_
    refine ew_iload dX1_feed_38 lm5 ?_
    refine ew_iast dX1_feed_40 ((xh_g (xC_1 rfl)).trans (hup_self _ _ _)) (by decide) (by decide) ?_
    rw [xh_upg (xC_1 rfl), hup_hup]
    refine ew_callV (d := d + 0) (as := [aR (some (1, 1, 0))]) rfl dX1_feed_41 me_X1_feedAll rfl (ci := 0) rfl rfl xh_x (Or.inl q394) q396 qs0 (Nat.le_of_ble_eq_true rfl) (Nat.zero_le _) (Nat.zero_le _) (S_X1_feedAll (d := d + 0) (fun s => (xh_g (xC_1 rfl)).trans (hup_self _ _ _)) (by decide) H) (fun o h' hq5 _ => ?_) (fun E i h' q _ => (xQv_no q).elim)
    obtain ⟨s4, E6, rfl, H⟩ := hq5
    cases E6
    refine ew_aload_n dX1_feed_44 rfl lm0 ?_
    refine xw_get (v := aI (s4.1.1 3)) dX1_feed_45 (e_fl.a q331) xf_3 rfl ?_
    exact ew_ret (o := some (aI (s4.1.1 3))) rfl ⟨_, _, _, rfl, rfl, (eX.hup eX.rf rfl (hg _ rfl (Nat.le_refl _))), H⟩ ⟨dX1_feed_48, .int, rfl, Or.inl rfl, rfl⟩
  · replace H := H.2 c2
    refine ew_iconst dX1_feed_13 (inI_of rfl) ?_
    exact ew_ret (o := some (aI (-1))) rfl ⟨_, _, _, rfl, rfl, eX.rf, H⟩ ⟨dX1_feed_14, .int, rfl, Or.inl rfl, rfl⟩
def C_X1_feed (a : Int) (b : Int) (c : Int) (e : Int) (i : Int) (s0 : XS) (K : Int → XS → Prop) : Prop := B_X1_feed_E K a b c e i s0
theorem S_X1_feed {d : Nat} {V : XV} {g : AH} {K : Int → XS → Prop} {a : Int} {b : Int} {c : Int} {e : Int} {i : Int} {s0 : XS} (hg : xf 1 g) (hr : xfree V g) (H : C_X1_feed a b c e i s0 K) : Sp mm_X1_feed (d + 1) 1 5 [aR (some xT), aI a, aI b, aI c, aI e, aI i] (xh V s0 g) (xQi V g K) :=
  Sp.forget hr tQi_x (ew_sp rfl (Nat.le_of_ble_eq_true rfl) (T_X1_feed_E d V g hg hr K a b c e i s0 (H )))
abbrev mm_X1_next_2 : EM := (yX1_next_2, cX1_next_2, 9, (Option.some .int), [])
theorem me_X1_next_2 : e_mth mm_X1_next_2 4 := ⟨rfl, q1306, q108, by decide +kernel, by decide⟩
def B_X1_next_2_E (K : Int → XS → Prop) (a : Int) (b : Int) (c : Int) (e : Int) (kc ks : Nat) (s0 : XS) : Prop :=
  ((1 ≤ kc ∧ 2 ≤ ks) ∧ (C_X1_isTerm 2 (iup (iup (fun _ => 0) 0 a) 1 b) s0 (fun r2 => ((r2 = 0 → (C_X1_refused 1 s0 (fun r7 s8 => K r7 s8))) ∧ (¬ r2 = 0 → ((c < 0 → (C_X1_refused 1 s0 (fun r12 s13 => K r12 s13))) ∧ (¬ c < 0 → (C_X1_isIn e 0 2 (fun r16 => ((r16 = 0 → (C_X1_refused 1 s0 (fun r93 s94 => K r93 s94))) ∧ (¬ r16 = 0 → (C_X3_trailed_N s0 (fun r20 => (∃ mc28c mc28s, mc28c ≤ (kc - 1) ∧ mc28s ≤ (ks - 2) ∧ C_X4_same_N mc28c mc28s a b 12 s0 (fun s25 => ((inI (((s25.2 4).1 10) - ((s0.2 4).1 10))) ∧ (((((s25.2 4).1 10) - ((s0.2 4).1 10)) ≤ c → (C_X3_goesBack_N r20 s25 (fun s33 => (∀ s36 : XS, s36 = ys s33 4 10 ((s0.2 4).1 10) → (C_X1_fine (-2) s36 (fun r39 s40 => K r39 s40)))))) ∧ (¬ (((s25.2 4).1 10) - ((s0.2 4).1 10)) ≤ c → ((e = 0 → ((0 ≤ (jwrap (((s0.2 4).1 10) + c)) ∧ (jwrap (((s0.2 4).1 10) + c)) < 24) ∧ (C_X3_goesBack_N r20 s25 (fun s83 => (∀ s86 : XS, s86 = ys s83 4 10 ((s0.2 4).1 10) → (C_X1_fine ((s25.2 4).2 7 (jwrap (((s0.2 4).1 10) + c))) s86 (fun r89 s90 => K r89 s90))))))) ∧ (¬ e = 0 → ((e = 1 → ((0 ≤ (jwrap (((s0.2 4).1 10) + c)) ∧ (jwrap (((s0.2 4).1 10) + c)) < 24) ∧ (C_X3_goesBack_N r20 s25 (fun s71 => (∀ s74 : XS, s74 = ys s71 4 10 ((s0.2 4).1 10) → (C_X1_fine ((s25.2 4).2 8 (jwrap (((s0.2 4).1 10) + c))) s74 (fun r77 s78 => K r77 s78))))))) ∧ (¬ e = 1 → ((0 ≤ (jwrap (((s0.2 4).1 10) + c)) ∧ (jwrap (((s0.2 4).1 10) + c)) < 24) ∧ ((((s25.2 4).2 9 (jwrap (((s0.2 4).1 10) + c))) = 12 → (C_X3_goesBack_N r20 s25 (fun s59 => (∀ s62 : XS, s62 = ys s59 4 10 ((s0.2 4).1 10) → (C_X1_fine 1 s62 (fun r65 s66 => K r65 s66)))))) ∧ (¬ ((s25.2 4).2 9 (jwrap (((s0.2 4).1 10) + c))) = 12 → (C_X3_goesBack_N r20 s25 (fun s48 => (∀ s51 : XS, s51 = ys s48 4 10 ((s0.2 4).1 10) → (C_X1_fine 0 s51 (fun r54 s55 => K r54 s55))))))))))))))))))))))))))))))
set_option maxHeartbeats 4000000 in
theorem T_X1_next_2_E (d : Nat) (V : XV) (g : AH) (hg : xf 46 g) (hr : xfree V g) (K : Int → XS → Prop) (a : Int) (b : Int) (c : Int) (e : Int) (kc ks : Nat) (s0 : XS) (H : B_X1_next_2_E K a b c e kc ks s0) : EW mm_X1_next_2 (d + 46) kc ks (tQi V g K) 0 [(0, aR (some xT)), (1, aI a), (2, aI b), (3, aI c), (4, aI e)] [] (xh V s0 g) := by
  refine ew_aload_n dX1_next_2_0 rfl lm0 ?_
  refine ew_iconst dX1_next_2_1 (inI_of rfl) ?_
  obtain ⟨v1, H⟩ := H
  refine ew_newIB (t := 0) (N := 2) (i := (1, 46, 0)) dX1_next_2_2 rfl (by decide) q302 rfl (by decide) ((xh_g (xC_1 rfl)).trans (hg _ rfl (Nat.le_refl _))) (by decide) v1.1 v1.2 ?_
  rw [xh_upg (xC_1 rfl)]
  refine ew_dup dX1_next_2_4 rfl ?_
  refine ew_iconst dX1_next_2_5 (inI_of rfl) ?_
  refine ew_iload_n dX1_next_2_6 rfl lm1 ?_
  refine ew_iast dX1_next_2_7 ((xh_g (xC_1 rfl)).trans (hup_self _ _ _)) (by decide) (by decide) ?_
  rw [xh_upg (xC_1 rfl), hup_hup]
  refine ew_dup dX1_next_2_8 rfl ?_
  refine ew_iconst dX1_next_2_9 (inI_of rfl) ?_
  refine ew_iload_n dX1_next_2_10 rfl lm2 ?_
  refine ew_iast dX1_next_2_11 ((xh_g (xC_1 rfl)).trans (hup_self _ _ _)) (by decide) (by decide) ?_
  rw [xh_upg (xC_1 rfl), hup_hup]
  refine ew_callV (d := d + 45) (as := [aR (some (1, 46, 0))]) rfl dX1_next_2_12 me_X1_isTerm rfl (ci := 0) rfl rfl xh_x (Or.inl q1081) q1083 qs29 (Nat.le_of_ble_eq_true rfl) (Nat.zero_le _) (Nat.zero_le _) (S_X1_isTerm (d := d + 43) ((xh_g (xC_1 rfl)).trans (hup_self _ _ _)) (by decide) H) (fun o h' hq4 _ => ?_) (fun E i h' q _ => (cQ_no q).elim)
  obtain ⟨r2, E5, rfl, H⟩ := hq4
  cases E5
  refine ew_if_eq (tgt := 32) dX1_next_2_15 (by decide) (fun c6 => ?_) (fun c6 => ?_)
  · replace H := H.1 c6
    refine ew_aload_n dX1_next_2_32 rfl lm0 ?_
    refine ew_iconst dX1_next_2_33 (inI_of rfl) ?_
    refine ew_callV (d := d + 45) (as := [aI 1]) rfl dX1_next_2_34 me_X1_refused rfl (ci := 0) rfl rfl xh_x (Or.inl q406) q408 qs1 (Nat.le_of_ble_eq_true rfl) (Nat.zero_le _) (Nat.zero_le _) (S_X1_refused (d := d + 45) H) (fun o h' hq9 _ => ?_) (fun E i h' q _ => (xQi_no q).elim)
    obtain ⟨r7, s8, E10, rfl, H⟩ := hq9
    cases E10
    exact ew_ret (o := some (aI r7)) rfl ⟨_, _, _, rfl, rfl, (eX.hup eX.rf rfl (hg _ rfl (Nat.le_refl _))), H⟩ ⟨dX1_next_2_37, .int, rfl, Or.inl rfl, rfl⟩
  · replace H := H.2 c6
    refine ew_iload_n dX1_next_2_18 rfl lm3 ?_
    refine ew_if_lt (tgt := 32) dX1_next_2_19 (by decide) (fun c11 => ?_) (fun c11 => ?_)
    · replace H := H.1 c11
      refine ew_aload_n dX1_next_2_32 rfl lm0 ?_
      refine ew_iconst dX1_next_2_33 (inI_of rfl) ?_
      refine ew_callV (d := d + 45) (as := [aI 1]) rfl dX1_next_2_34 me_X1_refused rfl (ci := 0) rfl rfl xh_x (Or.inl q406) q408 qs1 (Nat.le_of_ble_eq_true rfl) (Nat.zero_le _) (Nat.zero_le _) (S_X1_refused (d := d + 45) H) (fun o h' hq14 _ => ?_) (fun E i h' q _ => (xQi_no q).elim)
      obtain ⟨r12, s13, E15, rfl, H⟩ := hq14
      cases E15
      exact ew_ret (o := some (aI r12)) rfl ⟨_, _, _, rfl, rfl, (eX.hup eX.rf rfl (hg _ rfl (Nat.le_refl _))), H⟩ ⟨dX1_next_2_37, .int, rfl, Or.inl rfl, rfl⟩
    · replace H := H.2 c11
      refine ew_iload dX1_next_2_22 lm4 ?_
      refine ew_iconst dX1_next_2_24 (inI_of rfl) ?_
      refine ew_iconst dX1_next_2_25 (inI_of rfl) ?_
      refine ew_callS (d := d + 45) (as := [aI e, aI 0, aI 2]) rfl dX1_next_2_26 me_X1_isIn rfl (Or.inl q403) q404 (Nat.le_of_ble_eq_true rfl) (Nat.zero_le _) (Nat.zero_le _) (S_X1_isIn (d := d + 45) H) (fun o h' hq17 _ => ?_) (fun E i h' q _ => (cQ_no q).elim)
      obtain ⟨r16, E18, rfl, H⟩ := hq17
      cases E18
      refine ew_if_ne (tgt := 38) dX1_next_2_29 (by decide) (fun c19 => ?_) (fun c19 => ?_)
      · replace H := H.2 c19
        refine ew_aload_n dX1_next_2_38 rfl lm0 ?_
        refine xw_get (v := aR (some (sI V 4 99))) dX1_next_2_39 (e_fl.a q334) xf_6 rfl ?_
        refine yw_get (cs := [5]) (v := aI ((s0.2 4).1 10)) dX1_next_2_42 (by decide) (e_fl.b q251 q252) yf_10 (by decide) rfl ?_
        refine ew_istore dX1_next_2_45 (by decide) (lv' := [(5, aI ((s0.2 4).1 10)), (0, aR (some xT)), (1, aI a), (2, aI b), (3, aI c), (4, aI e)]) rfl ?_
        refine ew_sub (List.forall_mem_cons.mpr ⟨lm1, (List.forall_mem_cons.mpr ⟨lm2, (List.forall_mem_cons.mpr ⟨lm3, (List.forall_mem_cons.mpr ⟨lm4, (List.forall_mem_cons.mpr ⟨lm5, (List.forall_mem_cons.mpr ⟨lm0, e_nm⟩)⟩)⟩)⟩)⟩)⟩) ?_
        refine ew_aload_n dX1_next_2_47 rfl lm0 ?_
        refine xw_get (v := aR (some (sI V 4 99))) dX1_next_2_48 (e_fl.a q334) xf_6 rfl ?_
        refine ew_callY (x := ⟨"ReasonCloser$Reasons", "trailed", "()I"⟩) (d := d + 45) (as := []) rfl dX1_next_2_51 me_X3_trailed rfl (by decide) rfl q1307 q1308 (ysel5_4 (P := fun c => Cond.selects c _ _ ∈ lw_all) q1310) q1311 (Or.inl q1309) (by decide) (Nat.le_of_ble_eq_true rfl) (Nat.zero_le _) (Nat.zero_le _) (S_X3_trailed_N (d := d + 45) H) (fun o h' hq22 _ => ?_) (fun E i h' q _ => (cQ_no q).elim)
        obtain ⟨r20, E23, rfl, H⟩ := hq22
        cases E23
        refine ew_istore dX1_next_2_54 (by decide) (lv' := [(6, aI r20), (0, aR (some xT)), (1, aI a), (2, aI b), (3, aI c), (4, aI e), (5, aI ((s0.2 4).1 10))]) rfl ?_
        refine ew_sub (List.forall_mem_cons.mpr ⟨lm1, (List.forall_mem_cons.mpr ⟨lm2, (List.forall_mem_cons.mpr ⟨lm3, (List.forall_mem_cons.mpr ⟨lm4, (List.forall_mem_cons.mpr ⟨lm5, (List.forall_mem_cons.mpr ⟨lm6, (List.forall_mem_cons.mpr ⟨lm0, e_nm⟩)⟩)⟩)⟩)⟩)⟩)⟩) ?_
        refine ew_aload_n dX1_next_2_56 rfl lm0 ?_
        refine xw_get (v := aR (some (sI V 4 99))) dX1_next_2_57 (e_fl.a q334) xf_6 rfl ?_
        refine ew_iload_n dX1_next_2_60 rfl lm1 ?_
        refine ew_iload_n dX1_next_2_61 rfl lm2 ?_
        refine ew_bipush dX1_next_2_62 (inI_of rfl) (by decide) ?_
        obtain ⟨mc28c, mc28s, hm29c, hm29s, H⟩ := H
        refine ew_callY (x := ⟨"ReasonCloser$Reasons", "same", "(III)V"⟩) (d := d + 45) (as := [aI a, aI b, aI 12]) rfl dX1_next_2_64 me_X4_same rfl (by decide) rfl q1023 q1024 (ysel5_4 (P := fun c => Cond.selects c _ _ ∈ lw_all) q1026) q1027 (Or.inl q1025) (by decide) (Nat.le_of_ble_eq_true rfl) hm29c hm29s (S_X4_same_N (d := d + 0) (ht_of (hr.hup rfl)) H) (fun o h' hq26 _ => ?_) (fun E i h' q _ => (xQv_no q).elim)
        obtain ⟨s25, E27, rfl, H⟩ := hq26
        cases E27
        refine ew_iload dX1_next_2_67 lm5 ?_
        refine ew_iload_n dX1_next_2_69 rfl lm3 ?_
        refine ew_iaddW dX1_next_2_70 ?_
        refine ew_istore dX1_next_2_71 (by decide) (lv' := [(7, aI (jwrap (((s0.2 4).1 10) + c))), (0, aR (some xT)), (1, aI a), (2, aI b), (3, aI c), (4, aI e), (5, aI ((s0.2 4).1 10)), (6, aI r20)]) rfl ?_
        refine ew_sub (List.forall_mem_cons.mpr ⟨lm1, (List.forall_mem_cons.mpr ⟨lm2, (List.forall_mem_cons.mpr ⟨lm3, (List.forall_mem_cons.mpr ⟨lm4, (List.forall_mem_cons.mpr ⟨lm5, (List.forall_mem_cons.mpr ⟨lm6, (List.forall_mem_cons.mpr ⟨lm7, (List.forall_mem_cons.mpr ⟨lm0, e_nm⟩)⟩)⟩)⟩)⟩)⟩)⟩)⟩) ?_
        refine ew_bipush dX1_next_2_73 (inI_of rfl) (by decide) ?_
        refine ew_istore dX1_next_2_75 (by decide) (lv' := [(8, aI (-2)), (0, aR (some xT)), (1, aI a), (2, aI b), (3, aI c), (4, aI e), (5, aI ((s0.2 4).1 10)), (6, aI r20), (7, aI (jwrap (((s0.2 4).1 10) + c)))]) rfl ?_
        refine ew_sub (List.forall_mem_cons.mpr ⟨lm1, (List.forall_mem_cons.mpr ⟨lm2, (List.forall_mem_cons.mpr ⟨lm3, (List.forall_mem_cons.mpr ⟨lm4, (List.forall_mem_cons.mpr ⟨lm5, (List.forall_mem_cons.mpr ⟨lm6, (List.forall_mem_cons.mpr ⟨lm7, (List.forall_mem_cons.mpr ⟨lm8, (List.forall_mem_cons.mpr ⟨lm0, e_nm⟩)⟩)⟩)⟩)⟩)⟩)⟩)⟩)⟩) ?_
        refine ew_iload_n dX1_next_2_77 rfl lm3 ?_
        refine ew_aload_n dX1_next_2_78 rfl lm0 ?_
        refine xw_get (v := aR (some (sI V 4 99))) dX1_next_2_79 (e_fl.a q334) xf_6 rfl ?_
        refine yw_get (cs := [5]) (v := aI ((s25.2 4).1 10)) dX1_next_2_82 (by decide) (e_fl.b q251 q252) yf_10 (by decide) rfl ?_
        refine ew_iload dX1_next_2_85 lm5 ?_
        obtain ⟨v30, H⟩ := H
        refine ew_isub dX1_next_2_87 v30 ?_
        refine ew_icmp_ge (tgt := 150) dX1_next_2_88 (by decide) (fun c31 => ?_) (fun c31 => ?_)
        · replace H := H.1 c31
          refine ew_aload_n dX1_next_2_150 rfl lm0 ?_
          refine xw_get (v := aR (some (sI V 4 99))) dX1_next_2_151 (e_fl.a q334) xf_6 rfl ?_
          refine ew_iload dX1_next_2_154 lm6 ?_
          refine ew_callY (x := ⟨"ReasonCloser$Reasons", "goesBack", "(I)V"⟩) (d := d + 45) (as := [aI r20]) rfl dX1_next_2_156 me_X3_goesBack rfl (by decide) rfl q1313 q1314 (ysel5_4 (P := fun c => Cond.selects c _ _ ∈ lw_all) q1316) q1317 (Or.inl q1315) (by decide) (Nat.le_of_ble_eq_true rfl) (Nat.zero_le _) (Nat.zero_le _) (S_X3_goesBack_N (d := d + 44) H) (fun o h' hq34 _ => ?_) (fun E i h' q _ => (xQv_no q).elim)
          obtain ⟨s33, E35, rfl, H⟩ := hq34
          cases E35
          refine ew_aload_n dX1_next_2_159 rfl lm0 ?_
          refine xw_get (v := aR (some (sI V 4 99))) dX1_next_2_160 (e_fl.a q334) xf_6 rfl ?_
          refine ew_iload dX1_next_2_163 lm5 ?_
          refine yw_put (cs := [5]) dX1_next_2_165 (by decide) (e_fl.b q251 q252) yf_10 (by decide) rfl (by decide +kernel) (fun s36 e37 => ?_)
          replace H := H s36 e37
          refine ew_aload_n dX1_next_2_168 rfl lm0 ?_
          refine ew_iload dX1_next_2_169 lm8 ?_
          refine ew_callV (d := d + 45) (as := [aI (-2)]) rfl dX1_next_2_171 me_X1_fine rfl (ci := 0) rfl rfl xh_x (Or.inl q1032) q1034 qs24 (Nat.le_of_ble_eq_true rfl) (Nat.zero_le _) (Nat.zero_le _) (S_X1_fine (d := d + 45) H) (fun o h' hq41 _ => ?_) (fun E i h' q _ => (xQi_no q).elim)
          obtain ⟨r39, s40, E42, rfl, H⟩ := hq41
          cases E42
          exact ew_ret (o := some (aI r39)) rfl ⟨_, _, _, rfl, rfl, (eX.hup eX.rf rfl (hg _ rfl (Nat.le_refl _))), H⟩ ⟨dX1_next_2_174, .int, rfl, Or.inl rfl, rfl⟩
        · replace H := H.2 c31
          refine ew_iload dX1_next_2_91 lm4 ?_
          refine ew_if_ne (tgt := 109) dX1_next_2_93 (by decide) (fun c43 => ?_) (fun c43 => ?_)
          · replace H := H.2 c43
            refine ew_iload dX1_next_2_109 lm4 ?_
            refine ew_iconst dX1_next_2_111 (inI_of rfl) ?_
            refine ew_icmp_ne (tgt := 128) dX1_next_2_112 (by decide) (fun c44 => ?_) (fun c44 => ?_)
            · replace H := H.2 c44
              refine ew_aload_n dX1_next_2_128 rfl lm0 ?_
              refine xw_get (v := aR (some (sI V 4 99))) dX1_next_2_129 (e_fl.a q334) xf_6 rfl ?_
              refine yw_get (cs := [5]) (v := aR (some (sI V 4 9))) dX1_next_2_132 (by decide) (e_fl.b q249 q248) yf_9 (by decide) rfl ?_
              refine ew_iload dX1_next_2_135 lm7 ?_
              obtain ⟨v45, H⟩ := H
              refine yw_iald dX1_next_2_137 (by decide) rfl v45.1 v45.2 ?_
              refine ew_bipush dX1_next_2_138 (inI_of rfl) (by decide) ?_
              refine ew_icmp_ne (tgt := 147) dX1_next_2_140 (by decide) (fun c46 => ?_) (fun c46 => ?_)
              · replace H := H.2 c46
                refine ew_iconst dX1_next_2_147 (inI_of rfl) ?_
                refine ew_istore dX1_next_2_148 (by decide) (lv' := [(8, aI 0), (0, aR (some xT)), (1, aI a), (2, aI b), (3, aI c), (4, aI e), (5, aI ((s0.2 4).1 10)), (6, aI r20), (7, aI (jwrap (((s0.2 4).1 10) + c)))]) rfl ?_
                refine ew_sub (List.forall_mem_cons.mpr ⟨lm1, (List.forall_mem_cons.mpr ⟨lm2, (List.forall_mem_cons.mpr ⟨lm3, (List.forall_mem_cons.mpr ⟨lm4, (List.forall_mem_cons.mpr ⟨lm5, (List.forall_mem_cons.mpr ⟨lm6, (List.forall_mem_cons.mpr ⟨lm7, (List.forall_mem_cons.mpr ⟨lm8, (List.forall_mem_cons.mpr ⟨lm0, e_nm⟩)⟩)⟩)⟩)⟩)⟩)⟩)⟩)⟩) ?_
                refine ew_aload_n dX1_next_2_150 rfl lm0 ?_
                refine xw_get (v := aR (some (sI V 4 99))) dX1_next_2_151 (e_fl.a q334) xf_6 rfl ?_
                refine ew_iload dX1_next_2_154 lm6 ?_
                refine ew_callY (x := ⟨"ReasonCloser$Reasons", "goesBack", "(I)V"⟩) (d := d + 45) (as := [aI r20]) rfl dX1_next_2_156 me_X3_goesBack rfl (by decide) rfl q1313 q1314 (ysel5_4 (P := fun c => Cond.selects c _ _ ∈ lw_all) q1316) q1317 (Or.inl q1315) (by decide) (Nat.le_of_ble_eq_true rfl) (Nat.zero_le _) (Nat.zero_le _) (S_X3_goesBack_N (d := d + 44) H) (fun o h' hq49 _ => ?_) (fun E i h' q _ => (xQv_no q).elim)
                obtain ⟨s48, E50, rfl, H⟩ := hq49
                cases E50
                refine ew_aload_n dX1_next_2_159 rfl lm0 ?_
                refine xw_get (v := aR (some (sI V 4 99))) dX1_next_2_160 (e_fl.a q334) xf_6 rfl ?_
                refine ew_iload dX1_next_2_163 lm5 ?_
                refine yw_put (cs := [5]) dX1_next_2_165 (by decide) (e_fl.b q251 q252) yf_10 (by decide) rfl (by decide +kernel) (fun s51 e52 => ?_)
                replace H := H s51 e52
                refine ew_aload_n dX1_next_2_168 rfl lm0 ?_
                refine ew_iload dX1_next_2_169 lm8 ?_
                refine ew_callV (d := d + 45) (as := [aI 0]) rfl dX1_next_2_171 me_X1_fine rfl (ci := 0) rfl rfl xh_x (Or.inl q1032) q1034 qs24 (Nat.le_of_ble_eq_true rfl) (Nat.zero_le _) (Nat.zero_le _) (S_X1_fine (d := d + 45) H) (fun o h' hq56 _ => ?_) (fun E i h' q _ => (xQi_no q).elim)
                obtain ⟨r54, s55, E57, rfl, H⟩ := hq56
                cases E57
                exact ew_ret (o := some (aI r54)) rfl ⟨_, _, _, rfl, rfl, (eX.hup eX.rf rfl (hg _ rfl (Nat.le_refl _))), H⟩ ⟨dX1_next_2_174, .int, rfl, Or.inl rfl, rfl⟩
              · replace H := H.1 c46
                refine ew_iconst dX1_next_2_143 (inI_of rfl) ?_
                refine ew_goto (tgt := 148) dX1_next_2_144 (by decide) ?_
                refine ew_istore dX1_next_2_148 (by decide) (lv' := [(8, aI 1), (0, aR (some xT)), (1, aI a), (2, aI b), (3, aI c), (4, aI e), (5, aI ((s0.2 4).1 10)), (6, aI r20), (7, aI (jwrap (((s0.2 4).1 10) + c)))]) rfl ?_
                refine ew_sub (List.forall_mem_cons.mpr ⟨lm1, (List.forall_mem_cons.mpr ⟨lm2, (List.forall_mem_cons.mpr ⟨lm3, (List.forall_mem_cons.mpr ⟨lm4, (List.forall_mem_cons.mpr ⟨lm5, (List.forall_mem_cons.mpr ⟨lm6, (List.forall_mem_cons.mpr ⟨lm7, (List.forall_mem_cons.mpr ⟨lm8, (List.forall_mem_cons.mpr ⟨lm0, e_nm⟩)⟩)⟩)⟩)⟩)⟩)⟩)⟩)⟩) ?_
                refine ew_aload_n dX1_next_2_150 rfl lm0 ?_
                refine xw_get (v := aR (some (sI V 4 99))) dX1_next_2_151 (e_fl.a q334) xf_6 rfl ?_
                refine ew_iload dX1_next_2_154 lm6 ?_
                refine ew_callY (x := ⟨"ReasonCloser$Reasons", "goesBack", "(I)V"⟩) (d := d + 45) (as := [aI r20]) rfl dX1_next_2_156 me_X3_goesBack rfl (by decide) rfl q1313 q1314 (ysel5_4 (P := fun c => Cond.selects c _ _ ∈ lw_all) q1316) q1317 (Or.inl q1315) (by decide) (Nat.le_of_ble_eq_true rfl) (Nat.zero_le _) (Nat.zero_le _) (S_X3_goesBack_N (d := d + 44) H) (fun o h' hq60 _ => ?_) (fun E i h' q _ => (xQv_no q).elim)
                obtain ⟨s59, E61, rfl, H⟩ := hq60
                cases E61
                refine ew_aload_n dX1_next_2_159 rfl lm0 ?_
                refine xw_get (v := aR (some (sI V 4 99))) dX1_next_2_160 (e_fl.a q334) xf_6 rfl ?_
                refine ew_iload dX1_next_2_163 lm5 ?_
                refine yw_put (cs := [5]) dX1_next_2_165 (by decide) (e_fl.b q251 q252) yf_10 (by decide) rfl (by decide +kernel) (fun s62 e63 => ?_)
                replace H := H s62 e63
                refine ew_aload_n dX1_next_2_168 rfl lm0 ?_
                refine ew_iload dX1_next_2_169 lm8 ?_
                refine ew_callV (d := d + 45) (as := [aI 1]) rfl dX1_next_2_171 me_X1_fine rfl (ci := 0) rfl rfl xh_x (Or.inl q1032) q1034 qs24 (Nat.le_of_ble_eq_true rfl) (Nat.zero_le _) (Nat.zero_le _) (S_X1_fine (d := d + 45) H) (fun o h' hq67 _ => ?_) (fun E i h' q _ => (xQi_no q).elim)
                obtain ⟨r65, s66, E68, rfl, H⟩ := hq67
                cases E68
                exact ew_ret (o := some (aI r65)) rfl ⟨_, _, _, rfl, rfl, (eX.hup eX.rf rfl (hg _ rfl (Nat.le_refl _))), H⟩ ⟨dX1_next_2_174, .int, rfl, Or.inl rfl, rfl⟩
            · replace H := H.1 c44
              refine ew_aload_n dX1_next_2_115 rfl lm0 ?_
              refine xw_get (v := aR (some (sI V 4 99))) dX1_next_2_116 (e_fl.a q334) xf_6 rfl ?_
              refine yw_get (cs := [5]) (v := aR (some (sI V 4 8))) dX1_next_2_119 (by decide) (e_fl.b q245 q244) yf_8 (by decide) rfl ?_
              refine ew_iload dX1_next_2_122 lm7 ?_
              obtain ⟨v69, H⟩ := H
              refine yw_iald dX1_next_2_124 (by decide) rfl v69.1 v69.2 ?_
              refine ew_goto (tgt := 148) dX1_next_2_125 (by decide) ?_
              refine ew_istore dX1_next_2_148 (by decide) (lv' := [(8, aI ((s25.2 4).2 8 (jwrap (((s0.2 4).1 10) + c)))), (0, aR (some xT)), (1, aI a), (2, aI b), (3, aI c), (4, aI e), (5, aI ((s0.2 4).1 10)), (6, aI r20), (7, aI (jwrap (((s0.2 4).1 10) + c)))]) rfl ?_
              refine ew_sub (List.forall_mem_cons.mpr ⟨lm1, (List.forall_mem_cons.mpr ⟨lm2, (List.forall_mem_cons.mpr ⟨lm3, (List.forall_mem_cons.mpr ⟨lm4, (List.forall_mem_cons.mpr ⟨lm5, (List.forall_mem_cons.mpr ⟨lm6, (List.forall_mem_cons.mpr ⟨lm7, (List.forall_mem_cons.mpr ⟨lm8, (List.forall_mem_cons.mpr ⟨lm0, e_nm⟩)⟩)⟩)⟩)⟩)⟩)⟩)⟩)⟩) ?_
              refine ew_aload_n dX1_next_2_150 rfl lm0 ?_
              refine xw_get (v := aR (some (sI V 4 99))) dX1_next_2_151 (e_fl.a q334) xf_6 rfl ?_
              refine ew_iload dX1_next_2_154 lm6 ?_
              refine ew_callY (x := ⟨"ReasonCloser$Reasons", "goesBack", "(I)V"⟩) (d := d + 45) (as := [aI r20]) rfl dX1_next_2_156 me_X3_goesBack rfl (by decide) rfl q1313 q1314 (ysel5_4 (P := fun c => Cond.selects c _ _ ∈ lw_all) q1316) q1317 (Or.inl q1315) (by decide) (Nat.le_of_ble_eq_true rfl) (Nat.zero_le _) (Nat.zero_le _) (S_X3_goesBack_N (d := d + 44) H) (fun o h' hq72 _ => ?_) (fun E i h' q _ => (xQv_no q).elim)
              obtain ⟨s71, E73, rfl, H⟩ := hq72
              cases E73
              refine ew_aload_n dX1_next_2_159 rfl lm0 ?_
              refine xw_get (v := aR (some (sI V 4 99))) dX1_next_2_160 (e_fl.a q334) xf_6 rfl ?_
              refine ew_iload dX1_next_2_163 lm5 ?_
              refine yw_put (cs := [5]) dX1_next_2_165 (by decide) (e_fl.b q251 q252) yf_10 (by decide) rfl (by decide +kernel) (fun s74 e75 => ?_)
              replace H := H s74 e75
              refine ew_aload_n dX1_next_2_168 rfl lm0 ?_
              refine ew_iload dX1_next_2_169 lm8 ?_
              refine ew_callV (d := d + 45) (as := [aI ((s25.2 4).2 8 (jwrap (((s0.2 4).1 10) + c)))]) rfl dX1_next_2_171 me_X1_fine rfl (ci := 0) rfl rfl xh_x (Or.inl q1032) q1034 qs24 (Nat.le_of_ble_eq_true rfl) (Nat.zero_le _) (Nat.zero_le _) (S_X1_fine (d := d + 45) H) (fun o h' hq79 _ => ?_) (fun E i h' q _ => (xQi_no q).elim)
              obtain ⟨r77, s78, E80, rfl, H⟩ := hq79
              cases E80
              exact ew_ret (o := some (aI r77)) rfl ⟨_, _, _, rfl, rfl, (eX.hup eX.rf rfl (hg _ rfl (Nat.le_refl _))), H⟩ ⟨dX1_next_2_174, .int, rfl, Or.inl rfl, rfl⟩
          · replace H := H.1 c43
            refine ew_aload_n dX1_next_2_96 rfl lm0 ?_
            refine xw_get (v := aR (some (sI V 4 99))) dX1_next_2_97 (e_fl.a q334) xf_6 rfl ?_
            refine yw_get (cs := [5]) (v := aR (some (sI V 4 7))) dX1_next_2_100 (by decide) (e_fl.b q241 q240) yf_7 (by decide) rfl ?_
            refine ew_iload dX1_next_2_103 lm7 ?_
            obtain ⟨v81, H⟩ := H
            refine yw_iald dX1_next_2_105 (by decide) rfl v81.1 v81.2 ?_
            refine ew_goto (tgt := 148) dX1_next_2_106 (by decide) ?_
            refine ew_istore dX1_next_2_148 (by decide) (lv' := [(8, aI ((s25.2 4).2 7 (jwrap (((s0.2 4).1 10) + c)))), (0, aR (some xT)), (1, aI a), (2, aI b), (3, aI c), (4, aI e), (5, aI ((s0.2 4).1 10)), (6, aI r20), (7, aI (jwrap (((s0.2 4).1 10) + c)))]) rfl ?_
            refine ew_sub (List.forall_mem_cons.mpr ⟨lm1, (List.forall_mem_cons.mpr ⟨lm2, (List.forall_mem_cons.mpr ⟨lm3, (List.forall_mem_cons.mpr ⟨lm4, (List.forall_mem_cons.mpr ⟨lm5, (List.forall_mem_cons.mpr ⟨lm6, (List.forall_mem_cons.mpr ⟨lm7, (List.forall_mem_cons.mpr ⟨lm8, (List.forall_mem_cons.mpr ⟨lm0, e_nm⟩)⟩)⟩)⟩)⟩)⟩)⟩)⟩)⟩) ?_
            refine ew_aload_n dX1_next_2_150 rfl lm0 ?_
            refine xw_get (v := aR (some (sI V 4 99))) dX1_next_2_151 (e_fl.a q334) xf_6 rfl ?_
            refine ew_iload dX1_next_2_154 lm6 ?_
            refine ew_callY (x := ⟨"ReasonCloser$Reasons", "goesBack", "(I)V"⟩) (d := d + 45) (as := [aI r20]) rfl dX1_next_2_156 me_X3_goesBack rfl (by decide) rfl q1313 q1314 (ysel5_4 (P := fun c => Cond.selects c _ _ ∈ lw_all) q1316) q1317 (Or.inl q1315) (by decide) (Nat.le_of_ble_eq_true rfl) (Nat.zero_le _) (Nat.zero_le _) (S_X3_goesBack_N (d := d + 44) H) (fun o h' hq84 _ => ?_) (fun E i h' q _ => (xQv_no q).elim)
            obtain ⟨s83, E85, rfl, H⟩ := hq84
            cases E85
            refine ew_aload_n dX1_next_2_159 rfl lm0 ?_
            refine xw_get (v := aR (some (sI V 4 99))) dX1_next_2_160 (e_fl.a q334) xf_6 rfl ?_
            refine ew_iload dX1_next_2_163 lm5 ?_
            refine yw_put (cs := [5]) dX1_next_2_165 (by decide) (e_fl.b q251 q252) yf_10 (by decide) rfl (by decide +kernel) (fun s86 e87 => ?_)
            replace H := H s86 e87
            refine ew_aload_n dX1_next_2_168 rfl lm0 ?_
            refine ew_iload dX1_next_2_169 lm8 ?_
            refine ew_callV (d := d + 45) (as := [aI ((s25.2 4).2 7 (jwrap (((s0.2 4).1 10) + c)))]) rfl dX1_next_2_171 me_X1_fine rfl (ci := 0) rfl rfl xh_x (Or.inl q1032) q1034 qs24 (Nat.le_of_ble_eq_true rfl) (Nat.zero_le _) (Nat.zero_le _) (S_X1_fine (d := d + 45) H) (fun o h' hq91 _ => ?_) (fun E i h' q _ => (xQi_no q).elim)
            obtain ⟨r89, s90, E92, rfl, H⟩ := hq91
            cases E92
            exact ew_ret (o := some (aI r89)) rfl ⟨_, _, _, rfl, rfl, (eX.hup eX.rf rfl (hg _ rfl (Nat.le_refl _))), H⟩ ⟨dX1_next_2_174, .int, rfl, Or.inl rfl, rfl⟩
      · replace H := H.1 c19
        refine ew_aload_n dX1_next_2_32 rfl lm0 ?_
        refine ew_iconst dX1_next_2_33 (inI_of rfl) ?_
        refine ew_callV (d := d + 45) (as := [aI 1]) rfl dX1_next_2_34 me_X1_refused rfl (ci := 0) rfl rfl xh_x (Or.inl q406) q408 qs1 (Nat.le_of_ble_eq_true rfl) (Nat.zero_le _) (Nat.zero_le _) (S_X1_refused (d := d + 45) H) (fun o h' hq95 _ => ?_) (fun E i h' q _ => (xQi_no q).elim)
        obtain ⟨r93, s94, E96, rfl, H⟩ := hq95
        cases E96
        exact ew_ret (o := some (aI r93)) rfl ⟨_, _, _, rfl, rfl, (eX.hup eX.rf rfl (hg _ rfl (Nat.le_refl _))), H⟩ ⟨dX1_next_2_37, .int, rfl, Or.inl rfl, rfl⟩
def C_X1_next_2 (kc ks : Nat) (a : Int) (b : Int) (c : Int) (e : Int) (s0 : XS) (K : Int → XS → Prop) : Prop := B_X1_next_2_E K a b c e kc ks s0
theorem S_X1_next_2 {d : Nat} {V : XV} {g : AH} {K : Int → XS → Prop} {a : Int} {b : Int} {c : Int} {e : Int} {kc ks : Nat} {s0 : XS} (hg : xf 46 g) (hr : xfree V g) (H : C_X1_next_2 kc ks a b c e s0 K) : Sp mm_X1_next_2 (d + 46) kc ks [aR (some xT), aI a, aI b, aI c, aI e] (xh V s0 g) (xQi V g K) :=
  Sp.forget hr tQi_x (ew_sp rfl (Nat.le_of_ble_eq_true rfl) (T_X1_next_2_E d V g hg hr K a b c e kc ks s0 (H )))
abbrev mm_X1_undo : EM := (yX1_undo, cX1_undo, 1, (Option.some .boolean), [])
theorem me_X1_undo : e_mth mm_X1_undo 0 := ⟨rfl, q1366, q108, by decide +kernel, by decide⟩
def B_X1_undo_E (K : Int → XS → Prop) (s0 : XS) : Prop :=
  (((s0.1.1 12) = 0 → K 0 s0) ∧ (¬ (s0.1.1 12) = 0 → ((inI ((s0.1.1 12) - 1)) ∧ (∀ s3 : XS, s3 = xs s0 12 ((s0.1.1 12) - 1) → ((0 ≤ (s3.1.1 12) ∧ (s3.1.1 12) < 44) ∧ (C_X3_goesBack_N (s3.1.2 10 (s3.1.1 12)) s3 (fun s8 => ((0 ≤ (s8.1.1 12) ∧ (s8.1.1 12) < 44) ∧ (∀ s12 : XS, s12 = ys s8 4 10 (s8.1.2 11 (s8.1.1 12)) → ((0 ≤ (s12.1.1 12) ∧ (s12.1.1 12) < 44) ∧ (((s12.1.2 9 (s12.1.1 12)) = 0 → (C_X1_sames s12 (fun r39 => ((inI (r39 - 1)) ∧ (((r39 - 1) = s12.1.1 32 - 1 ∧ 0 < s12.1.1 32 ∧ xok s12 2 ∧ -1000000 ≤ s12.1.1 72 ∧ s12.1.1 72 ≤ 1000000) ∧ ∀ s45 : XS, s45 = (yr s12.1 2, s12.2) → K 1 s45))))) ∧ (¬ (s12.1.2 9 (s12.1.1 12)) = 0 → ((0 ≤ (s12.1.1 12) ∧ (s12.1.1 12) < 44) ∧ (((s12.1.2 9 (s12.1.1 12)) = 1 → ((inI ((s12.1.1 33) - 1)) ∧ ((((s12.1.1 33) - 1) = s12.1.1 33 - 1 ∧ 0 < s12.1.1 33 ∧ xok s12 3 ∧ -1000000 ≤ s12.1.1 73 ∧ s12.1.1 73 ≤ 1000000) ∧ ∀ s37 : XS, s37 = (yr s12.1 3, s12.2) → K 1 s37))) ∧ (¬ (s12.1.2 9 (s12.1.1 12)) = 1 → (C_X1_terms s12 (fun r19 => ((inI (r19 - 1)) ∧ (((r19 - 1) = s12.1.1 31 - 1 ∧ 0 < s12.1.1 31 ∧ xok s12 1 ∧ -1000000 ≤ s12.1.1 71 ∧ s12.1.1 71 ≤ 1000000) ∧ ∀ s25 : XS, s25 = (yr s12.1 1, s12.2) → ((inI (((s25.2 4).1 1) - 1)) ∧ (∀ s28 : XS, s28 = ys s25 4 1 (((s25.2 4).1 1) - 1) → (C_X1_lays s28 (fun s32 => K 1 s32)))))))))))))))))))))))
set_option maxHeartbeats 4000000 in
theorem T_X1_undo_E (d : Nat) (V : XV) (g : AH) (K : Int → XS → Prop) (s0 : XS) (H : B_X1_undo_E K s0) : EW mm_X1_undo (d + 8) 0 0 (xQi V g K) 0 [(0, aR (some xT))] [] (xh V s0 g) := by
  refine ew_aload_n dX1_undo_0 rfl lm0 ?_
  refine xw_get (v := aI (s0.1.1 12)) dX1_undo_1 (e_fl.a q340) xf_12 rfl ?_
  refine ew_if_ne (tgt := 9) dX1_undo_4 (by decide) (fun c1 => ?_) (fun c1 => ?_)
  · replace H := H.2 c1
    refine ew_aload_n dX1_undo_9 rfl lm0 ?_
    refine ew_dup dX1_undo_10 rfl ?_
    refine xw_get (v := aI (s0.1.1 12)) dX1_undo_11 (e_fl.a q340) xf_12 rfl ?_
    refine ew_iconst dX1_undo_14 (inI_of rfl) ?_
    obtain ⟨v2, H⟩ := H
    refine ew_isub dX1_undo_15 v2 ?_
    refine xw_put dX1_undo_16 (e_fl.a q340) xf_12 rfl (by decide +kernel) (fun s3 e4 => ?_)
    replace H := H s3 e4
    refine ew_aload_n dX1_undo_19 rfl lm0 ?_
    refine xw_get (v := aR (some (sI V 4 99))) dX1_undo_20 (e_fl.a q334) xf_6 rfl ?_
    refine ew_aload_n dX1_undo_23 rfl lm0 ?_
    refine xw_get (v := aR (some (0, 2, 10))) dX1_undo_24 (e_fl.a q338) xf_10 rfl ?_
    refine ew_aload_n dX1_undo_27 rfl lm0 ?_
    refine xw_get (v := aI (s3.1.1 12)) dX1_undo_28 (e_fl.a q340) xf_12 rfl ?_
    obtain ⟨v6, H⟩ := H
    refine xw_iald dX1_undo_31 rfl v6.1 v6.2 ?_
    refine ew_callY (x := ⟨"ReasonCloser$Reasons", "goesBack", "(I)V"⟩) (d := d + 7) (as := [aI (s3.1.2 10 (s3.1.1 12))]) rfl dX1_undo_32 me_X3_goesBack rfl (by decide) rfl q1313 q1314 (ysel5_4 (P := fun c => Cond.selects c _ _ ∈ lw_all) q1316) q1317 (Or.inl q1315) (by decide) (Nat.le_of_ble_eq_true rfl) (Nat.zero_le _) (Nat.zero_le _) (S_X3_goesBack_N (d := d + 6) H) (fun o h' hq9 _ => ?_) (fun E i h' q _ => (xQv_no q).elim)
    obtain ⟨s8, E10, rfl, H⟩ := hq9
    cases E10
    refine ew_aload_n dX1_undo_35 rfl lm0 ?_
    refine xw_get (v := aR (some (sI V 4 99))) dX1_undo_36 (e_fl.a q334) xf_6 rfl ?_
    refine ew_aload_n dX1_undo_39 rfl lm0 ?_
    refine xw_get (v := aR (some (0, 2, 11))) dX1_undo_40 (e_fl.a q339) xf_11 rfl ?_
    refine ew_aload_n dX1_undo_43 rfl lm0 ?_
    refine xw_get (v := aI (s8.1.1 12)) dX1_undo_44 (e_fl.a q340) xf_12 rfl ?_
    obtain ⟨v11, H⟩ := H
    refine xw_iald dX1_undo_47 rfl v11.1 v11.2 ?_
    refine yw_put (cs := [5]) dX1_undo_48 (by decide) (e_fl.b q251 q252) yf_10 (by decide) rfl (by decide +kernel) (fun s12 e13 => ?_)
    replace H := H s12 e13
    refine ew_aload_n dX1_undo_51 rfl lm0 ?_
    refine xw_get (v := aR (some (0, 2, 9))) dX1_undo_52 (e_fl.a q337) xf_9 rfl ?_
    refine ew_aload_n dX1_undo_55 rfl lm0 ?_
    refine xw_get (v := aI (s12.1.1 12)) dX1_undo_56 (e_fl.a q340) xf_12 rfl ?_
    obtain ⟨v15, H⟩ := H
    refine xw_iald dX1_undo_59 rfl v15.1 v15.2 ?_
    refine ew_if_ne (tgt := 85) dX1_undo_60 (by decide) (fun c16 => ?_) (fun c16 => ?_)
    · replace H := H.2 c16
      refine ew_aload_n dX1_undo_85 rfl lm0 ?_
      refine xw_get (v := aR (some (0, 2, 9))) dX1_undo_86 (e_fl.a q337) xf_9 rfl ?_
      refine ew_aload_n dX1_undo_89 rfl lm0 ?_
      refine xw_get (v := aI (s12.1.1 12)) dX1_undo_90 (e_fl.a q340) xf_12 rfl ?_
      obtain ⟨v17, H⟩ := H
      refine xw_iald dX1_undo_93 rfl v17.1 v17.2 ?_
      refine ew_iconst dX1_undo_94 (inI_of rfl) ?_
      refine ew_icmp_ne (tgt := 128) dX1_undo_95 (by decide) (fun c18 => ?_) (fun c18 => ?_)
      · replace H := H.2 c18
        refine ew_aload_n dX1_undo_128 rfl lm0 ?_
        refine xw_get (v := aR (some (bI V 1 0))) dX1_undo_129 (e_fl.a q333) xf_5 rfl ?_
        refine xw_book dX1_undo_132 (e_fl.c q191) bf_1 ?_
        refine ew_aload_n dX1_undo_135 rfl lm0 ?_
        refine ew_callV (d := d + 7) (as := []) rfl dX1_undo_136 me_X1_terms rfl (ci := 0) rfl rfl xh_x (Or.inl q1048) q1050 qs25 (Nat.le_of_ble_eq_true rfl) (Nat.zero_le _) (Nat.zero_le _) (S_X1_terms (d := d + 6) H) (fun o h' hq21 _ => ?_) (fun E i h' q _ => (cQ_no q).elim)
        obtain ⟨r19, E22, rfl, H⟩ := hq21
        cases E22
        refine ew_iconst dX1_undo_139 (inI_of rfl) ?_
        obtain ⟨v23, H⟩ := H
        refine ew_isub dX1_undo_140 v23 ?_
        obtain ⟨v24, H⟩ := H
        refine lw_rem (d := d + 5) (j := 1) dX1_undo_141 (by decide) q1368 (Nat.le_of_ble_eq_true rfl) v24.1 v24.2.1 v24.2.2.1 v24.2.2.2 (fun s25 e26 => ?_)
        replace H := H s25 e26
        refine ew_pop dX1_undo_146 rfl ?_
        refine ew_aload_n dX1_undo_147 rfl lm0 ?_
        refine xw_get (v := aR (some (sI V 4 99))) dX1_undo_148 (e_fl.a q334) xf_6 rfl ?_
        refine ew_dup dX1_undo_151 rfl ?_
        refine yw_get (cs := [3, 4, 5]) (v := aI ((s25.2 4).1 1)) dX1_undo_152 (by decide) (e_fl.b q269 q270) yf_1 (by decide) rfl ?_
        refine ew_iconst dX1_undo_155 (inI_of rfl) ?_
        obtain ⟨v27, H⟩ := H
        refine ew_isub dX1_undo_156 v27 ?_
        refine yw_put (cs := [3, 4, 5]) dX1_undo_157 (by decide) (e_fl.b q269 q270) yf_1 (by decide) rfl (by decide +kernel) (fun s28 e29 => ?_)
        replace H := H s28 e29
        refine ew_aload_n dX1_undo_160 rfl lm0 ?_
        refine ew_callV (d := d + 7) (as := []) rfl dX1_undo_161 me_X1_lays rfl (ci := 0) rfl rfl xh_x (Or.inl q1359) q1361 qs53 (Nat.le_of_ble_eq_true rfl) (Nat.zero_le _) (Nat.zero_le _) (S_X1_lays (d := d + 0) H) (fun o h' hq33 _ => ?_) (fun E i h' q _ => (xQv_no q).elim)
        obtain ⟨s32, E34, rfl, H⟩ := hq33
        cases E34
        refine ew_iconst dX1_undo_164 (inI_of rfl) ?_
        exact ew_ret (o := some (aI 1)) rfl ⟨_, _, rfl, rfl, H⟩ ⟨dX1_undo_165, .boolean, rfl, Or.inr (Or.inl rfl), by decide⟩
      · replace H := H.1 c18
        refine ew_aload_n dX1_undo_98 rfl lm0 ?_
        refine xw_get (v := aR (some (bI V 1 0))) dX1_undo_99 (e_fl.a q333) xf_5 rfl ?_
        refine xw_book dX1_undo_102 (e_fl.c q197) bf_3 ?_
        refine ew_aload_n dX1_undo_105 rfl lm0 ?_
        refine xw_get (v := aR (some (bI V 1 0))) dX1_undo_106 (e_fl.a q333) xf_5 rfl ?_
        refine xw_book dX1_undo_109 (e_fl.c q197) bf_3 ?_
        refine lw_size (d := d + 7) (j := 3) dX1_undo_112 (by decide) q1030 (Nat.le_of_ble_eq_true rfl) ?_
        refine ew_iconst dX1_undo_117 (inI_of rfl) ?_
        obtain ⟨v35, H⟩ := H
        refine ew_isub dX1_undo_118 v35 ?_
        obtain ⟨v36, H⟩ := H
        refine lw_rem (d := d + 5) (j := 3) dX1_undo_119 (by decide) q1368 (Nat.le_of_ble_eq_true rfl) v36.1 v36.2.1 v36.2.2.1 v36.2.2.2 (fun s37 e38 => ?_)
        replace H := H s37 e38
        refine ew_pop dX1_undo_124 rfl ?_
        refine ew_goto (tgt := 164) dX1_undo_125 (by decide) ?_
        refine ew_iconst dX1_undo_164 (inI_of rfl) ?_
        exact ew_ret (o := some (aI 1)) rfl ⟨_, _, rfl, rfl, H⟩ ⟨dX1_undo_165, .boolean, rfl, Or.inr (Or.inl rfl), by decide⟩
    · replace H := H.1 c16
      refine ew_aload_n dX1_undo_63 rfl lm0 ?_
      refine xw_get (v := aR (some (bI V 1 0))) dX1_undo_64 (e_fl.a q333) xf_5 rfl ?_
      refine xw_book dX1_undo_67 (e_fl.c q194) bf_2 ?_
      refine ew_aload_n dX1_undo_70 rfl lm0 ?_
      refine ew_callV (d := d + 7) (as := []) rfl dX1_undo_71 me_X1_sames rfl (ci := 0) rfl rfl xh_x (Or.inl q1052) q1054 qs26 (Nat.le_of_ble_eq_true rfl) (Nat.zero_le _) (Nat.zero_le _) (S_X1_sames (d := d + 6) H) (fun o h' hq41 _ => ?_) (fun E i h' q _ => (cQ_no q).elim)
      obtain ⟨r39, E42, rfl, H⟩ := hq41
      cases E42
      refine ew_iconst dX1_undo_74 (inI_of rfl) ?_
      obtain ⟨v43, H⟩ := H
      refine ew_isub dX1_undo_75 v43 ?_
      obtain ⟨v44, H⟩ := H
      refine lw_rem (d := d + 5) (j := 2) dX1_undo_76 (by decide) q1368 (Nat.le_of_ble_eq_true rfl) v44.1 v44.2.1 v44.2.2.1 v44.2.2.2 (fun s45 e46 => ?_)
      replace H := H s45 e46
      refine ew_pop dX1_undo_81 rfl ?_
      refine ew_goto (tgt := 164) dX1_undo_82 (by decide) ?_
      refine ew_iconst dX1_undo_164 (inI_of rfl) ?_
      exact ew_ret (o := some (aI 1)) rfl ⟨_, _, rfl, rfl, H⟩ ⟨dX1_undo_165, .boolean, rfl, Or.inr (Or.inl rfl), by decide⟩
  · replace H := H.1 c1
    refine ew_iconst dX1_undo_7 (inI_of rfl) ?_
    exact ew_ret (o := some (aI 0)) rfl ⟨_, _, rfl, rfl, H⟩ ⟨dX1_undo_8, .boolean, rfl, Or.inr (Or.inl rfl), by decide⟩
def C_X1_undo (s0 : XS) (K : Int → XS → Prop) : Prop := B_X1_undo_E K s0
theorem S_X1_undo {d : Nat} {V : XV} {g : AH} {K : Int → XS → Prop} {s0 : XS} (H : C_X1_undo s0 K) : Sp mm_X1_undo (d + 8) 0 0 [aR (some xT)] (xh V s0 g) (xQi V g K) :=
  ew_sp rfl (Nat.le_of_ble_eq_true rfl) (T_X1_undo_E d V g K s0 (H ))
