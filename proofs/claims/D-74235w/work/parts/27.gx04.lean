/-! ReasonCloser: methods as predicates, by program (gen/gxx.py) -/
set_option maxRecDepth 100000
abbrev mm_X1_term : EM := (yX1_term, cX1_term, 5, (Option.some .int), [])
theorem me_X1_term : e_mth mm_X1_term 2 := ⟨rfl, q1080, q108, by decide +kernel, by decide⟩
def B_X1_term_101 (X101 : Int → Int → Int → XS → Prop) (X146 : Int → Int → Int → XS → Prop) (K : Int → XS → Prop) (x1 : Int) (x3 : Int) (x4 : Int) (s0 : XS) : Prop :=
  (C_X1_terms s0 (fun r1 => ((r1 ≤ x4 → (C_X1_fine x3 s0 (fun r6 s7 => K r6 s7))) ∧ (¬ r1 ≤ x4 → (C_X3_areOne_G x4 x1 4 s0 (fun r10 => ((r10 = 0 → ((inI (x3 + 0)) ∧ (inI (x4 + 1) ∧ X101 x1 (x3 + 0) (x4 + 1) s0))) ∧ (¬ r10 = 0 → ((inI (x3 + 1)) ∧ (inI (x4 + 1) ∧ X101 x1 (x3 + 1) (x4 + 1) s0))))))))))
def B_X1_term_146 (X101 : Int → Int → Int → XS → Prop) (X146 : Int → Int → Int → XS → Prop) (K : Int → XS → Prop) (x1 : Int) (x3 : Int) (x4 : Int) (s0 : XS) : Prop :=
  (C_X1_terms s0 (fun r1 => ((r1 ≤ x4 → (C_X1_fine x3 s0 (fun r6 s7 => K r6 s7))) ∧ (¬ r1 ≤ x4 → ((0 ≤ x1 ∧ x1 < 24) ∧ (C_X1_uses x4 ((s0.2 4).2 0 x1) s0 (fun r11 => ((r11 = 0 → ((inI (x3 + 0)) ∧ (inI (x4 + 1) ∧ X146 x1 (x3 + 0) (x4 + 1) s0))) ∧ (¬ r11 = 0 → ((inI (x3 + 1)) ∧ (inI (x4 + 1) ∧ X146 x1 (x3 + 1) (x4 + 1) s0)))))))))))
def B_X1_term_E (X101 : Int → Int → Int → XS → Prop) (X146 : Int → Int → Int → XS → Prop) (K : Int → XS → Prop) (a : Int) (b : Int) (s0 : XS) : Prop :=
  (C_X1_isTerm 1 (iup (fun _ => 0) 0 a) s0 (fun r1 => ((r1 = 0 → (C_X1_refused 1 s0 (fun r47 s48 => K r47 s48))) ∧ (¬ r1 = 0 → ((b = 0 → (((0 ≤ a ∧ a < s0.1.1 31) ∧ xok s0 1) ∧ ((0 ≤ a ∧ a < s0.1.1 41) ∧ ((0 ≤ a ∧ a < s0.1.1 41) ∧ (C_X1_fine (s0.1.2 33 a) s0 (fun r10 s11 => K r10 s11)))))) ∧ (¬ b = 0 → ((b = 1 → ((0 ≤ a ∧ a < 24) ∧ (C_X1_fine ((s0.2 4).2 0 a) s0 (fun r16 s17 => K r16 s17)))) ∧ (¬ b = 1 → ((b = 2 → X101 a 0 0 s0) ∧ (¬ b = 2 → ((b = 3 → X146 a 0 0 s0) ∧ (¬ b = 3 → ((b = 4 → (C_X1_deep a s0 (fun r23 s24 => (C_X1_fine r23 s24 (fun r27 s28 => K r27 s28))))) ∧ (¬ b = 4 → ((b = 5 → ((0 ≤ a ∧ a < 24) ∧ ((((s0.2 4).2 5 a) = (-1) → (C_X1_fine (-2) s0 (fun r39 s40 => K r39 s40))) ∧ (¬ ((s0.2 4).2 5 a) = (-1) → ((0 ≤ a ∧ a < 24) ∧ (C_X1_fine ((s0.2 4).2 5 a) s0 (fun r35 s36 => K r35 s36))))))) ∧ (¬ b = 5 → (C_X1_refused 1 s0 (fun r43 s44 => K r43 s44))))))))))))))))))
def W_X1_term_101 (d : Nat) (V : XV) (g : AH) (K : Int → XS → Prop) (x1 : Int) (x3 : Int) (x4 : Int) (s0 : XS) : Prop := ∀ g1, eX g g1 → EW mm_X1_term (d + 5) 0 0 (tQi V g K) 101 [(0, aR (some xT)), (1, aI x1), (3, aI x3), (4, aI x4)] [] (xh V s0 g1)
def W_X1_term_146 (d : Nat) (V : XV) (g : AH) (K : Int → XS → Prop) (x1 : Int) (x3 : Int) (x4 : Int) (s0 : XS) : Prop := ∀ g1, eX g g1 → EW mm_X1_term (d + 5) 0 0 (tQi V g K) 146 [(0, aR (some xT)), (1, aI x1), (3, aI x3), (4, aI x4)] [] (xh V s0 g1)
set_option maxHeartbeats 4000000 in
theorem T_X1_term_101 (d : Nat) (V : XV) (g : AH) (hg : xf 5 g) (hr : xfree V g) (K : Int → XS → Prop) (x1 : Int) (x3 : Int) (x4 : Int) (s0 : XS) (g1 : AH) (hx : eX g g1) (H : B_X1_term_101 (W_X1_term_101 d V g K) (W_X1_term_146 d V g K) K x1 x3 x4 s0) : EW mm_X1_term (d + 5) 0 0 (tQi V g K) 101 [(0, aR (some xT)), (1, aI x1), (3, aI x3), (4, aI x4)] [] (xh V s0 g1) := by
  refine ew_iload dX1_term_101 lm3 ?_
  refine ew_aload_n dX1_term_103 rfl lm0 ?_
  refine ew_callV (d := d + 4) (as := []) rfl dX1_term_104 me_X1_terms rfl (ci := 0) rfl rfl xh_x (Or.inl q1048) q1050 qs25 (Nat.le_of_ble_eq_true rfl) (Nat.zero_le _) (Nat.zero_le _) (S_X1_terms (d := d + 3) H) (fun o h' hq3 _ => ?_) (fun E i h' q _ => (cQ_no q).elim)
  obtain ⟨r1, E4, rfl, H⟩ := hq3
  cases E4
  refine ew_icmp_ge (tgt := 137) dX1_term_107 (by decide) (fun c5 => ?_) (fun c5 => ?_)
  · replace H := H.1 c5
    refine ew_aload_n dX1_term_137 rfl lm0 ?_
    refine ew_iload_n dX1_term_138 rfl lm2 ?_
    refine ew_callV (d := d + 4) (as := [aI x3]) rfl dX1_term_139 me_X1_fine rfl (ci := 0) rfl rfl xh_x (Or.inl q1032) q1034 qs24 (Nat.le_of_ble_eq_true rfl) (Nat.zero_le _) (Nat.zero_le _) (S_X1_fine (d := d + 4) H) (fun o h' hq8 _ => ?_) (fun E i h' q _ => (xQi_no q).elim)
    obtain ⟨r6, s7, E9, rfl, H⟩ := hq8
    cases E9
    exact ew_ret (o := some (aI r6)) rfl ⟨_, _, _, rfl, rfl, hx, H⟩ ⟨dX1_term_142, .int, rfl, Or.inl rfl, rfl⟩
  · replace H := H.2 c5
    refine ew_iload_n dX1_term_110 rfl lm2 ?_
    refine ew_aload_n dX1_term_111 rfl lm0 ?_
    refine xw_get (v := aR (some (sI V 4 99))) dX1_term_112 (e_fl.a q334) xf_6 rfl ?_
    refine ew_iload dX1_term_115 lm3 ?_
    refine ew_iload_n dX1_term_117 rfl lm1 ?_
    refine ew_callY (x := ⟨"ReasonCloser$Reasons", "areOne", "(II)Z"⟩) (d := d + 4) (as := [aI x4, aI x1]) rfl dX1_term_118 me_X3_areOne rfl (by decide) rfl q1085 q1086 (ysel5_4 (P := fun c => Cond.selects c _ _ ∈ lw_all) q1087) q981 (Or.inl q978) (by decide) (Nat.le_of_ble_eq_true rfl) (Nat.zero_le _) (Nat.zero_le _) (S_X3_areOne_G (d := d + 4) (by decide) H) (fun o h' hq12 _ => ?_) (fun E i h' q _ => (cQ_no q).elim)
    obtain ⟨r10, E13, rfl, H⟩ := hq12
    cases E13
    refine ew_if_eq (tgt := 128) dX1_term_121 (by decide) (fun c14 => ?_) (fun c14 => ?_)
    · replace H := H.1 c14
      refine ew_iconst dX1_term_128 (inI_of rfl) ?_
      obtain ⟨v15, H⟩ := H
      refine ew_iadd dX1_term_129 v15 ?_
      refine ew_istore_n dX1_term_130 rfl (by decide) (lv' := [(3, aI (x3 + 0)), (0, aR (some xT)), (1, aI x1), (4, aI x4)]) rfl ?_
      refine ew_sub (List.forall_mem_cons.mpr ⟨lm1, (List.forall_mem_cons.mpr ⟨lm2, (List.forall_mem_cons.mpr ⟨lm0, (List.forall_mem_cons.mpr ⟨lm3, e_nm⟩)⟩)⟩)⟩) ?_
      obtain ⟨v16, H⟩ := H
      refine ew_iinc dX1_term_131 lm3 (by decide) v16 (lv' := [(4, aI (x4 + 1)), (0, aR (some xT)), (1, aI x1), (3, aI (x3 + 0))]) rfl ?_
      refine ew_sub (List.forall_mem_cons.mpr ⟨lm1, (List.forall_mem_cons.mpr ⟨lm2, (List.forall_mem_cons.mpr ⟨lm3, (List.forall_mem_cons.mpr ⟨lm0, e_nm⟩)⟩)⟩)⟩) ?_
      refine ew_goto (tgt := 101) dX1_term_134 (by decide) ?_
      exact ew_room (Nat.le_refl _) (Nat.zero_le _) (Nat.zero_le _) (ew_sub (List.forall_mem_cons.mpr ⟨lm0, (List.forall_mem_cons.mpr ⟨lm1, (List.forall_mem_cons.mpr ⟨lm2, (List.forall_mem_cons.mpr ⟨lm3, e_nm⟩)⟩)⟩)⟩) (H _ hx))
    · replace H := H.2 c14
      refine ew_iconst dX1_term_124 (inI_of rfl) ?_
      refine ew_goto (tgt := 129) dX1_term_125 (by decide) ?_
      obtain ⟨v17, H⟩ := H
      refine ew_iadd dX1_term_129 v17 ?_
      refine ew_istore_n dX1_term_130 rfl (by decide) (lv' := [(3, aI (x3 + 1)), (0, aR (some xT)), (1, aI x1), (4, aI x4)]) rfl ?_
      refine ew_sub (List.forall_mem_cons.mpr ⟨lm1, (List.forall_mem_cons.mpr ⟨lm2, (List.forall_mem_cons.mpr ⟨lm0, (List.forall_mem_cons.mpr ⟨lm3, e_nm⟩)⟩)⟩)⟩) ?_
      obtain ⟨v18, H⟩ := H
      refine ew_iinc dX1_term_131 lm3 (by decide) v18 (lv' := [(4, aI (x4 + 1)), (0, aR (some xT)), (1, aI x1), (3, aI (x3 + 1))]) rfl ?_
      refine ew_sub (List.forall_mem_cons.mpr ⟨lm1, (List.forall_mem_cons.mpr ⟨lm2, (List.forall_mem_cons.mpr ⟨lm3, (List.forall_mem_cons.mpr ⟨lm0, e_nm⟩)⟩)⟩)⟩) ?_
      refine ew_goto (tgt := 101) dX1_term_134 (by decide) ?_
      exact ew_room (Nat.le_refl _) (Nat.zero_le _) (Nat.zero_le _) (ew_sub (List.forall_mem_cons.mpr ⟨lm0, (List.forall_mem_cons.mpr ⟨lm1, (List.forall_mem_cons.mpr ⟨lm2, (List.forall_mem_cons.mpr ⟨lm3, e_nm⟩)⟩)⟩)⟩) (H _ hx))
set_option maxHeartbeats 4000000 in
theorem T_X1_term_146 (d : Nat) (V : XV) (g : AH) (hg : xf 5 g) (hr : xfree V g) (K : Int → XS → Prop) (x1 : Int) (x3 : Int) (x4 : Int) (s0 : XS) (g1 : AH) (hx : eX g g1) (H : B_X1_term_146 (W_X1_term_101 d V g K) (W_X1_term_146 d V g K) K x1 x3 x4 s0) : EW mm_X1_term (d + 5) 0 0 (tQi V g K) 146 [(0, aR (some xT)), (1, aI x1), (3, aI x3), (4, aI x4)] [] (xh V s0 g1) := by
  refine ew_iload dX1_term_146 lm3 ?_
  refine ew_aload_n dX1_term_148 rfl lm0 ?_
  refine ew_callV (d := d + 4) (as := []) rfl dX1_term_149 me_X1_terms rfl (ci := 0) rfl rfl xh_x (Or.inl q1048) q1050 qs25 (Nat.le_of_ble_eq_true rfl) (Nat.zero_le _) (Nat.zero_le _) (S_X1_terms (d := d + 3) H) (fun o h' hq3 _ => ?_) (fun E i h' q _ => (cQ_no q).elim)
  obtain ⟨r1, E4, rfl, H⟩ := hq3
  cases E4
  refine ew_icmp_ge (tgt := 187) dX1_term_152 (by decide) (fun c5 => ?_) (fun c5 => ?_)
  · replace H := H.1 c5
    refine ew_aload_n dX1_term_187 rfl lm0 ?_
    refine ew_iload_n dX1_term_188 rfl lm2 ?_
    refine ew_callV (d := d + 4) (as := [aI x3]) rfl dX1_term_189 me_X1_fine rfl (ci := 0) rfl rfl xh_x (Or.inl q1032) q1034 qs24 (Nat.le_of_ble_eq_true rfl) (Nat.zero_le _) (Nat.zero_le _) (S_X1_fine (d := d + 4) H) (fun o h' hq8 _ => ?_) (fun E i h' q _ => (xQi_no q).elim)
    obtain ⟨r6, s7, E9, rfl, H⟩ := hq8
    cases E9
    exact ew_ret (o := some (aI r6)) rfl ⟨_, _, _, rfl, rfl, hx, H⟩ ⟨dX1_term_192, .int, rfl, Or.inl rfl, rfl⟩
  · replace H := H.2 c5
    refine ew_iload_n dX1_term_155 rfl lm2 ?_
    refine ew_aload_n dX1_term_156 rfl lm0 ?_
    refine ew_iload dX1_term_157 lm3 ?_
    refine ew_aload_n dX1_term_159 rfl lm0 ?_
    refine xw_get (v := aR (some (sI V 4 99))) dX1_term_160 (e_fl.a q334) xf_6 rfl ?_
    refine yw_get (cs := [3, 4, 5]) (v := aR (some (sI V 4 0))) dX1_term_163 (by decide) (e_fl.b q261 q262) yf_0 (by decide) rfl ?_
    refine ew_iload_n dX1_term_166 rfl lm1 ?_
    obtain ⟨v10, H⟩ := H
    refine yw_iald dX1_term_167 (by decide) rfl v10.1 v10.2 ?_
    refine ew_callV (d := d + 4) (as := [aI x4, aI ((s0.2 4).2 0 x1)]) rfl dX1_term_168 me_X1_uses rfl (ci := 0) rfl rfl xh_x (Or.inl q1088) q1090 qs30 (Nat.le_of_ble_eq_true rfl) (Nat.zero_le _) (Nat.zero_le _) (S_X1_uses (d := d + 1) H) (fun o h' hq13 _ => ?_) (fun E i h' q _ => (cQ_no q).elim)
    obtain ⟨r11, E14, rfl, H⟩ := hq13
    cases E14
    refine ew_if_eq (tgt := 178) dX1_term_171 (by decide) (fun c15 => ?_) (fun c15 => ?_)
    · replace H := H.1 c15
      refine ew_iconst dX1_term_178 (inI_of rfl) ?_
      obtain ⟨v16, H⟩ := H
      refine ew_iadd dX1_term_179 v16 ?_
      refine ew_istore_n dX1_term_180 rfl (by decide) (lv' := [(3, aI (x3 + 0)), (0, aR (some xT)), (1, aI x1), (4, aI x4)]) rfl ?_
      refine ew_sub (List.forall_mem_cons.mpr ⟨lm1, (List.forall_mem_cons.mpr ⟨lm2, (List.forall_mem_cons.mpr ⟨lm0, (List.forall_mem_cons.mpr ⟨lm3, e_nm⟩)⟩)⟩)⟩) ?_
      obtain ⟨v17, H⟩ := H
      refine ew_iinc dX1_term_181 lm3 (by decide) v17 (lv' := [(4, aI (x4 + 1)), (0, aR (some xT)), (1, aI x1), (3, aI (x3 + 0))]) rfl ?_
      refine ew_sub (List.forall_mem_cons.mpr ⟨lm1, (List.forall_mem_cons.mpr ⟨lm2, (List.forall_mem_cons.mpr ⟨lm3, (List.forall_mem_cons.mpr ⟨lm0, e_nm⟩)⟩)⟩)⟩) ?_
      refine ew_goto (tgt := 146) dX1_term_184 (by decide) ?_
      exact ew_room (Nat.le_refl _) (Nat.zero_le _) (Nat.zero_le _) (ew_sub (List.forall_mem_cons.mpr ⟨lm0, (List.forall_mem_cons.mpr ⟨lm1, (List.forall_mem_cons.mpr ⟨lm2, (List.forall_mem_cons.mpr ⟨lm3, e_nm⟩)⟩)⟩)⟩) (H _ hx))
    · replace H := H.2 c15
      refine ew_iconst dX1_term_174 (inI_of rfl) ?_
      refine ew_goto (tgt := 179) dX1_term_175 (by decide) ?_
      obtain ⟨v18, H⟩ := H
      refine ew_iadd dX1_term_179 v18 ?_
      refine ew_istore_n dX1_term_180 rfl (by decide) (lv' := [(3, aI (x3 + 1)), (0, aR (some xT)), (1, aI x1), (4, aI x4)]) rfl ?_
      refine ew_sub (List.forall_mem_cons.mpr ⟨lm1, (List.forall_mem_cons.mpr ⟨lm2, (List.forall_mem_cons.mpr ⟨lm0, (List.forall_mem_cons.mpr ⟨lm3, e_nm⟩)⟩)⟩)⟩) ?_
      obtain ⟨v19, H⟩ := H
      refine ew_iinc dX1_term_181 lm3 (by decide) v19 (lv' := [(4, aI (x4 + 1)), (0, aR (some xT)), (1, aI x1), (3, aI (x3 + 1))]) rfl ?_
      refine ew_sub (List.forall_mem_cons.mpr ⟨lm1, (List.forall_mem_cons.mpr ⟨lm2, (List.forall_mem_cons.mpr ⟨lm3, (List.forall_mem_cons.mpr ⟨lm0, e_nm⟩)⟩)⟩)⟩) ?_
      refine ew_goto (tgt := 146) dX1_term_184 (by decide) ?_
      exact ew_room (Nat.le_refl _) (Nat.zero_le _) (Nat.zero_le _) (ew_sub (List.forall_mem_cons.mpr ⟨lm0, (List.forall_mem_cons.mpr ⟨lm1, (List.forall_mem_cons.mpr ⟨lm2, (List.forall_mem_cons.mpr ⟨lm3, e_nm⟩)⟩)⟩)⟩) (H _ hx))
set_option maxHeartbeats 4000000 in
theorem T_X1_term_E (d : Nat) (V : XV) (g : AH) (hg : xf 5 g) (hr : xfree V g) (K : Int → XS → Prop) (a : Int) (b : Int) (s0 : XS) (H : B_X1_term_E (W_X1_term_101 d V g K) (W_X1_term_146 d V g K) K a b s0) : EW mm_X1_term (d + 5) 1 1 (tQi V g K) 0 [(0, aR (some xT)), (1, aI a), (2, aI b)] [] (xh V s0 g) := by
  refine ew_aload_n dX1_term_0 rfl lm0 ?_
  refine ew_iconst dX1_term_1 (inI_of rfl) ?_
  refine ew_newIB (t := 0) (N := 1) (i := (1, 5, 0)) dX1_term_2 rfl (by decide) q302 rfl (by decide) ((xh_g (xC_1 rfl)).trans (hg _ rfl (Nat.le_refl _))) (by decide) (Nat.le_of_ble_eq_true rfl) (Nat.le_of_ble_eq_true rfl) ?_
  rw [xh_upg (xC_1 rfl)]
  refine ew_dup dX1_term_4 rfl ?_
  refine ew_iconst dX1_term_5 (inI_of rfl) ?_
  refine ew_iload_n dX1_term_6 rfl lm1 ?_
  refine ew_iast dX1_term_7 ((xh_g (xC_1 rfl)).trans (hup_self _ _ _)) (by decide) (by decide) ?_
  rw [xh_upg (xC_1 rfl), hup_hup]
  refine ew_callV (d := d + 4) (as := [aR (some (1, 5, 0))]) rfl dX1_term_8 me_X1_isTerm rfl (ci := 0) rfl rfl xh_x (Or.inl q1081) q1083 qs29 (Nat.le_of_ble_eq_true rfl) (Nat.zero_le _) (Nat.zero_le _) (S_X1_isTerm (d := d + 2) ((xh_g (xC_1 rfl)).trans (hup_self _ _ _)) (by decide) H) (fun o h' hq3 _ => ?_) (fun E i h' q _ => (cQ_no q).elim)
  obtain ⟨r1, E4, rfl, H⟩ := hq3
  cases E4
  refine ew_if_ne (tgt := 20) dX1_term_11 (by decide) (fun c5 => ?_) (fun c5 => ?_)
  · replace H := H.2 c5
    refine ew_iconst dX1_term_20 (inI_of rfl) ?_
    refine ew_istore_n dX1_term_21 rfl (by decide) (lv' := [(3, aI 0), (0, aR (some xT)), (1, aI a), (2, aI b)]) rfl ?_
    refine ew_sub (List.forall_mem_cons.mpr ⟨lm1, (List.forall_mem_cons.mpr ⟨lm2, (List.forall_mem_cons.mpr ⟨lm3, (List.forall_mem_cons.mpr ⟨lm0, e_nm⟩)⟩)⟩)⟩) ?_
    refine ew_iload_n dX1_term_22 rfl lm2 ?_
    by_cases c6 : b = 0
    · replace H := H.1 c6
      refine ew_tableK (tgt := 60) dX1_term_23 c6 rfl rfl (by decide) ?_
      refine ew_aload_n dX1_term_60 rfl lm0 ?_
      refine ew_aload_n dX1_term_61 rfl lm0 ?_
      refine xw_get (v := aR (some (bI V 1 0))) dX1_term_62 (e_fl.a q333) xf_5 rfl ?_
      refine xw_book dX1_term_65 (e_fl.c q191) bf_1 ?_
      refine ew_iload_n dX1_term_68 rfl lm1 ?_
      obtain ⟨v7, H⟩ := H
      refine lw_g1 (d := d + 2) dX1_term_69 q1021 (Nat.le_of_ble_eq_true rfl) v7.1 v7.2 ?_
      obtain ⟨v8, H⟩ := H
      refine cm_cast (f := a) dX1_term_74 q1072 v8 ?_
      obtain ⟨v9, H⟩ := H
      refine gm_2 (f := a) dX1_term_77 (e_fl.c q823) tf2_2 v9 ?_
      refine ew_callV (d := d + 4) (as := [aI (s0.1.2 33 a)]) rfl dX1_term_80 me_X1_fine rfl (ci := 0) rfl rfl xh_x (Or.inl q1032) q1034 qs24 (Nat.le_of_ble_eq_true rfl) (Nat.zero_le _) (Nat.zero_le _) (S_X1_fine (d := d + 4) H) (fun o h' hq12 _ => ?_) (fun E i h' q _ => (xQi_no q).elim)
      obtain ⟨r10, s11, E13, rfl, H⟩ := hq12
      cases E13
      exact ew_ret (o := some (aI r10)) rfl ⟨_, _, _, rfl, rfl, (eX.hup eX.rf rfl (hg _ rfl (Nat.le_refl _))), H⟩ ⟨dX1_term_83, .int, rfl, Or.inl rfl, rfl⟩
    replace H := H.2 c6
    by_cases c14 : b = 1
    · replace H := H.1 c14
      refine ew_tableK (tgt := 84) dX1_term_23 c14 rfl rfl (by decide) ?_
      refine ew_aload_n dX1_term_84 rfl lm0 ?_
      refine ew_aload_n dX1_term_85 rfl lm0 ?_
      refine xw_get (v := aR (some (sI V 4 99))) dX1_term_86 (e_fl.a q334) xf_6 rfl ?_
      refine yw_get (cs := [3, 4, 5]) (v := aR (some (sI V 4 0))) dX1_term_89 (by decide) (e_fl.b q261 q262) yf_0 (by decide) rfl ?_
      refine ew_iload_n dX1_term_92 rfl lm1 ?_
      obtain ⟨v15, H⟩ := H
      refine yw_iald dX1_term_93 (by decide) rfl v15.1 v15.2 ?_
      refine ew_callV (d := d + 4) (as := [aI ((s0.2 4).2 0 a)]) rfl dX1_term_94 me_X1_fine rfl (ci := 0) rfl rfl xh_x (Or.inl q1032) q1034 qs24 (Nat.le_of_ble_eq_true rfl) (Nat.zero_le _) (Nat.zero_le _) (S_X1_fine (d := d + 4) H) (fun o h' hq18 _ => ?_) (fun E i h' q _ => (xQi_no q).elim)
      obtain ⟨r16, s17, E19, rfl, H⟩ := hq18
      cases E19
      exact ew_ret (o := some (aI r16)) rfl ⟨_, _, _, rfl, rfl, (eX.hup eX.rf rfl (hg _ rfl (Nat.le_refl _))), H⟩ ⟨dX1_term_97, .int, rfl, Or.inl rfl, rfl⟩
    replace H := H.2 c14
    by_cases c20 : b = 2
    · replace H := H.1 c20
      refine ew_tableK (tgt := 98) dX1_term_23 c20 rfl rfl (by decide) ?_
      refine ew_iconst dX1_term_98 (inI_of rfl) ?_
      refine ew_istore dX1_term_99 (by decide) (lv' := [(4, aI 0), (0, aR (some xT)), (1, aI a), (2, aI b), (3, aI 0)]) rfl ?_
      refine ew_sub (List.forall_mem_cons.mpr ⟨lm1, (List.forall_mem_cons.mpr ⟨lm2, (List.forall_mem_cons.mpr ⟨lm3, (List.forall_mem_cons.mpr ⟨lm4, (List.forall_mem_cons.mpr ⟨lm0, e_nm⟩)⟩)⟩)⟩)⟩) ?_
      exact ew_room (Nat.le_refl _) (Nat.zero_le _) (Nat.zero_le _) (ew_sub (List.forall_mem_cons.mpr ⟨lm0, (List.forall_mem_cons.mpr ⟨lm1, (List.forall_mem_cons.mpr ⟨lm3, (List.forall_mem_cons.mpr ⟨lm4, e_nm⟩)⟩)⟩)⟩) (H _ (eX.hup eX.rf rfl (hg _ rfl (Nat.le_refl _)))))
    replace H := H.2 c20
    by_cases c21 : b = 3
    · replace H := H.1 c21
      refine ew_tableK (tgt := 143) dX1_term_23 c21 rfl rfl (by decide) ?_
      refine ew_iconst dX1_term_143 (inI_of rfl) ?_
      refine ew_istore dX1_term_144 (by decide) (lv' := [(4, aI 0), (0, aR (some xT)), (1, aI a), (2, aI b), (3, aI 0)]) rfl ?_
      refine ew_sub (List.forall_mem_cons.mpr ⟨lm1, (List.forall_mem_cons.mpr ⟨lm2, (List.forall_mem_cons.mpr ⟨lm3, (List.forall_mem_cons.mpr ⟨lm4, (List.forall_mem_cons.mpr ⟨lm0, e_nm⟩)⟩)⟩)⟩)⟩) ?_
      exact ew_room (Nat.le_refl _) (Nat.zero_le _) (Nat.zero_le _) (ew_sub (List.forall_mem_cons.mpr ⟨lm0, (List.forall_mem_cons.mpr ⟨lm1, (List.forall_mem_cons.mpr ⟨lm3, (List.forall_mem_cons.mpr ⟨lm4, e_nm⟩)⟩)⟩)⟩) (H _ (eX.hup eX.rf rfl (hg _ rfl (Nat.le_refl _)))))
    replace H := H.2 c21
    by_cases c22 : b = 4
    · replace H := H.1 c22
      refine ew_tableK (tgt := 193) dX1_term_23 c22 rfl rfl (by decide) ?_
      refine ew_aload_n dX1_term_193 rfl lm0 ?_
      refine ew_aload_n dX1_term_194 rfl lm0 ?_
      refine ew_iload_n dX1_term_195 rfl lm1 ?_
      refine ew_callV (d := d + 4) (as := [aI a]) rfl dX1_term_196 me_X1_deep rfl (ci := 0) rfl rfl xh_x (Or.inl q1092) q1094 qs31 (Nat.le_of_ble_eq_true rfl) (Nat.zero_le _) (Nat.zero_le _) (S_X1_deep (d := d + 0) H) (fun o h' hq25 _ => ?_) (fun E i h' q _ => (xQi_no q).elim)
      obtain ⟨r23, s24, E26, rfl, H⟩ := hq25
      cases E26
      refine ew_callV (d := d + 4) (as := [aI r23]) rfl dX1_term_199 me_X1_fine rfl (ci := 0) rfl rfl xh_x (Or.inl q1032) q1034 qs24 (Nat.le_of_ble_eq_true rfl) (Nat.zero_le _) (Nat.zero_le _) (S_X1_fine (d := d + 4) H) (fun o h' hq29 _ => ?_) (fun E i h' q _ => (xQi_no q).elim)
      obtain ⟨r27, s28, E30, rfl, H⟩ := hq29
      cases E30
      exact ew_ret (o := some (aI r27)) rfl ⟨_, _, _, rfl, rfl, (eX.hup eX.rf rfl (hg _ rfl (Nat.le_refl _))), H⟩ ⟨dX1_term_202, .int, rfl, Or.inl rfl, rfl⟩
    replace H := H.2 c22
    by_cases c31 : b = 5
    · replace H := H.1 c31
      refine ew_tableK (tgt := 203) dX1_term_23 c31 rfl rfl (by decide) ?_
      refine ew_aload_n dX1_term_203 rfl lm0 ?_
      refine ew_aload_n dX1_term_204 rfl lm0 ?_
      refine xw_get (v := aR (some (sI V 4 99))) dX1_term_205 (e_fl.a q334) xf_6 rfl ?_
      refine yw_get (cs := [5]) (v := aR (some (sI V 4 5))) dX1_term_208 (by decide) (e_fl.b q234 q233) yf_5 (by decide) rfl ?_
      refine ew_iload_n dX1_term_211 rfl lm1 ?_
      obtain ⟨v32, H⟩ := H
      refine yw_iald dX1_term_212 (by decide) rfl v32.1 v32.2 ?_
      refine ew_iconst dX1_term_213 (inI_of rfl) ?_
      refine ew_icmp_ne (tgt := 222) dX1_term_214 (by decide) (fun c33 => ?_) (fun c33 => ?_)
      · replace H := H.2 c33
        refine ew_aload_n dX1_term_222 rfl lm0 ?_
        refine xw_get (v := aR (some (sI V 4 99))) dX1_term_223 (e_fl.a q334) xf_6 rfl ?_
        refine yw_get (cs := [5]) (v := aR (some (sI V 4 5))) dX1_term_226 (by decide) (e_fl.b q234 q233) yf_5 (by decide) rfl ?_
        refine ew_iload_n dX1_term_229 rfl lm1 ?_
        obtain ⟨v34, H⟩ := H
        refine yw_iald dX1_term_230 (by decide) rfl v34.1 v34.2 ?_
        refine ew_callV (d := d + 4) (as := [aI ((s0.2 4).2 5 a)]) rfl dX1_term_231 me_X1_fine rfl (ci := 0) rfl rfl xh_x (Or.inl q1032) q1034 qs24 (Nat.le_of_ble_eq_true rfl) (Nat.zero_le _) (Nat.zero_le _) (S_X1_fine (d := d + 4) H) (fun o h' hq37 _ => ?_) (fun E i h' q _ => (xQi_no q).elim)
        obtain ⟨r35, s36, E38, rfl, H⟩ := hq37
        cases E38
        exact ew_ret (o := some (aI r35)) rfl ⟨_, _, _, rfl, rfl, (eX.hup eX.rf rfl (hg _ rfl (Nat.le_refl _))), H⟩ ⟨dX1_term_234, .int, rfl, Or.inl rfl, rfl⟩
      · replace H := H.1 c33
        refine ew_bipush dX1_term_217 (inI_of rfl) (by decide) ?_
        refine ew_goto (tgt := 231) dX1_term_219 (by decide) ?_
        refine ew_callV (d := d + 4) (as := [aI (-2)]) rfl dX1_term_231 me_X1_fine rfl (ci := 0) rfl rfl xh_x (Or.inl q1032) q1034 qs24 (Nat.le_of_ble_eq_true rfl) (Nat.zero_le _) (Nat.zero_le _) (S_X1_fine (d := d + 4) H) (fun o h' hq41 _ => ?_) (fun E i h' q _ => (xQi_no q).elim)
        obtain ⟨r39, s40, E42, rfl, H⟩ := hq41
        cases E42
        exact ew_ret (o := some (aI r39)) rfl ⟨_, _, _, rfl, rfl, (eX.hup eX.rf rfl (hg _ rfl (Nat.le_refl _))), H⟩ ⟨dX1_term_234, .int, rfl, Or.inl rfl, rfl⟩
    replace H := H.2 c31
    refine ew_tableOut (tgt := 235) dX1_term_23 (by clear H; omega) (by decide) ?_
    refine ew_aload_n dX1_term_235 rfl lm0 ?_
    refine ew_iconst dX1_term_236 (inI_of rfl) ?_
    refine ew_callV (d := d + 4) (as := [aI 1]) rfl dX1_term_237 me_X1_refused rfl (ci := 0) rfl rfl xh_x (Or.inl q406) q408 qs1 (Nat.le_of_ble_eq_true rfl) (Nat.zero_le _) (Nat.zero_le _) (S_X1_refused (d := d + 4) H) (fun o h' hq45 _ => ?_) (fun E i h' q _ => (xQi_no q).elim)
    obtain ⟨r43, s44, E46, rfl, H⟩ := hq45
    cases E46
    exact ew_ret (o := some (aI r43)) rfl ⟨_, _, _, rfl, rfl, (eX.hup eX.rf rfl (hg _ rfl (Nat.le_refl _))), H⟩ ⟨dX1_term_240, .int, rfl, Or.inl rfl, rfl⟩
  · replace H := H.1 c5
    refine ew_aload_n dX1_term_14 rfl lm0 ?_
    refine ew_iconst dX1_term_15 (inI_of rfl) ?_
    refine ew_callV (d := d + 4) (as := [aI 1]) rfl dX1_term_16 me_X1_refused rfl (ci := 0) rfl rfl xh_x (Or.inl q406) q408 qs1 (Nat.le_of_ble_eq_true rfl) (Nat.zero_le _) (Nat.zero_le _) (S_X1_refused (d := d + 4) H) (fun o h' hq49 _ => ?_) (fun E i h' q _ => (xQi_no q).elim)
    obtain ⟨r47, s48, E50, rfl, H⟩ := hq49
    cases E50
    exact ew_ret (o := some (aI r47)) rfl ⟨_, _, _, rfl, rfl, (eX.hup eX.rf rfl (hg _ rfl (Nat.le_refl _))), H⟩ ⟨dX1_term_19, .int, rfl, Or.inl rfl, rfl⟩
def C_X1_term (a : Int) (b : Int) (s0 : XS) (K : Int → XS → Prop) : Prop := ∀ (X101 : Int → Int → Int → XS → Prop) (X146 : Int → Int → Int → XS → Prop), (∀ (x1 : Int) (x3 : Int) (x4 : Int) (s0 : XS), B_X1_term_101 X101 X146 K x1 x3 x4 s0 → X101 x1 x3 x4 s0) → (∀ (x1 : Int) (x3 : Int) (x4 : Int) (s0 : XS), B_X1_term_146 X101 X146 K x1 x3 x4 s0 → X146 x1 x3 x4 s0) → B_X1_term_E X101 X146 K a b s0
theorem S_X1_term {d : Nat} {V : XV} {g : AH} {K : Int → XS → Prop} {a : Int} {b : Int} {s0 : XS} (hg : xf 5 g) (hr : xfree V g) (H : C_X1_term a b s0 K) : Sp mm_X1_term (d + 5) 1 1 [aR (some xT), aI a, aI b] (xh V s0 g) (xQi V g K) :=
  Sp.forget hr tQi_x (ew_sp rfl (Nat.le_of_ble_eq_true rfl) (T_X1_term_E d V g hg hr K a b s0 (H _ _ (fun x1 x3 x4 s0 H g1 hx => T_X1_term_101 d V g hg hr K x1 x3 x4 s0 g1 hx H) (fun x1 x3 x4 s0 H g1 hx => T_X1_term_146 d V g hg hr K x1 x3 x4 s0 g1 hx H))))
abbrev mm_X1_partOf : EM := (yX1_partOf, cX1_partOf, 4, (Option.some .int), [])
theorem me_X1_partOf : e_mth mm_X1_partOf 2 := ⟨rfl, q1104, q108, by decide +kernel, by decide⟩
def B_X1_partOf_E (K : Int → XS → Prop) (a : Int) (b : Int) (s0 : XS) : Prop :=
  (C_X1_isTerm 1 (iup (fun _ => 0) 0 a) s0 (fun r1 => ((r1 = 0 → (C_X1_refused 1 s0 (fun r6 s7 => K r6 s7))) ∧ (¬ r1 = 0 → ((0 ≤ b → (((0 ≤ a ∧ a < s0.1.1 31) ∧ xok s0 1) ∧ ((0 ≤ a ∧ a < s0.1.1 41) ∧ ((0 ≤ a ∧ a < s0.1.1 41) ∧ (((0 ≤ a ∧ a < s0.1.1 41) ∧ 0 ≤ s0.1.2 34 a ∧ s0.1.2 34 a < 2147483648) ∧ (((s0.1.2 34 a) ≤ b → (C_X1_fine (-2) s0 (fun r16 s17 => K r16 s17))) ∧ (¬ (s0.1.2 34 a) ≤ b → (((0 ≤ a ∧ a < s0.1.1 41) ∧ 0 ≤ b ∧ b < s0.1.2 34 a) ∧ (C_X1_fine (s0.1.2 (100 + (a).toNat) b) s0 (fun r21 s22 => K r21 s22)))))))))) ∧ (¬ 0 ≤ b → (C_X1_refused 1 s0 (fun r25 s26 => K r25 s26))))))))
set_option maxHeartbeats 4000000 in
theorem T_X1_partOf_E (d : Nat) (V : XV) (g : AH) (hg : xf 3 g) (hr : xfree V g) (K : Int → XS → Prop) (a : Int) (b : Int) (s0 : XS) (H : B_X1_partOf_E K a b s0) : EW mm_X1_partOf (d + 3) 1 1 (tQi V g K) 0 [(0, aR (some xT)), (1, aI a), (2, aI b)] [] (xh V s0 g) := by
  refine ew_aload_n dX1_partOf_0 rfl lm0 ?_
  refine ew_iconst dX1_partOf_1 (inI_of rfl) ?_
  refine ew_newIB (t := 0) (N := 1) (i := (1, 3, 0)) dX1_partOf_2 rfl (by decide) q302 rfl (by decide) ((xh_g (xC_1 rfl)).trans (hg _ rfl (Nat.le_refl _))) (by decide) (Nat.le_of_ble_eq_true rfl) (Nat.le_of_ble_eq_true rfl) ?_
  rw [xh_upg (xC_1 rfl)]
  refine ew_dup dX1_partOf_4 rfl ?_
  refine ew_iconst dX1_partOf_5 (inI_of rfl) ?_
  refine ew_iload_n dX1_partOf_6 rfl lm1 ?_
  refine ew_iast dX1_partOf_7 ((xh_g (xC_1 rfl)).trans (hup_self _ _ _)) (by decide) (by decide) ?_
  rw [xh_upg (xC_1 rfl), hup_hup]
  refine ew_callV (d := d + 2) (as := [aR (some (1, 3, 0))]) rfl dX1_partOf_8 me_X1_isTerm rfl (ci := 0) rfl rfl xh_x (Or.inl q1081) q1083 qs29 (Nat.le_of_ble_eq_true rfl) (Nat.zero_le _) (Nat.zero_le _) (S_X1_isTerm (d := d + 0) ((xh_g (xC_1 rfl)).trans (hup_self _ _ _)) (by decide) H) (fun o h' hq3 _ => ?_) (fun E i h' q _ => (cQ_no q).elim)
  obtain ⟨r1, E4, rfl, H⟩ := hq3
  cases E4
  refine ew_if_eq (tgt := 18) dX1_partOf_11 (by decide) (fun c5 => ?_) (fun c5 => ?_)
  · replace H := H.1 c5
    refine ew_aload_n dX1_partOf_18 rfl lm0 ?_
    refine ew_iconst dX1_partOf_19 (inI_of rfl) ?_
    refine ew_callV (d := d + 2) (as := [aI 1]) rfl dX1_partOf_20 me_X1_refused rfl (ci := 0) rfl rfl xh_x (Or.inl q406) q408 qs1 (Nat.le_of_ble_eq_true rfl) (Nat.zero_le _) (Nat.zero_le _) (S_X1_refused (d := d + 2) H) (fun o h' hq8 _ => ?_) (fun E i h' q _ => (xQi_no q).elim)
    obtain ⟨r6, s7, E9, rfl, H⟩ := hq8
    cases E9
    exact ew_ret (o := some (aI r6)) rfl ⟨_, _, _, rfl, rfl, (eX.hup eX.rf rfl (hg _ rfl (Nat.le_refl _))), H⟩ ⟨dX1_partOf_23, .int, rfl, Or.inl rfl, rfl⟩
  · replace H := H.2 c5
    refine ew_iload_n dX1_partOf_14 rfl lm2 ?_
    refine ew_if_ge (tgt := 24) dX1_partOf_15 (by decide) (fun c10 => ?_) (fun c10 => ?_)
    · replace H := H.1 c10
      refine ew_aload_n dX1_partOf_24 rfl lm0 ?_
      refine xw_get (v := aR (some (bI V 1 0))) dX1_partOf_25 (e_fl.a q333) xf_5 rfl ?_
      refine xw_book dX1_partOf_28 (e_fl.c q191) bf_1 ?_
      refine ew_iload_n dX1_partOf_31 rfl lm1 ?_
      obtain ⟨v11, H⟩ := H
      refine lw_g1 (d := d + 0) dX1_partOf_32 q1021 (Nat.le_of_ble_eq_true rfl) v11.1 v11.2 ?_
      obtain ⟨v12, H⟩ := H
      refine cm_cast (f := a) dX1_partOf_37 q1072 v12 ?_
      obtain ⟨v13, H⟩ := H
      refine gm_3 (f := a) dX1_partOf_40 (e_fl.c q827) tf2_3 v13 ?_
      refine ew_astore_n dX1_partOf_43 rfl (by decide) (lv' := [(3, aR (some (bI V 14 (a).toNat))), (0, aR (some xT)), (1, aI a), (2, aI b)]) rfl ?_
      refine ew_sub (List.forall_mem_cons.mpr ⟨lm1, (List.forall_mem_cons.mpr ⟨lm2, (List.forall_mem_cons.mpr ⟨lm3, (List.forall_mem_cons.mpr ⟨lm0, e_nm⟩)⟩)⟩)⟩) ?_
      refine ew_aload_n dX1_partOf_44 rfl lm0 ?_
      refine ew_iload_n dX1_partOf_45 rfl lm2 ?_
      refine ew_aload_n dX1_partOf_46 rfl lm3 ?_
      obtain ⟨v14, H⟩ := H
      refine pw_alen (f := a) dX1_partOf_47 v14.1 v14.2 ?_
      refine ew_icmp_ge (tgt := 57) dX1_partOf_48 (by decide) (fun c15 => ?_) (fun c15 => ?_)
      · replace H := H.1 c15
        refine ew_bipush dX1_partOf_57 (inI_of rfl) (by decide) ?_
        refine ew_callV (d := d + 2) (as := [aI (-2)]) rfl dX1_partOf_59 me_X1_fine rfl (ci := 0) rfl rfl xh_x (Or.inl q1032) q1034 qs24 (Nat.le_of_ble_eq_true rfl) (Nat.zero_le _) (Nat.zero_le _) (S_X1_fine (d := d + 2) H) (fun o h' hq18 _ => ?_) (fun E i h' q _ => (xQi_no q).elim)
        obtain ⟨r16, s17, E19, rfl, H⟩ := hq18
        cases E19
        exact ew_ret (o := some (aI r16)) rfl ⟨_, _, _, rfl, rfl, (eX.hup eX.rf rfl (hg _ rfl (Nat.le_refl _))), H⟩ ⟨dX1_partOf_62, .int, rfl, Or.inl rfl, rfl⟩
      · replace H := H.2 c15
        refine ew_aload_n dX1_partOf_51 rfl lm3 ?_
        refine ew_iload_n dX1_partOf_52 rfl lm2 ?_
        obtain ⟨v20, H⟩ := H
        refine pw_iald (f := a) dX1_partOf_53 v20.1 v20.2 ?_
        refine ew_goto (tgt := 59) dX1_partOf_54 (by decide) ?_
        refine ew_callV (d := d + 2) (as := [aI (s0.1.2 (100 + (a).toNat) b)]) rfl dX1_partOf_59 me_X1_fine rfl (ci := 0) rfl rfl xh_x (Or.inl q1032) q1034 qs24 (Nat.le_of_ble_eq_true rfl) (Nat.zero_le _) (Nat.zero_le _) (S_X1_fine (d := d + 2) H) (fun o h' hq23 _ => ?_) (fun E i h' q _ => (xQi_no q).elim)
        obtain ⟨r21, s22, E24, rfl, H⟩ := hq23
        cases E24
        exact ew_ret (o := some (aI r21)) rfl ⟨_, _, _, rfl, rfl, (eX.hup eX.rf rfl (hg _ rfl (Nat.le_refl _))), H⟩ ⟨dX1_partOf_62, .int, rfl, Or.inl rfl, rfl⟩
    · replace H := H.2 c10
      refine ew_aload_n dX1_partOf_18 rfl lm0 ?_
      refine ew_iconst dX1_partOf_19 (inI_of rfl) ?_
      refine ew_callV (d := d + 2) (as := [aI 1]) rfl dX1_partOf_20 me_X1_refused rfl (ci := 0) rfl rfl xh_x (Or.inl q406) q408 qs1 (Nat.le_of_ble_eq_true rfl) (Nat.zero_le _) (Nat.zero_le _) (S_X1_refused (d := d + 2) H) (fun o h' hq27 _ => ?_) (fun E i h' q _ => (xQi_no q).elim)
      obtain ⟨r25, s26, E28, rfl, H⟩ := hq27
      cases E28
      exact ew_ret (o := some (aI r25)) rfl ⟨_, _, _, rfl, rfl, (eX.hup eX.rf rfl (hg _ rfl (Nat.le_refl _))), H⟩ ⟨dX1_partOf_23, .int, rfl, Or.inl rfl, rfl⟩
def C_X1_partOf (a : Int) (b : Int) (s0 : XS) (K : Int → XS → Prop) : Prop := B_X1_partOf_E K a b s0
theorem S_X1_partOf {d : Nat} {V : XV} {g : AH} {K : Int → XS → Prop} {a : Int} {b : Int} {s0 : XS} (hg : xf 3 g) (hr : xfree V g) (H : C_X1_partOf a b s0 K) : Sp mm_X1_partOf (d + 3) 1 1 [aR (some xT), aI a, aI b] (xh V s0 g) (xQi V g K) :=
  Sp.forget hr tQi_x (ew_sp rfl (Nat.le_of_ble_eq_true rfl) (T_X1_partOf_E d V g hg hr K a b s0 (H )))
abbrev mm_X1_by : EM := (yX1_by, cX1_by, 3, (Option.some (.object "ReasonCloser$Closed")), [])
theorem me_X1_by : e_mth mm_X1_by 1 := ⟨rfl, q1116, q108, by decide +kernel, by decide⟩
def B_X1_by_13 (X13 : Int → Int → XS → Prop) (K : XS → Prop) (x1 : Int) (x2 : Int) (s0 : XS) : Prop :=
  (C_X1_sames s0 (fun r1 => ((r1 ≤ x2 → K s0) ∧ (¬ r1 ≤ x2 → (C_X1_has x1 x2 (fun r6 => ((r6 = 0 → (inI (x2 + 1) ∧ X13 x1 (x2 + 1) s0)) ∧ (¬ r6 = 0 → (((0 ≤ x2 ∧ x2 < s0.1.1 32) ∧ xok s0 2) ∧ ((0 ≤ x2 ∧ x2 < s0.1.1 42) ∧ ((0 ≤ x2 ∧ x2 < s0.1.1 42) ∧ (((0 ≤ x2 ∧ x2 < s0.1.1 32) ∧ xok s0 2) ∧ ((0 ≤ x2 ∧ x2 < s0.1.1 42) ∧ ((0 ≤ x2 ∧ x2 < s0.1.1 42) ∧ (C_X4_same_P (s0.1.2 40 x2) (s0.1.2 41 x2) x2 3 s0 (fun s18 => (inI (x2 + 1) ∧ X13 x1 (x2 + 1) s18)))))))))))))))))
def B_X1_by_E (X13 : Int → Int → XS → Prop) (K : XS → Prop) (a : Int) (s0 : XS) : Prop :=
  (C_X3_like_V32 s0 (fun s2 => X13 a 0 s2))
def W_X1_by_13 (d : Nat) (V : XV) (g : AH) (K : XS → Prop) (x1 : Int) (x2 : Int) (s0 : XS) : Prop := EW mm_X1_by (d + 7) 0 0 (xQp V g K) 13 [(0, aR (some xT)), (1, aI x1), (2, aI x2)] [] (xh V s0 g)
set_option maxHeartbeats 4000000 in
theorem T_X1_by_13 (d : Nat) (V : XV) (g : AH) (K : XS → Prop) (x1 : Int) (x2 : Int) (s0 : XS) (H : B_X1_by_13 (W_X1_by_13 d V g K) K x1 x2 s0) : EW mm_X1_by (d + 7) 0 0 (xQp V g K) 13 [(0, aR (some xT)), (1, aI x1), (2, aI x2)] [] (xh V s0 g) := by
  refine ew_iload_n dX1_by_13 rfl lm2 ?_
  refine ew_aload_n dX1_by_14 rfl lm0 ?_
  refine ew_callV (d := d + 6) (as := []) rfl dX1_by_15 me_X1_sames rfl (ci := 0) rfl rfl xh_x (Or.inl q1052) q1054 qs26 (Nat.le_of_ble_eq_true rfl) (Nat.zero_le _) (Nat.zero_le _) (S_X1_sames (d := d + 5) H) (fun o h' hq3 _ => ?_) (fun E i h' q _ => (cQ_no q).elim)
  obtain ⟨r1, E4, rfl, H⟩ := hq3
  cases E4
  refine ew_icmp_ge (tgt := 81) dX1_by_18 (by decide) (fun c5 => ?_) (fun c5 => ?_)
  · replace H := H.1 c5
    refine ew_aload_n dX1_by_81 rfl lm0 ?_
    refine xw_get (v := aR (some (sI V 3 99))) dX1_by_82 (e_fl.a q336) xf_8 rfl ?_
    exact ew_ret (o := some (aR (some (sI V 3 99)))) rfl ⟨_, rfl, rfl, H⟩ ⟨dX1_by_85, _, rfl, Or.inl ⟨_, rfl⟩⟩
  · replace H := H.2 c5
    refine ew_iload_n dX1_by_21 rfl lm1 ?_
    refine ew_iload_n dX1_by_22 rfl lm2 ?_
    refine ew_callS (d := d + 6) (as := [aI x1, aI x2]) rfl dX1_by_23 me_X1_has rfl (Or.inl q1124) q1125 (Nat.le_of_ble_eq_true rfl) (Nat.zero_le _) (Nat.zero_le _) (S_X1_has (d := d + 6) H) (fun o h' hq7 _ => ?_) (fun E i h' q _ => (cQ_no q).elim)
    obtain ⟨r6, E8, rfl, H⟩ := hq7
    cases E8
    refine ew_if_eq (tgt := 75) dX1_by_26 (by decide) (fun c9 => ?_) (fun c9 => ?_)
    · replace H := H.1 c9
      obtain ⟨v10, H⟩ := H
      refine ew_iinc dX1_by_75 lm2 (by decide) v10 (lv' := [(2, aI (x2 + 1)), (0, aR (some xT)), (1, aI x1)]) rfl ?_
      refine ew_sub (List.forall_mem_cons.mpr ⟨lm1, (List.forall_mem_cons.mpr ⟨lm2, (List.forall_mem_cons.mpr ⟨lm0, e_nm⟩)⟩)⟩) ?_
      refine ew_goto (tgt := 13) dX1_by_78 (by decide) ?_
      exact ew_room (Nat.le_refl _) (Nat.zero_le _) (Nat.zero_le _) (ew_sub (List.forall_mem_cons.mpr ⟨lm0, (List.forall_mem_cons.mpr ⟨lm1, (List.forall_mem_cons.mpr ⟨lm2, e_nm⟩)⟩)⟩) H)
    · replace H := H.2 c9
      refine ew_aload_n dX1_by_29 rfl lm0 ?_
      refine xw_get (v := aR (some (sI V 3 99))) dX1_by_30 (e_fl.a q336) xf_8 rfl ?_
      refine ew_aload_n dX1_by_33 rfl lm0 ?_
      refine xw_get (v := aR (some (bI V 1 0))) dX1_by_34 (e_fl.a q333) xf_5 rfl ?_
      refine xw_book dX1_by_37 (e_fl.c q194) bf_2 ?_
      refine ew_iload_n dX1_by_40 rfl lm2 ?_
      obtain ⟨v11, H⟩ := H
      refine lw_g2 (d := d + 4) dX1_by_41 q1021 (Nat.le_of_ble_eq_true rfl) v11.1 v11.2 ?_
      obtain ⟨v12, H⟩ := H
      refine cs_cast (f := x2) dX1_by_46 q1022 v12 ?_
      obtain ⟨v13, H⟩ := H
      refine gs_0 (f := x2) dX1_by_49 (e_fl.c q865) sf_0 v13 ?_
      refine ew_aload_n dX1_by_52 rfl lm0 ?_
      refine xw_get (v := aR (some (bI V 1 0))) dX1_by_53 (e_fl.a q333) xf_5 rfl ?_
      refine xw_book dX1_by_56 (e_fl.c q194) bf_2 ?_
      refine ew_iload_n dX1_by_59 rfl lm2 ?_
      obtain ⟨v14, H⟩ := H
      refine lw_g2 (d := d + 4) dX1_by_60 q1021 (Nat.le_of_ble_eq_true rfl) v14.1 v14.2 ?_
      obtain ⟨v15, H⟩ := H
      refine cs_cast (f := x2) dX1_by_65 q1022 v15 ?_
      obtain ⟨v16, H⟩ := H
      refine gs_1 (f := x2) dX1_by_68 (e_fl.c q867) sf_1 v16 ?_
      refine ew_iload_n dX1_by_71 rfl lm2 ?_
      refine ew_callY (x := ⟨"ReasonCloser$Closed", "same", "(III)V"⟩) (d := d + 6) (as := [aI (s0.1.2 40 x2), aI (s0.1.2 41 x2), aI x2]) rfl dX1_by_72 me_X4_same rfl (by decide) rfl q1127 q1976 (ysel4_3 (P := fun c => Cond.selects c _ _ ∈ lw_all) q1977) q1027 (Or.inl q1025) (by decide) (Nat.le_of_ble_eq_true rfl) (Nat.zero_le _) (Nat.zero_le _) (S_X4_same_P (d := d + 0) (by decide) H) (fun o h' hq19 _ => ?_) (fun E i h' q _ => (xQv_no q).elim)
      obtain ⟨s18, E20, rfl, H⟩ := hq19
      cases E20
      obtain ⟨v21, H⟩ := H
      refine ew_iinc dX1_by_75 lm2 (by decide) v21 (lv' := [(2, aI (x2 + 1)), (0, aR (some xT)), (1, aI x1)]) rfl ?_
      refine ew_sub (List.forall_mem_cons.mpr ⟨lm1, (List.forall_mem_cons.mpr ⟨lm2, (List.forall_mem_cons.mpr ⟨lm0, e_nm⟩)⟩)⟩) ?_
      refine ew_goto (tgt := 13) dX1_by_78 (by decide) ?_
      exact ew_room (Nat.le_refl _) (Nat.zero_le _) (Nat.zero_le _) (ew_sub (List.forall_mem_cons.mpr ⟨lm0, (List.forall_mem_cons.mpr ⟨lm1, (List.forall_mem_cons.mpr ⟨lm2, e_nm⟩)⟩)⟩) H)
set_option maxHeartbeats 4000000 in
theorem T_X1_by_E (d : Nat) (V : XV) (g : AH) (K : XS → Prop) (a : Int) (s0 : XS) (H : B_X1_by_E (W_X1_by_13 d V g K) K a s0) : EW mm_X1_by (d + 7) 0 0 (xQp V g K) 0 [(0, aR (some xT)), (1, aI a)] [] (xh V s0 g) := by
  refine ew_aload_n dX1_by_0 rfl lm0 ?_
  refine xw_get (v := aR (some (sI V 3 99))) dX1_by_1 (e_fl.a q336) xf_8 rfl ?_
  refine ew_aload_n dX1_by_4 rfl lm0 ?_
  refine xw_get (v := aR (some (sI V 2 99))) dX1_by_5 (e_fl.a q335) xf_7 rfl ?_
  refine ew_callY (x := ⟨"ReasonCloser$Closed", "like", "(LReasonCloser$Groups;)V"⟩) (d := d + 6) (as := [aR (some (sI V 2 99))]) rfl dX1_by_8 me_X3_like rfl (by decide) rfl q1117 q1118 (ysel4_3 (P := fun c => Cond.selects c _ _ ∈ lw_all) q1120) q1122 (Or.inl q1119) (by decide) (Nat.le_of_ble_eq_true rfl) (Nat.zero_le _) (Nat.zero_le _) (S_X3_like_V32 (d := d + 6) H) (fun o h' hq3 _ => ?_) (fun E i h' q _ => (xQv_no q).elim)
  obtain ⟨s2, E4, rfl, H⟩ := hq3
  cases E4
  refine ew_iconst dX1_by_11 (inI_of rfl) ?_
  refine ew_istore_n dX1_by_12 rfl (by decide) (lv' := [(2, aI 0), (0, aR (some xT)), (1, aI a)]) rfl ?_
  refine ew_sub (List.forall_mem_cons.mpr ⟨lm1, (List.forall_mem_cons.mpr ⟨lm2, (List.forall_mem_cons.mpr ⟨lm0, e_nm⟩)⟩)⟩) ?_
  exact ew_room (Nat.le_refl _) (Nat.zero_le _) (Nat.zero_le _) (ew_sub (List.forall_mem_cons.mpr ⟨lm0, (List.forall_mem_cons.mpr ⟨lm1, (List.forall_mem_cons.mpr ⟨lm2, e_nm⟩)⟩)⟩) H)
def C_X1_by (a : Int) (s0 : XS) (K : XS → Prop) : Prop := ∀ (X13 : Int → Int → XS → Prop), (∀ (x1 : Int) (x2 : Int) (s0 : XS), B_X1_by_13 X13 K x1 x2 s0 → X13 x1 x2 s0) → B_X1_by_E X13 K a s0
theorem S_X1_by {d : Nat} {V : XV} {g : AH} {K : XS → Prop} {a : Int} {s0 : XS} (H : C_X1_by a s0 K) : Sp mm_X1_by (d + 7) 0 0 [aR (some xT), aI a] (xh V s0 g) (xQp V g K) :=
  ew_sp rfl (Nat.le_of_ble_eq_true rfl) (T_X1_by_E d V g K a s0 (H _ (fun x1 x2 s0 H => T_X1_by_13 d V g K x1 x2 s0 H)))
