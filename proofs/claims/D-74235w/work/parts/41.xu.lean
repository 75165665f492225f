/-! ReasonCloser: function, named, by program (gen/gxu.py) -/
set_option maxRecDepth 100000
def cQx (h : AH) (K : Int → Prop) (KX : Prop) : AO → AH → Prop := fun o h' => (∃ n, o = Sum.inl (some (aI n)) ∧ h' = h ∧ K n) ∨ (o = Sum.inr (nse, (8, 0, 0)) ∧ h' = h ∧ KX)
abbrev mm_X1_function : EM := (yX1_function, cX1_function, 6, (Option.some .int), [])
theorem me_X1_function : e_mth mm_X1_function 2 := ⟨rfl, q1070, q108, by decide +kernel, by decide⟩
def B_X1_function_94 (X94 : Int → Int → Int → XS → Prop) (X145 : Int → Int → Int → XS → Prop) (K : Int → XS → Prop) (x1 : Int) (x3 : Int) (x4 : Int) (s0 : XS) : Prop :=
  (((if x4 = s0.1.1 31 then (0 : Int) else 1) = 0 → (C_X1_fine x3 s0 (fun r2 s3 => K r2 s3))) ∧ (¬ (if x4 = s0.1.1 31 then (0 : Int) else 1) = 0 → (((0 ≤ x4 ∧ x4 < s0.1.1 31) ∧ xok s0 1) ∧ ((0 ≤ x4 ∧ x4 < s0.1.1 41) ∧ ((0 ≤ x4 ∧ x4 < s0.1.1 41) ∧ (((s0.1.2 33 x4) = x1 → ((inI (x3 + 1)) ∧ X94 x1 (x3 + 1) (x4 + 1) s0)) ∧ (¬ (s0.1.2 33 x4) = x1 → ((inI (x3 + 0)) ∧ X94 x1 (x3 + 0) (x4 + 1) s0))))))))
def B_X1_function_145 (X94 : Int → Int → Int → XS → Prop) (X145 : Int → Int → Int → XS → Prop) (K : Int → XS → Prop) (x1 : Int) (x3 : Int) (x4 : Int) (s0 : XS) : Prop :=
  (C_X1_terms s0 (fun r1 => ((r1 ≤ x4 → (C_X1_fine x3 s0 (fun r6 s7 => K r6 s7))) ∧ (¬ r1 ≤ x4 → ((0 ≤ x4 ∧ x4 < 24) ∧ ((((s0.2 4).2 0 x4) = x4 → (C_X1_isIn_2 x4 x1 s0 (fun r14 => ((r14 = 0 → ((inI (x3 + 0)) ∧ (inI (x4 + 1) ∧ X145 x1 (x3 + 0) (x4 + 1) s0))) ∧ (¬ r14 = 0 → ((inI (x3 + 1)) ∧ (inI (x4 + 1) ∧ X145 x1 (x3 + 1) (x4 + 1) s0))))))) ∧ (¬ ((s0.2 4).2 0 x4) = x4 → ((inI (x3 + 0)) ∧ (inI (x4 + 1) ∧ X145 x1 (x3 + 0) (x4 + 1) s0)))))))))
def B_X1_function_E (X94 : Int → Int → Int → XS → Prop) (X145 : Int → Int → Int → XS → Prop) (K : Int → XS → Prop) (a : Int) (b : Int) (s0 : XS) : Prop :=
  ((inI ((s0.1.1 30) - 1)) ∧ (C_X1_isIn a 0 ((s0.1.1 30) - 1) (fun r2 => ((r2 = 0 → (C_X1_refused 1 s0 (fun r20 s21 => K r20 s21))) ∧ (¬ r2 = 0 → ((b = 0 → (((0 ≤ a ∧ a < s0.1.1 30) ∧ xok s0 0) ∧ ((0 ≤ a ∧ a < s0.1.1 40) ∧ ((0 ≤ a ∧ a < s0.1.1 40) ∧ (C_X1_fine (s0.1.2 31 a) s0 (fun r10 s11 => K r10 s11)))))) ∧ (¬ b = 0 → ((b = 1 → X94 a 0 0 s0) ∧ (¬ b = 1 → ((b = 2 → X145 a 0 0 s0) ∧ (¬ b = 2 → (C_X1_refused 1 s0 (fun r16 s17 => K r16 s17)))))))))))))
def W_X1_function_94 (d : Nat) (V : XV) (g : AH) (K : Int → XS → Prop) (x1 : Int) (x3 : Int) (x4 : Int) (s0 : XS) : Prop := EW mm_X1_function (d + 7) 0 0 (tQi V g K) 94 [(0, aR (some xT)), (1, aI x1), (3, aI x3), (4, aR (some (1, 7, 0)))] [] (xh V s0 (hup g (1, 7, 0) (itc V 1 x4 (s0.1.1 71))))
def W_X1_function_145 (d : Nat) (V : XV) (g : AH) (K : Int → XS → Prop) (x1 : Int) (x3 : Int) (x4 : Int) (s0 : XS) : Prop := ∀ g1, eX g g1 → EW mm_X1_function (d + 7) 0 0 (tQi V g K) 145 [(0, aR (some xT)), (1, aI x1), (3, aI x3), (4, aI x4)] [] (xh V s0 g1)
set_option maxHeartbeats 4000000 in
theorem T_X1_function_94 (d : Nat) (V : XV) (g : AH) (hg : xf 7 g) (hr : xfree V g) (K : Int → XS → Prop) (x1 : Int) (x3 : Int) (x4 : Int) (s0 : XS) (H : B_X1_function_94 (W_X1_function_94 d V g K) (W_X1_function_145 d V g K) K x1 x3 x4 s0) : EW mm_X1_function (d + 7) 0 0 (tQi V g K) 94 [(0, aR (some xT)), (1, aI x1), (3, aI x3), (4, aR (some (1, 7, 0)))] [] (xh V s0 (hup g (1, 7, 0) (itc V 1 x4 (s0.1.1 71)))) := by
  refine ew_aload dX1_function_94 lm3 ?_
  refine iw_has (d := d + 6) (j := 1) dX1_function_96 (by decide) q902 rfl (hup_self _ _ _) rfl (Nat.le_of_ble_eq_true rfl) ?_
  refine ew_if_eq (tgt := 136) dX1_function_101 (by decide) (fun c1 => ?_) (fun c1 => ?_)
  · replace H := H.1 c1
    refine ew_aload_n dX1_function_136 rfl lm0 ?_
    refine ew_iload_n dX1_function_137 rfl lm2 ?_
    refine ew_callV (d := d + 6) (as := [aI x3]) rfl dX1_function_138 me_X1_fine rfl (ci := 0) rfl rfl xh_x (Or.inl q1032) q1034 qs24 (Nat.le_of_ble_eq_true rfl) (Nat.zero_le _) (Nat.zero_le _) (S_X1_fine (d := d + 6) H) (fun o h' hq4 _ => ?_) (fun E i h' q _ => (xQi_no q).elim)
    obtain ⟨r2, s3, E5, rfl, H⟩ := hq4
    cases E5
    exact ew_ret (o := some (aI r2)) rfl ⟨_, _, _, rfl, rfl, (eX.hup eX.rf rfl (hg _ rfl (Nat.le_refl _))), H⟩ ⟨dX1_function_141, .int, rfl, Or.inl rfl, rfl⟩
  · replace H := H.2 c1
    refine ew_aload dX1_function_104 lm3 ?_
    obtain ⟨v6, H⟩ := H
    refine iw_next (d := d + 5) (j := 1) dX1_function_106 (by decide) q912 rfl (hup_self _ _ _) rfl v6.1 v6.2 (Nat.le_of_ble_eq_true rfl) ?_
    rw [hup_hup]
    obtain ⟨v7, H⟩ := H
    refine cm_cast (f := x4) dX1_function_111 q1072 v7 ?_
    refine ew_astore dX1_function_114 (by decide) (lv' := [(5, aR (some (bI V 11 (x4).toNat))), (0, aR (some xT)), (1, aI x1), (3, aI x3), (4, aR (some (1, 7, 0)))]) rfl ?_
    refine ew_sub (List.forall_mem_cons.mpr ⟨lm1, (List.forall_mem_cons.mpr ⟨lm2, (List.forall_mem_cons.mpr ⟨lm3, (List.forall_mem_cons.mpr ⟨lm4, (List.forall_mem_cons.mpr ⟨lm0, e_nm⟩)⟩)⟩)⟩)⟩) ?_
    refine ew_iload_n dX1_function_116 rfl lm2 ?_
    refine ew_aload dX1_function_117 lm4 ?_
    obtain ⟨v8, H⟩ := H
    refine gm_2 (f := x4) dX1_function_119 (e_fl.c q823) tf2_2 v8 ?_
    refine ew_iload_n dX1_function_122 rfl lm1 ?_
    refine ew_icmp_ne (tgt := 130) dX1_function_123 (by decide) (fun c9 => ?_) (fun c9 => ?_)
    · replace H := H.2 c9
      refine ew_iconst dX1_function_130 (inI_of rfl) ?_
      obtain ⟨v10, H⟩ := H
      refine ew_iadd dX1_function_131 v10 ?_
      refine ew_istore_n dX1_function_132 rfl (by decide) (lv' := [(3, aI (x3 + 0)), (0, aR (some xT)), (1, aI x1), (4, aR (some (1, 7, 0))), (5, aR (some (bI V 11 (x4).toNat)))]) rfl ?_
      refine ew_sub (List.forall_mem_cons.mpr ⟨lm1, (List.forall_mem_cons.mpr ⟨lm2, (List.forall_mem_cons.mpr ⟨lm0, (List.forall_mem_cons.mpr ⟨lm3, (List.forall_mem_cons.mpr ⟨lm4, e_nm⟩)⟩)⟩)⟩)⟩) ?_
      refine ew_goto (tgt := 94) dX1_function_133 (by decide) ?_
      exact ew_room (Nat.le_refl _) (Nat.zero_le _) (Nat.zero_le _) (ew_sub (List.forall_mem_cons.mpr ⟨lm0, (List.forall_mem_cons.mpr ⟨lm1, (List.forall_mem_cons.mpr ⟨lm2, (List.forall_mem_cons.mpr ⟨lm3, e_nm⟩)⟩)⟩)⟩) H)
    · replace H := H.1 c9
      refine ew_iconst dX1_function_126 (inI_of rfl) ?_
      refine ew_goto (tgt := 131) dX1_function_127 (by decide) ?_
      obtain ⟨v11, H⟩ := H
      refine ew_iadd dX1_function_131 v11 ?_
      refine ew_istore_n dX1_function_132 rfl (by decide) (lv' := [(3, aI (x3 + 1)), (0, aR (some xT)), (1, aI x1), (4, aR (some (1, 7, 0))), (5, aR (some (bI V 11 (x4).toNat)))]) rfl ?_
      refine ew_sub (List.forall_mem_cons.mpr ⟨lm1, (List.forall_mem_cons.mpr ⟨lm2, (List.forall_mem_cons.mpr ⟨lm0, (List.forall_mem_cons.mpr ⟨lm3, (List.forall_mem_cons.mpr ⟨lm4, e_nm⟩)⟩)⟩)⟩)⟩) ?_
      refine ew_goto (tgt := 94) dX1_function_133 (by decide) ?_
      exact ew_room (Nat.le_refl _) (Nat.zero_le _) (Nat.zero_le _) (ew_sub (List.forall_mem_cons.mpr ⟨lm0, (List.forall_mem_cons.mpr ⟨lm1, (List.forall_mem_cons.mpr ⟨lm2, (List.forall_mem_cons.mpr ⟨lm3, e_nm⟩)⟩)⟩)⟩) H)
set_option maxHeartbeats 4000000 in
theorem T_X1_function_145 (d : Nat) (V : XV) (g : AH) (hg : xf 7 g) (hr : xfree V g) (K : Int → XS → Prop) (x1 : Int) (x3 : Int) (x4 : Int) (s0 : XS) (g1 : AH) (hx : eX g g1) (H : B_X1_function_145 (W_X1_function_94 d V g K) (W_X1_function_145 d V g K) K x1 x3 x4 s0) : EW mm_X1_function (d + 7) 0 0 (tQi V g K) 145 [(0, aR (some xT)), (1, aI x1), (3, aI x3), (4, aI x4)] [] (xh V s0 g1) := by
  refine ew_iload dX1_function_145 lm3 ?_
  refine ew_aload_n dX1_function_147 rfl lm0 ?_
  refine ew_callV (d := d + 6) (as := []) rfl dX1_function_148 me_X1_terms rfl (ci := 0) rfl rfl xh_x (Or.inl q1048) q1050 qs25 (Nat.le_of_ble_eq_true rfl) (Nat.zero_le _) (Nat.zero_le _) (S_X1_terms (d := d + 5) H) (fun o h' hq3 _ => ?_) (fun E i h' q _ => (cQ_no q).elim)
  obtain ⟨r1, E4, rfl, H⟩ := hq3
  cases E4
  refine ew_icmp_ge (tgt := 193) dX1_function_151 (by decide) (fun c5 => ?_) (fun c5 => ?_)
  · replace H := H.1 c5
    refine ew_aload_n dX1_function_193 rfl lm0 ?_
    refine ew_iload_n dX1_function_194 rfl lm2 ?_
    refine ew_callV (d := d + 6) (as := [aI x3]) rfl dX1_function_195 me_X1_fine rfl (ci := 0) rfl rfl xh_x (Or.inl q1032) q1034 qs24 (Nat.le_of_ble_eq_true rfl) (Nat.zero_le _) (Nat.zero_le _) (S_X1_fine (d := d + 6) H) (fun o h' hq8 _ => ?_) (fun E i h' q _ => (xQi_no q).elim)
    obtain ⟨r6, s7, E9, rfl, H⟩ := hq8
    cases E9
    exact ew_ret (o := some (aI r6)) rfl ⟨_, _, _, rfl, rfl, hx, H⟩ ⟨dX1_function_198, .int, rfl, Or.inl rfl, rfl⟩
  · replace H := H.2 c5
    refine ew_iload_n dX1_function_154 rfl lm2 ?_
    refine ew_aload_n dX1_function_155 rfl lm0 ?_
    refine xw_get (v := aR (some (sI V 4 99))) dX1_function_156 (e_fl.a q334) xf_6 rfl ?_
    refine yw_get (cs := [3, 4, 5]) (v := aR (some (sI V 4 0))) dX1_function_159 (by decide) (e_fl.b q261 q262) yf_0 (by decide) rfl ?_
    refine ew_iload dX1_function_162 lm3 ?_
    obtain ⟨v10, H⟩ := H
    refine yw_iald dX1_function_164 (by decide) rfl v10.1 v10.2 ?_
    refine ew_iload dX1_function_165 lm3 ?_
    refine ew_icmp_ne (tgt := 184) dX1_function_167 (by decide) (fun c11 => ?_) (fun c11 => ?_)
    · replace H := H.2 c11
      refine ew_iconst dX1_function_184 (inI_of rfl) ?_
      obtain ⟨v12, H⟩ := H
      refine ew_iadd dX1_function_185 v12 ?_
      refine ew_istore_n dX1_function_186 rfl (by decide) (lv' := [(3, aI (x3 + 0)), (0, aR (some xT)), (1, aI x1), (4, aI x4)]) rfl ?_
      refine ew_sub (List.forall_mem_cons.mpr ⟨lm1, (List.forall_mem_cons.mpr ⟨lm2, (List.forall_mem_cons.mpr ⟨lm0, (List.forall_mem_cons.mpr ⟨lm3, e_nm⟩)⟩)⟩)⟩) ?_
      obtain ⟨v13, H⟩ := H
      refine ew_iinc dX1_function_187 lm3 (by decide) v13 (lv' := [(4, aI (x4 + 1)), (0, aR (some xT)), (1, aI x1), (3, aI (x3 + 0))]) rfl ?_
      refine ew_sub (List.forall_mem_cons.mpr ⟨lm1, (List.forall_mem_cons.mpr ⟨lm2, (List.forall_mem_cons.mpr ⟨lm3, (List.forall_mem_cons.mpr ⟨lm0, e_nm⟩)⟩)⟩)⟩) ?_
      refine ew_goto (tgt := 145) dX1_function_190 (by decide) ?_
      exact ew_room (Nat.le_refl _) (Nat.zero_le _) (Nat.zero_le _) (ew_sub (List.forall_mem_cons.mpr ⟨lm0, (List.forall_mem_cons.mpr ⟨lm1, (List.forall_mem_cons.mpr ⟨lm2, (List.forall_mem_cons.mpr ⟨lm3, e_nm⟩)⟩)⟩)⟩) (H _ hx))
    · replace H := H.1 c11
      refine ew_aload_n dX1_function_170 rfl lm0 ?_
      refine ew_iload dX1_function_171 lm3 ?_
      refine ew_iload_n dX1_function_173 rfl lm1 ?_
      refine ew_callV (d := d + 6) (as := [aI x4, aI x1]) rfl dX1_function_174 me_X1_isIn_2 rfl (ci := 0) rfl rfl xh_x (Or.inl q1073) q1075 qs28 (Nat.le_of_ble_eq_true rfl) (Nat.zero_le _) (Nat.zero_le _) (S_X1_isIn_2 (d := d + 3) H) (fun o h' hq16 _ => ?_) (fun E i h' q _ => (cQ_no q).elim)
      obtain ⟨r14, E17, rfl, H⟩ := hq16
      cases E17
      refine ew_if_eq (tgt := 184) dX1_function_177 (by decide) (fun c18 => ?_) (fun c18 => ?_)
      · replace H := H.1 c18
        refine ew_iconst dX1_function_184 (inI_of rfl) ?_
        obtain ⟨v19, H⟩ := H
        refine ew_iadd dX1_function_185 v19 ?_
        refine ew_istore_n dX1_function_186 rfl (by decide) (lv' := [(3, aI (x3 + 0)), (0, aR (some xT)), (1, aI x1), (4, aI x4)]) rfl ?_
        refine ew_sub (List.forall_mem_cons.mpr ⟨lm1, (List.forall_mem_cons.mpr ⟨lm2, (List.forall_mem_cons.mpr ⟨lm0, (List.forall_mem_cons.mpr ⟨lm3, e_nm⟩)⟩)⟩)⟩) ?_
        obtain ⟨v20, H⟩ := H
        refine ew_iinc dX1_function_187 lm3 (by decide) v20 (lv' := [(4, aI (x4 + 1)), (0, aR (some xT)), (1, aI x1), (3, aI (x3 + 0))]) rfl ?_
        refine ew_sub (List.forall_mem_cons.mpr ⟨lm1, (List.forall_mem_cons.mpr ⟨lm2, (List.forall_mem_cons.mpr ⟨lm3, (List.forall_mem_cons.mpr ⟨lm0, e_nm⟩)⟩)⟩)⟩) ?_
        refine ew_goto (tgt := 145) dX1_function_190 (by decide) ?_
        exact ew_room (Nat.le_refl _) (Nat.zero_le _) (Nat.zero_le _) (ew_sub (List.forall_mem_cons.mpr ⟨lm0, (List.forall_mem_cons.mpr ⟨lm1, (List.forall_mem_cons.mpr ⟨lm2, (List.forall_mem_cons.mpr ⟨lm3, e_nm⟩)⟩)⟩)⟩) (H _ hx))
      · replace H := H.2 c18
        refine ew_iconst dX1_function_180 (inI_of rfl) ?_
        refine ew_goto (tgt := 185) dX1_function_181 (by decide) ?_
        obtain ⟨v21, H⟩ := H
        refine ew_iadd dX1_function_185 v21 ?_
        refine ew_istore_n dX1_function_186 rfl (by decide) (lv' := [(3, aI (x3 + 1)), (0, aR (some xT)), (1, aI x1), (4, aI x4)]) rfl ?_
        refine ew_sub (List.forall_mem_cons.mpr ⟨lm1, (List.forall_mem_cons.mpr ⟨lm2, (List.forall_mem_cons.mpr ⟨lm0, (List.forall_mem_cons.mpr ⟨lm3, e_nm⟩)⟩)⟩)⟩) ?_
        obtain ⟨v22, H⟩ := H
        refine ew_iinc dX1_function_187 lm3 (by decide) v22 (lv' := [(4, aI (x4 + 1)), (0, aR (some xT)), (1, aI x1), (3, aI (x3 + 1))]) rfl ?_
        refine ew_sub (List.forall_mem_cons.mpr ⟨lm1, (List.forall_mem_cons.mpr ⟨lm2, (List.forall_mem_cons.mpr ⟨lm3, (List.forall_mem_cons.mpr ⟨lm0, e_nm⟩)⟩)⟩)⟩) ?_
        refine ew_goto (tgt := 145) dX1_function_190 (by decide) ?_
        exact ew_room (Nat.le_refl _) (Nat.zero_le _) (Nat.zero_le _) (ew_sub (List.forall_mem_cons.mpr ⟨lm0, (List.forall_mem_cons.mpr ⟨lm1, (List.forall_mem_cons.mpr ⟨lm2, (List.forall_mem_cons.mpr ⟨lm3, e_nm⟩)⟩)⟩)⟩) (H _ hx))
set_option maxHeartbeats 4000000 in
theorem T_X1_function_E (d : Nat) (V : XV) (g : AH) (hg : xf 7 g) (hr : xfree V g) (K : Int → XS → Prop) (a : Int) (b : Int) (s0 : XS) (H : B_X1_function_E (W_X1_function_94 d V g K) (W_X1_function_145 d V g K) K a b s0) : EW mm_X1_function (d + 7) 1 4 (tQi V g K) 0 [(0, aR (some xT)), (1, aI a), (2, aI b)] [] (xh V s0 g) := by
  refine ew_iload_n dX1_function_0 rfl lm1 ?_
  refine ew_iconst dX1_function_1 (inI_of rfl) ?_
  refine ew_aload_n dX1_function_2 rfl lm0 ?_
  refine xw_get (v := aR (some (bI V 1 0))) dX1_function_3 (e_fl.a q333) xf_5 rfl ?_
  refine xw_book dX1_function_6 (e_fl.c q188) bf_0 ?_
  refine lw_size (d := d + 6) (j := 0) dX1_function_9 (by decide) q1030 (Nat.le_of_ble_eq_true rfl) ?_
  refine ew_iconst dX1_function_14 (inI_of rfl) ?_
  obtain ⟨v1, H⟩ := H
  refine ew_isub dX1_function_15 v1 ?_
  refine ew_callS (d := d + 6) (as := [aI a, aI 0, aI ((s0.1.1 30) - 1)]) rfl dX1_function_16 me_X1_isIn rfl (Or.inl q403) q404 (Nat.le_of_ble_eq_true rfl) (Nat.zero_le _) (Nat.zero_le _) (S_X1_isIn (d := d + 6) H) (fun o h' hq3 _ => ?_) (fun E i h' q _ => (cQ_no q).elim)
  obtain ⟨r2, E4, rfl, H⟩ := hq3
  cases E4
  refine ew_if_ne (tgt := 28) dX1_function_19 (by decide) (fun c5 => ?_) (fun c5 => ?_)
  · replace H := H.2 c5
    refine ew_iconst dX1_function_28 (inI_of rfl) ?_
    refine ew_istore_n dX1_function_29 rfl (by decide) (lv' := [(3, aI 0), (0, aR (some xT)), (1, aI a), (2, aI b)]) rfl ?_
    refine ew_sub (List.forall_mem_cons.mpr ⟨lm1, (List.forall_mem_cons.mpr ⟨lm2, (List.forall_mem_cons.mpr ⟨lm3, (List.forall_mem_cons.mpr ⟨lm0, e_nm⟩)⟩)⟩)⟩) ?_
    refine ew_iload_n dX1_function_30 rfl lm2 ?_
    by_cases c6 : b = 0
    · replace H := H.1 c6
      refine ew_tableK (tgt := 56) dX1_function_31 c6 rfl rfl (by decide) ?_
      refine ew_aload_n dX1_function_56 rfl lm0 ?_
      refine ew_aload_n dX1_function_57 rfl lm0 ?_
      refine xw_get (v := aR (some (bI V 1 0))) dX1_function_58 (e_fl.a q333) xf_5 rfl ?_
      refine xw_book dX1_function_61 (e_fl.c q188) bf_0 ?_
      refine ew_iload_n dX1_function_64 rfl lm1 ?_
      obtain ⟨v7, H⟩ := H
      refine lw_g0 (d := d + 4) dX1_function_65 q1021 (Nat.le_of_ble_eq_true rfl) v7.1 v7.2 ?_
      obtain ⟨v8, H⟩ := H
      refine cf_cast (f := a) dX1_function_70 q1071 v8 ?_
      obtain ⟨v9, H⟩ := H
      refine gf_1 (f := a) dX1_function_73 (e_fl.c q719) ff_1 v9 ?_
      refine ew_callV (d := d + 6) (as := [aI (s0.1.2 31 a)]) rfl dX1_function_76 me_X1_fine rfl (ci := 0) rfl rfl xh_x (Or.inl q1032) q1034 qs24 (Nat.le_of_ble_eq_true rfl) (Nat.zero_le _) (Nat.zero_le _) (S_X1_fine (d := d + 6) H) (fun o h' hq12 _ => ?_) (fun E i h' q _ => (xQi_no q).elim)
      obtain ⟨r10, s11, E13, rfl, H⟩ := hq12
      cases E13
      exact ew_ret (o := some (aI r10)) rfl ⟨_, _, _, rfl, rfl, eX.rf, H⟩ ⟨dX1_function_79, .int, rfl, Or.inl rfl, rfl⟩
    replace H := H.2 c6
    by_cases c14 : b = 1
    · replace H := H.1 c14
      refine ew_tableK (tgt := 80) dX1_function_31 c14 rfl rfl (by decide) ?_
      refine ew_aload_n dX1_function_80 rfl lm0 ?_
      refine xw_get (v := aR (some (bI V 1 0))) dX1_function_81 (e_fl.a q333) xf_5 rfl ?_
      refine xw_book dX1_function_84 (e_fl.c q191) bf_1 ?_
      refine iw_new (d := d + 4) (j := 1) (I := (1, 7, 0)) dX1_function_87 (by decide) q874 rfl (hg _ rfl (Nat.le_refl _)) (Nat.le_of_ble_eq_true rfl) (Nat.le_of_ble_eq_true rfl) (Nat.le_of_ble_eq_true rfl) ?_
      refine ew_astore dX1_function_92 (by decide) (lv' := [(4, aR (some (1, 7, 0))), (0, aR (some xT)), (1, aI a), (2, aI b), (3, aI 0)]) rfl ?_
      refine ew_sub (List.forall_mem_cons.mpr ⟨lm1, (List.forall_mem_cons.mpr ⟨lm2, (List.forall_mem_cons.mpr ⟨lm3, (List.forall_mem_cons.mpr ⟨lm4, (List.forall_mem_cons.mpr ⟨lm0, e_nm⟩)⟩)⟩)⟩)⟩) ?_
      exact ew_room (Nat.le_refl _) (Nat.zero_le _) (Nat.zero_le _) (ew_sub (List.forall_mem_cons.mpr ⟨lm0, (List.forall_mem_cons.mpr ⟨lm1, (List.forall_mem_cons.mpr ⟨lm3, (List.forall_mem_cons.mpr ⟨lm4, e_nm⟩)⟩)⟩)⟩) H)
    replace H := H.2 c14
    by_cases c15 : b = 2
    · replace H := H.1 c15
      refine ew_tableK (tgt := 142) dX1_function_31 c15 rfl rfl (by decide) ?_
      refine ew_iconst dX1_function_142 (inI_of rfl) ?_
      refine ew_istore dX1_function_143 (by decide) (lv' := [(4, aI 0), (0, aR (some xT)), (1, aI a), (2, aI b), (3, aI 0)]) rfl ?_
      refine ew_sub (List.forall_mem_cons.mpr ⟨lm1, (List.forall_mem_cons.mpr ⟨lm2, (List.forall_mem_cons.mpr ⟨lm3, (List.forall_mem_cons.mpr ⟨lm4, (List.forall_mem_cons.mpr ⟨lm0, e_nm⟩)⟩)⟩)⟩)⟩) ?_
      exact ew_room (Nat.le_refl _) (Nat.zero_le _) (Nat.zero_le _) (ew_sub (List.forall_mem_cons.mpr ⟨lm0, (List.forall_mem_cons.mpr ⟨lm1, (List.forall_mem_cons.mpr ⟨lm3, (List.forall_mem_cons.mpr ⟨lm4, e_nm⟩)⟩)⟩)⟩) (H _ eX.rf))
    replace H := H.2 c15
    refine ew_tableOut (tgt := 199) dX1_function_31 (by clear H; omega) (by decide) ?_
    refine ew_aload_n dX1_function_199 rfl lm0 ?_
    refine ew_iconst dX1_function_200 (inI_of rfl) ?_
    refine ew_callV (d := d + 6) (as := [aI 1]) rfl dX1_function_201 me_X1_refused rfl (ci := 0) rfl rfl xh_x (Or.inl q406) q408 qs1 (Nat.le_of_ble_eq_true rfl) (Nat.zero_le _) (Nat.zero_le _) (S_X1_refused (d := d + 6) H) (fun o h' hq18 _ => ?_) (fun E i h' q _ => (xQi_no q).elim)
    obtain ⟨r16, s17, E19, rfl, H⟩ := hq18
    cases E19
    exact ew_ret (o := some (aI r16)) rfl ⟨_, _, _, rfl, rfl, eX.rf, H⟩ ⟨dX1_function_204, .int, rfl, Or.inl rfl, rfl⟩
  · replace H := H.1 c5
    refine ew_aload_n dX1_function_22 rfl lm0 ?_
    refine ew_iconst dX1_function_23 (inI_of rfl) ?_
    refine ew_callV (d := d + 6) (as := [aI 1]) rfl dX1_function_24 me_X1_refused rfl (ci := 0) rfl rfl xh_x (Or.inl q406) q408 qs1 (Nat.le_of_ble_eq_true rfl) (Nat.zero_le _) (Nat.zero_le _) (S_X1_refused (d := d + 6) H) (fun o h' hq22 _ => ?_) (fun E i h' q _ => (xQi_no q).elim)
    obtain ⟨r20, s21, E23, rfl, H⟩ := hq22
    cases E23
    exact ew_ret (o := some (aI r20)) rfl ⟨_, _, _, rfl, rfl, eX.rf, H⟩ ⟨dX1_function_27, .int, rfl, Or.inl rfl, rfl⟩
def C_X1_function (a : Int) (b : Int) (s0 : XS) (K : Int → XS → Prop) : Prop := ∀ (X94 : Int → Int → Int → XS → Prop) (X145 : Int → Int → Int → XS → Prop), (∀ (x1 : Int) (x3 : Int) (x4 : Int) (s0 : XS), B_X1_function_94 X94 X145 K x1 x3 x4 s0 → X94 x1 x3 x4 s0) → (∀ (x1 : Int) (x3 : Int) (x4 : Int) (s0 : XS), B_X1_function_145 X94 X145 K x1 x3 x4 s0 → X145 x1 x3 x4 s0) → B_X1_function_E X94 X145 K a b s0
theorem S_X1_function {d : Nat} {V : XV} {g : AH} {K : Int → XS → Prop} {a : Int} {b : Int} {s0 : XS} (hg : xf 7 g) (hr : xfree V g) (H : C_X1_function a b s0 K) : Sp mm_X1_function (d + 7) 1 4 [aR (some xT), aI a, aI b] (xh V s0 g) (xQi V g K) :=
  Sp.forget hr tQi_x (ew_sp rfl (Nat.le_of_ble_eq_true rfl) (T_X1_function_E d V g hg hr K a b s0 (H _ _ (fun x1 x3 x4 s0 H => T_X1_function_94 d V g hg hr K x1 x3 x4 s0 H) (fun x1 x3 x4 s0 H g1 hx => T_X1_function_145 d V g hg hr K x1 x3 x4 s0 g1 hx H))))
abbrev mm_X1_named : EM := (yX1_named, cX1_named, 8, (Option.some .int), [])
theorem me_X1_named : e_mth mm_X1_named 1 := ⟨rfl, q1396, q108, by decide +kernel, by decide⟩
def B_X1_named_2 (X2 : Int → Int → Prop) (X41 : Int → Int → Int → Int → Prop) (X110 : Int → Int → Int → Prop) (K : Int → Prop) (KX : Prop) (x1 : Int) (x2 : Int) (s0 : XS) : Prop :=
  (C_X1_isIn x1 0 (s0.1.1 3) (fun r1 => ((r1 = 0 → X41 x1 x2 x2 0) ∧ (¬ r1 = 0 → ((x1 ≤ x2 → X41 x1 x2 x2 0) ∧ (¬ x1 ≤ x2 → ((0 ≤ x2 ∧ x2 < 500) ∧ (((s0.1.2 2 x2) = 32 → (inI (x2 + 1) ∧ X2 x1 (x2 + 1))) ∧ (¬ (s0.1.2 2 x2) = 32 → X41 x1 x2 x2 0)))))))))
def B_X1_named_41 (X2 : Int → Int → Prop) (X41 : Int → Int → Int → Int → Prop) (X110 : Int → Int → Int → Prop) (K : Int → Prop) (KX : Prop) (x1 : Int) (x2 : Int) (x3 : Int) (x4 : Int) (s0 : XS) : Prop :=
  (C_X1_isIn x1 0 (s0.1.1 3) (fun r1 => ((r1 = 0 → X110 x1 x4 x3) ∧ (¬ r1 = 0 → ((x1 ≤ x3 → X110 x1 x4 x3) ∧ (¬ x1 ≤ x3 → ((0 ≤ x3 ∧ x3 < 500) ∧ (C_X1_isIn (s0.1.2 2 x3) 97 122 (fun r7 => ((r7 = 0 → X110 x1 x4 x3) ∧ (¬ r7 = 0 → ((inI (x3 - x2)) ∧ ((6 ≤ (x3 - x2) → (inI (x3 + 1) ∧ X41 x1 x2 (x3 + 1) 0)) ∧ (¬ 6 ≤ (x3 - x2) → ((0 ≤ x3 ∧ x3 < 500) ∧ (inI (x3 + 1) ∧ X41 x1 x2 (x3 + 1) (jlor (jlshl x4 8) (s0.1.2 2 x3))))))))))))))))))
def B_X1_named_110 (X2 : Int → Int → Prop) (X41 : Int → Int → Int → Int → Prop) (X110 : Int → Int → Int → Prop) (K : Int → Prop) (KX : Prop) (x1 : Int) (x4 : Int) (x6 : Int) (s0 : XS) : Prop :=
  (C_X1_isIn x1 0 (s0.1.1 3) (fun r1 => ((r1 = 0 → ((x6 = x1 → ((x4 = 0 → KX) ∧ (¬ x4 = 0 → (C_X2_term x4 s0 (fun r9 => ((r9 = (-1) → KX) ∧ (¬ r9 = (-1) → K r9))))))) ∧ (¬ x6 = x1 → KX))) ∧ (¬ r1 = 0 → ((x1 ≤ x6 → ((x6 = x1 → ((x4 = 0 → KX) ∧ (¬ x4 = 0 → (C_X2_term x4 s0 (fun r19 => ((r19 = (-1) → KX) ∧ (¬ r19 = (-1) → K r19))))))) ∧ (¬ x6 = x1 → KX))) ∧ (¬ x1 ≤ x6 → ((0 ≤ x6 ∧ x6 < 500) ∧ (((s0.1.2 2 x6) = 32 → (inI (x6 + 1) ∧ X110 x1 x4 (x6 + 1))) ∧ (¬ (s0.1.2 2 x6) = 32 → ((x6 = x1 → ((x4 = 0 → KX) ∧ (¬ x4 = 0 → (C_X2_term x4 s0 (fun r30 => ((r30 = (-1) → KX) ∧ (¬ r30 = (-1) → K r30))))))) ∧ (¬ x6 = x1 → KX)))))))))))
def B_X1_named_E (X2 : Int → Int → Prop) (X41 : Int → Int → Int → Int → Prop) (X110 : Int → Int → Int → Prop) (K : Int → Prop) (KX : Prop) (a : Int) (s0 : XS) : Prop :=
  X2 a 0
def W_X1_named_2 (d : Nat) (V : XV) (g : AH) (s0 : XS) (K : Int → Prop) (KX : Prop) (x1 : Int) (x2 : Int) : Prop := EW mm_X1_named (d + 6) 1 6 (cQx (xh V s0 g) K KX) 2 [(0, aR (some xT)), (1, aI x1), (2, aI x2)] [] (xh V s0 g)
def W_X1_named_41 (d : Nat) (V : XV) (g : AH) (s0 : XS) (K : Int → Prop) (KX : Prop) (x1 : Int) (x2 : Int) (x3 : Int) (x4 : Int) : Prop := EW mm_X1_named (d + 6) 1 6 (cQx (xh V s0 g) K KX) 41 [(0, aR (some xT)), (1, aI x1), (2, aI x2), (3, aI x3), (4, aL x4)] [] (xh V s0 g)
def W_X1_named_110 (d : Nat) (V : XV) (g : AH) (s0 : XS) (K : Int → Prop) (KX : Prop) (x1 : Int) (x4 : Int) (x6 : Int) : Prop := EW mm_X1_named (d + 6) 1 6 (cQx (xh V s0 g) K KX) 110 [(0, aR (some xT)), (1, aI x1), (4, aL x4), (6, aI x6)] [] (xh V s0 g)
set_option maxHeartbeats 4000000 in
theorem T_X1_named_2 (d : Nat) (V : XV) (g : AH) (K : Int → Prop) (KX : Prop) (x1 : Int) (x2 : Int) (s0 : XS) (H : B_X1_named_2 (W_X1_named_2 d V g s0 K KX) (W_X1_named_41 d V g s0 K KX) (W_X1_named_110 d V g s0 K KX) K KX x1 x2 s0) : EW mm_X1_named (d + 6) 1 6 (cQx (xh V s0 g) K KX) 2 [(0, aR (some xT)), (1, aI x1), (2, aI x2)] [] (xh V s0 g) := by
  refine ew_iload_n dX1_named_2 rfl lm1 ?_
  refine ew_iconst dX1_named_3 (inI_of rfl) ?_
  refine ew_aload_n dX1_named_4 rfl lm0 ?_
  refine xw_get (v := aI (s0.1.1 3)) dX1_named_5 (e_fl.a q331) xf_3 rfl ?_
  refine ew_callS (d := d + 5) (as := [aI x1, aI 0, aI (s0.1.1 3)]) rfl dX1_named_8 me_X1_isIn rfl (Or.inl q403) q404 (Nat.le_of_ble_eq_true rfl) (Nat.zero_le _) (Nat.zero_le _) (S_X1_isIn (d := d + 5) H) (fun o h' hq2 _ => ?_) (fun E i h' q _ => (cQ_no q).elim)
  obtain ⟨r1, E3, rfl, H⟩ := hq2
  cases E3
  refine ew_if_eq (tgt := 36) dX1_named_11 (by decide) (fun c4 => ?_) (fun c4 => ?_)
  · replace H := H.1 c4
    refine ew_iload_n dX1_named_36 rfl lm2 ?_
    refine ew_istore_n dX1_named_37 rfl (by decide) (lv' := [(3, aI x2), (0, aR (some xT)), (1, aI x1), (2, aI x2)]) rfl ?_
    refine ew_sub (List.forall_mem_cons.mpr ⟨lm1, (List.forall_mem_cons.mpr ⟨lm2, (List.forall_mem_cons.mpr ⟨lm3, (List.forall_mem_cons.mpr ⟨lm0, e_nm⟩)⟩)⟩)⟩) ?_
    refine ew_lconst (v := 0) dX1_named_38 (inL_of rfl) (by decide) ?_
    refine ew_lstore dX1_named_39 (by decide) (lv' := [(4, aL 0), (0, aR (some xT)), (1, aI x1), (2, aI x2), (3, aI x2)]) rfl ?_
    refine ew_sub (List.forall_mem_cons.mpr ⟨lm1, (List.forall_mem_cons.mpr ⟨lm2, (List.forall_mem_cons.mpr ⟨lm3, (List.forall_mem_cons.mpr ⟨lm4, (List.forall_mem_cons.mpr ⟨lm0, e_nm⟩)⟩)⟩)⟩)⟩) ?_
    exact ew_room (Nat.le_refl _) (Nat.le_of_ble_eq_true rfl) (Nat.le_of_ble_eq_true rfl) (ew_sub (List.forall_mem_cons.mpr ⟨lm0, (List.forall_mem_cons.mpr ⟨lm1, (List.forall_mem_cons.mpr ⟨lm2, (List.forall_mem_cons.mpr ⟨lm3, (List.forall_mem_cons.mpr ⟨lm4, e_nm⟩)⟩)⟩)⟩)⟩) H)
  · replace H := H.2 c4
    refine ew_iload_n dX1_named_14 rfl lm2 ?_
    refine ew_iload_n dX1_named_15 rfl lm1 ?_
    refine ew_icmp_ge (tgt := 36) dX1_named_16 (by decide) (fun c5 => ?_) (fun c5 => ?_)
    · replace H := H.1 c5
      refine ew_iload_n dX1_named_36 rfl lm2 ?_
      refine ew_istore_n dX1_named_37 rfl (by decide) (lv' := [(3, aI x2), (0, aR (some xT)), (1, aI x1), (2, aI x2)]) rfl ?_
      refine ew_sub (List.forall_mem_cons.mpr ⟨lm1, (List.forall_mem_cons.mpr ⟨lm2, (List.forall_mem_cons.mpr ⟨lm3, (List.forall_mem_cons.mpr ⟨lm0, e_nm⟩)⟩)⟩)⟩) ?_
      refine ew_lconst (v := 0) dX1_named_38 (inL_of rfl) (by decide) ?_
      refine ew_lstore dX1_named_39 (by decide) (lv' := [(4, aL 0), (0, aR (some xT)), (1, aI x1), (2, aI x2), (3, aI x2)]) rfl ?_
      refine ew_sub (List.forall_mem_cons.mpr ⟨lm1, (List.forall_mem_cons.mpr ⟨lm2, (List.forall_mem_cons.mpr ⟨lm3, (List.forall_mem_cons.mpr ⟨lm4, (List.forall_mem_cons.mpr ⟨lm0, e_nm⟩)⟩)⟩)⟩)⟩) ?_
      exact ew_room (Nat.le_refl _) (Nat.le_of_ble_eq_true rfl) (Nat.le_of_ble_eq_true rfl) (ew_sub (List.forall_mem_cons.mpr ⟨lm0, (List.forall_mem_cons.mpr ⟨lm1, (List.forall_mem_cons.mpr ⟨lm2, (List.forall_mem_cons.mpr ⟨lm3, (List.forall_mem_cons.mpr ⟨lm4, e_nm⟩)⟩)⟩)⟩)⟩) H)
    · replace H := H.2 c5
      refine ew_aload_n dX1_named_19 rfl lm0 ?_
      refine xw_get (v := aR (some (0, 2, 2))) dX1_named_20 (e_fl.a q330) xf_2 rfl ?_
      refine ew_iload_n dX1_named_23 rfl lm2 ?_
      obtain ⟨v6, H⟩ := H
      refine xw_bald dX1_named_24 rfl (Or.inr rfl) v6.1 v6.2 ?_
      refine ew_bipush dX1_named_25 (inI_of rfl) (by decide) ?_
      refine ew_icmp_ne (tgt := 36) dX1_named_27 (by decide) (fun c7 => ?_) (fun c7 => ?_)
      · replace H := H.2 c7
        refine ew_iload_n dX1_named_36 rfl lm2 ?_
        refine ew_istore_n dX1_named_37 rfl (by decide) (lv' := [(3, aI x2), (0, aR (some xT)), (1, aI x1), (2, aI x2)]) rfl ?_
        refine ew_sub (List.forall_mem_cons.mpr ⟨lm1, (List.forall_mem_cons.mpr ⟨lm2, (List.forall_mem_cons.mpr ⟨lm3, (List.forall_mem_cons.mpr ⟨lm0, e_nm⟩)⟩)⟩)⟩) ?_
        refine ew_lconst (v := 0) dX1_named_38 (inL_of rfl) (by decide) ?_
        refine ew_lstore dX1_named_39 (by decide) (lv' := [(4, aL 0), (0, aR (some xT)), (1, aI x1), (2, aI x2), (3, aI x2)]) rfl ?_
        refine ew_sub (List.forall_mem_cons.mpr ⟨lm1, (List.forall_mem_cons.mpr ⟨lm2, (List.forall_mem_cons.mpr ⟨lm3, (List.forall_mem_cons.mpr ⟨lm4, (List.forall_mem_cons.mpr ⟨lm0, e_nm⟩)⟩)⟩)⟩)⟩) ?_
        exact ew_room (Nat.le_refl _) (Nat.le_of_ble_eq_true rfl) (Nat.le_of_ble_eq_true rfl) (ew_sub (List.forall_mem_cons.mpr ⟨lm0, (List.forall_mem_cons.mpr ⟨lm1, (List.forall_mem_cons.mpr ⟨lm2, (List.forall_mem_cons.mpr ⟨lm3, (List.forall_mem_cons.mpr ⟨lm4, e_nm⟩)⟩)⟩)⟩)⟩) H)
      · replace H := H.1 c7
        obtain ⟨v8, H⟩ := H
        refine ew_iinc dX1_named_30 lm2 (by decide) v8 (lv' := [(2, aI (x2 + 1)), (0, aR (some xT)), (1, aI x1)]) rfl ?_
        refine ew_sub (List.forall_mem_cons.mpr ⟨lm1, (List.forall_mem_cons.mpr ⟨lm2, (List.forall_mem_cons.mpr ⟨lm0, e_nm⟩)⟩)⟩) ?_
        refine ew_goto (tgt := 2) dX1_named_33 (by decide) ?_
        exact ew_room (Nat.le_refl _) (Nat.le_of_ble_eq_true rfl) (Nat.le_of_ble_eq_true rfl) (ew_sub (List.forall_mem_cons.mpr ⟨lm0, (List.forall_mem_cons.mpr ⟨lm1, (List.forall_mem_cons.mpr ⟨lm2, e_nm⟩)⟩)⟩) H)
set_option maxHeartbeats 4000000 in
theorem T_X1_named_41 (d : Nat) (V : XV) (g : AH) (K : Int → Prop) (KX : Prop) (x1 : Int) (x2 : Int) (x3 : Int) (x4 : Int) (s0 : XS) (H : B_X1_named_41 (W_X1_named_2 d V g s0 K KX) (W_X1_named_41 d V g s0 K KX) (W_X1_named_110 d V g s0 K KX) K KX x1 x2 x3 x4 s0) : EW mm_X1_named (d + 6) 1 6 (cQx (xh V s0 g) K KX) 41 [(0, aR (some xT)), (1, aI x1), (2, aI x2), (3, aI x3), (4, aL x4)] [] (xh V s0 g) := by
  refine ew_iload_n dX1_named_41 rfl lm1 ?_
  refine ew_iconst dX1_named_42 (inI_of rfl) ?_
  refine ew_aload_n dX1_named_43 rfl lm0 ?_
  refine xw_get (v := aI (s0.1.1 3)) dX1_named_44 (e_fl.a q331) xf_3 rfl ?_
  refine ew_callS (d := d + 5) (as := [aI x1, aI 0, aI (s0.1.1 3)]) rfl dX1_named_47 me_X1_isIn rfl (Or.inl q403) q404 (Nat.le_of_ble_eq_true rfl) (Nat.zero_le _) (Nat.zero_le _) (S_X1_isIn (d := d + 5) H) (fun o h' hq2 _ => ?_) (fun E i h' q _ => (cQ_no q).elim)
  obtain ⟨r1, E3, rfl, H⟩ := hq2
  cases E3
  refine ew_if_eq (tgt := 107) dX1_named_50 (by decide) (fun c4 => ?_) (fun c4 => ?_)
  · replace H := H.1 c4
    refine ew_iload_n dX1_named_107 rfl lm3 ?_
    refine ew_istore dX1_named_108 (by decide) (lv' := [(6, aI x3), (0, aR (some xT)), (1, aI x1), (2, aI x2), (3, aI x3), (4, aL x4)]) rfl ?_
    refine ew_sub (List.forall_mem_cons.mpr ⟨lm1, (List.forall_mem_cons.mpr ⟨lm2, (List.forall_mem_cons.mpr ⟨lm3, (List.forall_mem_cons.mpr ⟨lm4, (List.forall_mem_cons.mpr ⟨lm5, (List.forall_mem_cons.mpr ⟨lm0, e_nm⟩)⟩)⟩)⟩)⟩)⟩) ?_
    exact ew_room (Nat.le_refl _) (Nat.le_of_ble_eq_true rfl) (Nat.le_of_ble_eq_true rfl) (ew_sub (List.forall_mem_cons.mpr ⟨lm0, (List.forall_mem_cons.mpr ⟨lm1, (List.forall_mem_cons.mpr ⟨lm4, (List.forall_mem_cons.mpr ⟨lm5, e_nm⟩)⟩)⟩)⟩) H)
  · replace H := H.2 c4
    refine ew_iload_n dX1_named_53 rfl lm3 ?_
    refine ew_iload_n dX1_named_54 rfl lm1 ?_
    refine ew_icmp_ge (tgt := 107) dX1_named_55 (by decide) (fun c5 => ?_) (fun c5 => ?_)
    · replace H := H.1 c5
      refine ew_iload_n dX1_named_107 rfl lm3 ?_
      refine ew_istore dX1_named_108 (by decide) (lv' := [(6, aI x3), (0, aR (some xT)), (1, aI x1), (2, aI x2), (3, aI x3), (4, aL x4)]) rfl ?_
      refine ew_sub (List.forall_mem_cons.mpr ⟨lm1, (List.forall_mem_cons.mpr ⟨lm2, (List.forall_mem_cons.mpr ⟨lm3, (List.forall_mem_cons.mpr ⟨lm4, (List.forall_mem_cons.mpr ⟨lm5, (List.forall_mem_cons.mpr ⟨lm0, e_nm⟩)⟩)⟩)⟩)⟩)⟩) ?_
      exact ew_room (Nat.le_refl _) (Nat.le_of_ble_eq_true rfl) (Nat.le_of_ble_eq_true rfl) (ew_sub (List.forall_mem_cons.mpr ⟨lm0, (List.forall_mem_cons.mpr ⟨lm1, (List.forall_mem_cons.mpr ⟨lm4, (List.forall_mem_cons.mpr ⟨lm5, e_nm⟩)⟩)⟩)⟩) H)
    · replace H := H.2 c5
      refine ew_aload_n dX1_named_58 rfl lm0 ?_
      refine xw_get (v := aR (some (0, 2, 2))) dX1_named_59 (e_fl.a q330) xf_2 rfl ?_
      refine ew_iload_n dX1_named_62 rfl lm3 ?_
      obtain ⟨v6, H⟩ := H
      refine xw_bald dX1_named_63 rfl (Or.inr rfl) v6.1 v6.2 ?_
      refine ew_bipush dX1_named_64 (inI_of rfl) (by decide) ?_
      refine ew_bipush dX1_named_66 (inI_of rfl) (by decide) ?_
      refine ew_callS (d := d + 5) (as := [aI (s0.1.2 2 x3), aI 97, aI 122]) rfl dX1_named_68 me_X1_isIn rfl (Or.inl q403) q404 (Nat.le_of_ble_eq_true rfl) (Nat.zero_le _) (Nat.zero_le _) (S_X1_isIn (d := d + 5) H) (fun o h' hq8 _ => ?_) (fun E i h' q _ => (cQ_no q).elim)
      obtain ⟨r7, E9, rfl, H⟩ := hq8
      cases E9
      refine ew_if_eq (tgt := 107) dX1_named_71 (by decide) (fun c10 => ?_) (fun c10 => ?_)
      · replace H := H.1 c10
        refine ew_iload_n dX1_named_107 rfl lm3 ?_
        refine ew_istore dX1_named_108 (by decide) (lv' := [(6, aI x3), (0, aR (some xT)), (1, aI x1), (2, aI x2), (3, aI x3), (4, aL x4)]) rfl ?_
        refine ew_sub (List.forall_mem_cons.mpr ⟨lm1, (List.forall_mem_cons.mpr ⟨lm2, (List.forall_mem_cons.mpr ⟨lm3, (List.forall_mem_cons.mpr ⟨lm4, (List.forall_mem_cons.mpr ⟨lm5, (List.forall_mem_cons.mpr ⟨lm0, e_nm⟩)⟩)⟩)⟩)⟩)⟩) ?_
        exact ew_room (Nat.le_refl _) (Nat.le_of_ble_eq_true rfl) (Nat.le_of_ble_eq_true rfl) (ew_sub (List.forall_mem_cons.mpr ⟨lm0, (List.forall_mem_cons.mpr ⟨lm1, (List.forall_mem_cons.mpr ⟨lm4, (List.forall_mem_cons.mpr ⟨lm5, e_nm⟩)⟩)⟩)⟩) H)
      · replace H := H.2 c10
        refine ew_iload_n dX1_named_74 rfl lm3 ?_
        refine ew_iload_n dX1_named_75 rfl lm2 ?_
        obtain ⟨v11, H⟩ := H
        refine ew_isub dX1_named_76 v11 ?_
        refine ew_bipush dX1_named_77 (inI_of rfl) (by decide) ?_
        refine ew_icmp_ge (tgt := 98) dX1_named_79 (by decide) (fun c12 => ?_) (fun c12 => ?_)
        · replace H := H.1 c12
          refine ew_lconst (v := 0) dX1_named_98 (inL_of rfl) (by decide) ?_
          refine ew_lstore dX1_named_99 (by decide) (lv' := [(4, aL 0), (0, aR (some xT)), (1, aI x1), (2, aI x2), (3, aI x3)]) rfl ?_
          refine ew_sub (List.forall_mem_cons.mpr ⟨lm1, (List.forall_mem_cons.mpr ⟨lm2, (List.forall_mem_cons.mpr ⟨lm3, (List.forall_mem_cons.mpr ⟨lm4, (List.forall_mem_cons.mpr ⟨lm0, e_nm⟩)⟩)⟩)⟩)⟩) ?_
          obtain ⟨v13, H⟩ := H
          refine ew_iinc dX1_named_101 lm3 (by decide) v13 (lv' := [(3, aI (x3 + 1)), (0, aR (some xT)), (1, aI x1), (2, aI x2), (4, aL 0)]) rfl ?_
          refine ew_sub (List.forall_mem_cons.mpr ⟨lm1, (List.forall_mem_cons.mpr ⟨lm2, (List.forall_mem_cons.mpr ⟨lm3, (List.forall_mem_cons.mpr ⟨lm0, (List.forall_mem_cons.mpr ⟨lm4, e_nm⟩)⟩)⟩)⟩)⟩) ?_
          refine ew_goto (tgt := 41) dX1_named_104 (by decide) ?_
          exact ew_room (Nat.le_refl _) (Nat.le_of_ble_eq_true rfl) (Nat.le_of_ble_eq_true rfl) (ew_sub (List.forall_mem_cons.mpr ⟨lm0, (List.forall_mem_cons.mpr ⟨lm1, (List.forall_mem_cons.mpr ⟨lm2, (List.forall_mem_cons.mpr ⟨lm3, (List.forall_mem_cons.mpr ⟨lm4, e_nm⟩)⟩)⟩)⟩)⟩) H)
        · replace H := H.2 c12
          refine ew_lload dX1_named_82 lm4 ?_
          refine ew_bipush dX1_named_84 (inI_of rfl) (by decide) ?_
          refine ew_lshl dX1_named_86 ?_
          refine ew_aload_n dX1_named_87 rfl lm0 ?_
          refine xw_get (v := aR (some (0, 2, 2))) dX1_named_88 (e_fl.a q330) xf_2 rfl ?_
          refine ew_iload_n dX1_named_91 rfl lm3 ?_
          obtain ⟨v14, H⟩ := H
          refine xw_bald dX1_named_92 rfl (Or.inr rfl) v14.1 v14.2 ?_
          refine ew_i2l dX1_named_93 ?_
          refine ew_lor dX1_named_94 ?_
          refine ew_goto (tgt := 99) dX1_named_95 (by decide) ?_
          refine ew_lstore dX1_named_99 (by decide) (lv' := [(4, aL (jlor (jlshl x4 8) (s0.1.2 2 x3))), (0, aR (some xT)), (1, aI x1), (2, aI x2), (3, aI x3)]) rfl ?_
          refine ew_sub (List.forall_mem_cons.mpr ⟨lm1, (List.forall_mem_cons.mpr ⟨lm2, (List.forall_mem_cons.mpr ⟨lm3, (List.forall_mem_cons.mpr ⟨lm4, (List.forall_mem_cons.mpr ⟨lm0, e_nm⟩)⟩)⟩)⟩)⟩) ?_
          obtain ⟨v15, H⟩ := H
          refine ew_iinc dX1_named_101 lm3 (by decide) v15 (lv' := [(3, aI (x3 + 1)), (0, aR (some xT)), (1, aI x1), (2, aI x2), (4, aL (jlor (jlshl x4 8) (s0.1.2 2 x3)))]) rfl ?_
          refine ew_sub (List.forall_mem_cons.mpr ⟨lm1, (List.forall_mem_cons.mpr ⟨lm2, (List.forall_mem_cons.mpr ⟨lm3, (List.forall_mem_cons.mpr ⟨lm0, (List.forall_mem_cons.mpr ⟨lm4, e_nm⟩)⟩)⟩)⟩)⟩) ?_
          refine ew_goto (tgt := 41) dX1_named_104 (by decide) ?_
          exact ew_room (Nat.le_refl _) (Nat.le_of_ble_eq_true rfl) (Nat.le_of_ble_eq_true rfl) (ew_sub (List.forall_mem_cons.mpr ⟨lm0, (List.forall_mem_cons.mpr ⟨lm1, (List.forall_mem_cons.mpr ⟨lm2, (List.forall_mem_cons.mpr ⟨lm3, (List.forall_mem_cons.mpr ⟨lm4, e_nm⟩)⟩)⟩)⟩)⟩) H)
set_option maxHeartbeats 4000000 in
theorem T_X1_named_110 (d : Nat) (V : XV) (g : AH) (K : Int → Prop) (KX : Prop) (x1 : Int) (x4 : Int) (x6 : Int) (s0 : XS) (H : B_X1_named_110 (W_X1_named_2 d V g s0 K KX) (W_X1_named_41 d V g s0 K KX) (W_X1_named_110 d V g s0 K KX) K KX x1 x4 x6 s0) : EW mm_X1_named (d + 6) 1 6 (cQx (xh V s0 g) K KX) 110 [(0, aR (some xT)), (1, aI x1), (4, aL x4), (6, aI x6)] [] (xh V s0 g) := by
  refine ew_iload_n dX1_named_110 rfl lm1 ?_
  refine ew_iconst dX1_named_111 (inI_of rfl) ?_
  refine ew_aload_n dX1_named_112 rfl lm0 ?_
  refine xw_get (v := aI (s0.1.1 3)) dX1_named_113 (e_fl.a q331) xf_3 rfl ?_
  refine ew_callS (d := d + 5) (as := [aI x1, aI 0, aI (s0.1.1 3)]) rfl dX1_named_116 me_X1_isIn rfl (Or.inl q403) q404 (Nat.le_of_ble_eq_true rfl) (Nat.zero_le _) (Nat.zero_le _) (S_X1_isIn (d := d + 5) H) (fun o h' hq2 _ => ?_) (fun E i h' q _ => (cQ_no q).elim)
  obtain ⟨r1, E3, rfl, H⟩ := hq2
  cases E3
  refine ew_if_eq (tgt := 146) dX1_named_119 (by decide) (fun c4 => ?_) (fun c4 => ?_)
  · replace H := H.1 c4
    refine ew_iload dX1_named_146 lm3 ?_
    refine ew_iload_n dX1_named_148 rfl lm1 ?_
    refine ew_icmp_ne (tgt := 171) dX1_named_149 (by decide) (fun c5 => ?_) (fun c5 => ?_)
    · replace H := H.2 c5
      refine ew_iconst dX1_named_171 (inI_of rfl) ?_
      refine ew_istore dX1_named_172 (by decide) (lv' := [(7, aI (-1)), (0, aR (some xT)), (1, aI x1), (4, aL x4), (6, aI x6)]) rfl ?_
      refine ew_sub (List.forall_mem_cons.mpr ⟨lm1, (List.forall_mem_cons.mpr ⟨lm2, (List.forall_mem_cons.mpr ⟨lm3, (List.forall_mem_cons.mpr ⟨lm4, (List.forall_mem_cons.mpr ⟨lm0, e_nm⟩)⟩)⟩)⟩)⟩) ?_
      refine ew_iload dX1_named_174 lm4 ?_
      refine ew_iconst dX1_named_176 (inI_of rfl) ?_
      refine ew_icmp_ne (tgt := 188) dX1_named_177 (by decide) (fun c => False.elim (by revert c; decide)) (fun _ => ?_)
      exact ew_throwN (d := d + 0) rfl rfl dX1_named_180 dX1_named_183 dX1_named_184 dX1_named_187 (Or.inr ⟨rfl, rfl, H⟩) (Nat.le_of_ble_eq_true rfl) (Nat.le_of_ble_eq_true rfl)
    · replace H := H.1 c5
      refine ew_lload dX1_named_152 lm2 ?_
      refine ew_lconst (v := 0) dX1_named_154 (inL_of rfl) (by decide) ?_
      refine ew_lcmp dX1_named_155 ?_
      refine ew_if_eq (tgt := 171) dX1_named_156 (by decide) (fun c7 => ?_) (fun c7 => ?_)
      · replace H := H.1 (jl_eq.mp c7)
        refine ew_iconst dX1_named_171 (inI_of rfl) ?_
        refine ew_istore dX1_named_172 (by decide) (lv' := [(7, aI (-1)), (0, aR (some xT)), (1, aI x1), (4, aL x4), (6, aI x6)]) rfl ?_
        refine ew_sub (List.forall_mem_cons.mpr ⟨lm1, (List.forall_mem_cons.mpr ⟨lm2, (List.forall_mem_cons.mpr ⟨lm3, (List.forall_mem_cons.mpr ⟨lm4, (List.forall_mem_cons.mpr ⟨lm0, e_nm⟩)⟩)⟩)⟩)⟩) ?_
        refine ew_iload dX1_named_174 lm4 ?_
        refine ew_iconst dX1_named_176 (inI_of rfl) ?_
        refine ew_icmp_ne (tgt := 188) dX1_named_177 (by decide) (fun c => False.elim (by revert c; decide)) (fun _ => ?_)
        exact ew_throwN (d := d + 0) rfl rfl dX1_named_180 dX1_named_183 dX1_named_184 dX1_named_187 (Or.inr ⟨rfl, rfl, H⟩) (Nat.le_of_ble_eq_true rfl) (Nat.le_of_ble_eq_true rfl)
      · replace H := H.2 (fun z => c7 (jl_eq.mpr z))
        refine ew_aload_n dX1_named_159 rfl lm0 ?_
        refine xw_get (v := aR (some (bI V 1 0))) dX1_named_160 (e_fl.a q333) xf_5 rfl ?_
        refine ew_lload dX1_named_163 lm2 ?_
        refine ew_callV (d := d + 5) (as := [aL x4]) rfl dX1_named_165 me_X2_term rfl (ci := 2) rfl rfl (xh_of (xC_b (by omega))) (Or.inl q1397) q706 q707 (Nat.le_of_ble_eq_true rfl) (Nat.zero_le _) (Nat.zero_le _) (S_X2_term (d := d + 2) H) (fun o h' hq11 _ => ?_) (fun E i h' q _ => (cQ_no q).elim)
        obtain ⟨r9, E12, rfl, H⟩ := hq11
        cases E12
        refine ew_goto (tgt := 172) dX1_named_168 (by decide) ?_
        refine ew_istore dX1_named_172 (by decide) (lv' := [(7, aI r9), (0, aR (some xT)), (1, aI x1), (4, aL x4), (6, aI x6)]) rfl ?_
        refine ew_sub (List.forall_mem_cons.mpr ⟨lm1, (List.forall_mem_cons.mpr ⟨lm2, (List.forall_mem_cons.mpr ⟨lm3, (List.forall_mem_cons.mpr ⟨lm4, (List.forall_mem_cons.mpr ⟨lm0, e_nm⟩)⟩)⟩)⟩)⟩) ?_
        refine ew_iload dX1_named_174 lm4 ?_
        refine ew_iconst dX1_named_176 (inI_of rfl) ?_
        refine ew_icmp_ne (tgt := 188) dX1_named_177 (by decide) (fun c13 => ?_) (fun c13 => ?_)
        · replace H := H.2 c13
          refine ew_iload dX1_named_188 lm4 ?_
          exact ew_ret (o := some (aI r9)) rfl (Or.inl ⟨_, rfl, rfl, H⟩) ⟨dX1_named_190, .int, rfl, Or.inl rfl, rfl⟩
        · replace H := H.1 c13
          exact ew_throwN (d := d + 0) rfl rfl dX1_named_180 dX1_named_183 dX1_named_184 dX1_named_187 (Or.inr ⟨rfl, rfl, H⟩) (Nat.le_of_ble_eq_true rfl) (Nat.le_of_ble_eq_true rfl)
  · replace H := H.2 c4
    refine ew_iload dX1_named_122 lm3 ?_
    refine ew_iload_n dX1_named_124 rfl lm1 ?_
    refine ew_icmp_ge (tgt := 146) dX1_named_125 (by decide) (fun c14 => ?_) (fun c14 => ?_)
    · replace H := H.1 c14
      refine ew_iload dX1_named_146 lm3 ?_
      refine ew_iload_n dX1_named_148 rfl lm1 ?_
      refine ew_icmp_ne (tgt := 171) dX1_named_149 (by decide) (fun c15 => ?_) (fun c15 => ?_)
      · replace H := H.2 c15
        refine ew_iconst dX1_named_171 (inI_of rfl) ?_
        refine ew_istore dX1_named_172 (by decide) (lv' := [(7, aI (-1)), (0, aR (some xT)), (1, aI x1), (4, aL x4), (6, aI x6)]) rfl ?_
        refine ew_sub (List.forall_mem_cons.mpr ⟨lm1, (List.forall_mem_cons.mpr ⟨lm2, (List.forall_mem_cons.mpr ⟨lm3, (List.forall_mem_cons.mpr ⟨lm4, (List.forall_mem_cons.mpr ⟨lm0, e_nm⟩)⟩)⟩)⟩)⟩) ?_
        refine ew_iload dX1_named_174 lm4 ?_
        refine ew_iconst dX1_named_176 (inI_of rfl) ?_
        refine ew_icmp_ne (tgt := 188) dX1_named_177 (by decide) (fun c => False.elim (by revert c; decide)) (fun _ => ?_)
        exact ew_throwN (d := d + 0) rfl rfl dX1_named_180 dX1_named_183 dX1_named_184 dX1_named_187 (Or.inr ⟨rfl, rfl, H⟩) (Nat.le_of_ble_eq_true rfl) (Nat.le_of_ble_eq_true rfl)
      · replace H := H.1 c15
        refine ew_lload dX1_named_152 lm2 ?_
        refine ew_lconst (v := 0) dX1_named_154 (inL_of rfl) (by decide) ?_
        refine ew_lcmp dX1_named_155 ?_
        refine ew_if_eq (tgt := 171) dX1_named_156 (by decide) (fun c17 => ?_) (fun c17 => ?_)
        · replace H := H.1 (jl_eq.mp c17)
          refine ew_iconst dX1_named_171 (inI_of rfl) ?_
          refine ew_istore dX1_named_172 (by decide) (lv' := [(7, aI (-1)), (0, aR (some xT)), (1, aI x1), (4, aL x4), (6, aI x6)]) rfl ?_
          refine ew_sub (List.forall_mem_cons.mpr ⟨lm1, (List.forall_mem_cons.mpr ⟨lm2, (List.forall_mem_cons.mpr ⟨lm3, (List.forall_mem_cons.mpr ⟨lm4, (List.forall_mem_cons.mpr ⟨lm0, e_nm⟩)⟩)⟩)⟩)⟩) ?_
          refine ew_iload dX1_named_174 lm4 ?_
          refine ew_iconst dX1_named_176 (inI_of rfl) ?_
          refine ew_icmp_ne (tgt := 188) dX1_named_177 (by decide) (fun c => False.elim (by revert c; decide)) (fun _ => ?_)
          exact ew_throwN (d := d + 0) rfl rfl dX1_named_180 dX1_named_183 dX1_named_184 dX1_named_187 (Or.inr ⟨rfl, rfl, H⟩) (Nat.le_of_ble_eq_true rfl) (Nat.le_of_ble_eq_true rfl)
        · replace H := H.2 (fun z => c17 (jl_eq.mpr z))
          refine ew_aload_n dX1_named_159 rfl lm0 ?_
          refine xw_get (v := aR (some (bI V 1 0))) dX1_named_160 (e_fl.a q333) xf_5 rfl ?_
          refine ew_lload dX1_named_163 lm2 ?_
          refine ew_callV (d := d + 5) (as := [aL x4]) rfl dX1_named_165 me_X2_term rfl (ci := 2) rfl rfl (xh_of (xC_b (by omega))) (Or.inl q1397) q706 q707 (Nat.le_of_ble_eq_true rfl) (Nat.zero_le _) (Nat.zero_le _) (S_X2_term (d := d + 2) H) (fun o h' hq21 _ => ?_) (fun E i h' q _ => (cQ_no q).elim)
          obtain ⟨r19, E22, rfl, H⟩ := hq21
          cases E22
          refine ew_goto (tgt := 172) dX1_named_168 (by decide) ?_
          refine ew_istore dX1_named_172 (by decide) (lv' := [(7, aI r19), (0, aR (some xT)), (1, aI x1), (4, aL x4), (6, aI x6)]) rfl ?_
          refine ew_sub (List.forall_mem_cons.mpr ⟨lm1, (List.forall_mem_cons.mpr ⟨lm2, (List.forall_mem_cons.mpr ⟨lm3, (List.forall_mem_cons.mpr ⟨lm4, (List.forall_mem_cons.mpr ⟨lm0, e_nm⟩)⟩)⟩)⟩)⟩) ?_
          refine ew_iload dX1_named_174 lm4 ?_
          refine ew_iconst dX1_named_176 (inI_of rfl) ?_
          refine ew_icmp_ne (tgt := 188) dX1_named_177 (by decide) (fun c23 => ?_) (fun c23 => ?_)
          · replace H := H.2 c23
            refine ew_iload dX1_named_188 lm4 ?_
            exact ew_ret (o := some (aI r19)) rfl (Or.inl ⟨_, rfl, rfl, H⟩) ⟨dX1_named_190, .int, rfl, Or.inl rfl, rfl⟩
          · replace H := H.1 c23
            exact ew_throwN (d := d + 0) rfl rfl dX1_named_180 dX1_named_183 dX1_named_184 dX1_named_187 (Or.inr ⟨rfl, rfl, H⟩) (Nat.le_of_ble_eq_true rfl) (Nat.le_of_ble_eq_true rfl)
    · replace H := H.2 c14
      refine ew_aload_n dX1_named_128 rfl lm0 ?_
      refine xw_get (v := aR (some (0, 2, 2))) dX1_named_129 (e_fl.a q330) xf_2 rfl ?_
      refine ew_iload dX1_named_132 lm3 ?_
      obtain ⟨v24, H⟩ := H
      refine xw_bald dX1_named_134 rfl (Or.inr rfl) v24.1 v24.2 ?_
      refine ew_bipush dX1_named_135 (inI_of rfl) (by decide) ?_
      refine ew_icmp_ne (tgt := 146) dX1_named_137 (by decide) (fun c25 => ?_) (fun c25 => ?_)
      · replace H := H.2 c25
        refine ew_iload dX1_named_146 lm3 ?_
        refine ew_iload_n dX1_named_148 rfl lm1 ?_
        refine ew_icmp_ne (tgt := 171) dX1_named_149 (by decide) (fun c26 => ?_) (fun c26 => ?_)
        · replace H := H.2 c26
          refine ew_iconst dX1_named_171 (inI_of rfl) ?_
          refine ew_istore dX1_named_172 (by decide) (lv' := [(7, aI (-1)), (0, aR (some xT)), (1, aI x1), (4, aL x4), (6, aI x6)]) rfl ?_
          refine ew_sub (List.forall_mem_cons.mpr ⟨lm1, (List.forall_mem_cons.mpr ⟨lm2, (List.forall_mem_cons.mpr ⟨lm3, (List.forall_mem_cons.mpr ⟨lm4, (List.forall_mem_cons.mpr ⟨lm0, e_nm⟩)⟩)⟩)⟩)⟩) ?_
          refine ew_iload dX1_named_174 lm4 ?_
          refine ew_iconst dX1_named_176 (inI_of rfl) ?_
          refine ew_icmp_ne (tgt := 188) dX1_named_177 (by decide) (fun c => False.elim (by revert c; decide)) (fun _ => ?_)
          exact ew_throwN (d := d + 0) rfl rfl dX1_named_180 dX1_named_183 dX1_named_184 dX1_named_187 (Or.inr ⟨rfl, rfl, H⟩) (Nat.le_of_ble_eq_true rfl) (Nat.le_of_ble_eq_true rfl)
        · replace H := H.1 c26
          refine ew_lload dX1_named_152 lm2 ?_
          refine ew_lconst (v := 0) dX1_named_154 (inL_of rfl) (by decide) ?_
          refine ew_lcmp dX1_named_155 ?_
          refine ew_if_eq (tgt := 171) dX1_named_156 (by decide) (fun c28 => ?_) (fun c28 => ?_)
          · replace H := H.1 (jl_eq.mp c28)
            refine ew_iconst dX1_named_171 (inI_of rfl) ?_
            refine ew_istore dX1_named_172 (by decide) (lv' := [(7, aI (-1)), (0, aR (some xT)), (1, aI x1), (4, aL x4), (6, aI x6)]) rfl ?_
            refine ew_sub (List.forall_mem_cons.mpr ⟨lm1, (List.forall_mem_cons.mpr ⟨lm2, (List.forall_mem_cons.mpr ⟨lm3, (List.forall_mem_cons.mpr ⟨lm4, (List.forall_mem_cons.mpr ⟨lm0, e_nm⟩)⟩)⟩)⟩)⟩) ?_
            refine ew_iload dX1_named_174 lm4 ?_
            refine ew_iconst dX1_named_176 (inI_of rfl) ?_
            refine ew_icmp_ne (tgt := 188) dX1_named_177 (by decide) (fun c => False.elim (by revert c; decide)) (fun _ => ?_)
            exact ew_throwN (d := d + 0) rfl rfl dX1_named_180 dX1_named_183 dX1_named_184 dX1_named_187 (Or.inr ⟨rfl, rfl, H⟩) (Nat.le_of_ble_eq_true rfl) (Nat.le_of_ble_eq_true rfl)
          · replace H := H.2 (fun z => c28 (jl_eq.mpr z))
            refine ew_aload_n dX1_named_159 rfl lm0 ?_
            refine xw_get (v := aR (some (bI V 1 0))) dX1_named_160 (e_fl.a q333) xf_5 rfl ?_
            refine ew_lload dX1_named_163 lm2 ?_
            refine ew_callV (d := d + 5) (as := [aL x4]) rfl dX1_named_165 me_X2_term rfl (ci := 2) rfl rfl (xh_of (xC_b (by omega))) (Or.inl q1397) q706 q707 (Nat.le_of_ble_eq_true rfl) (Nat.zero_le _) (Nat.zero_le _) (S_X2_term (d := d + 2) H) (fun o h' hq32 _ => ?_) (fun E i h' q _ => (cQ_no q).elim)
            obtain ⟨r30, E33, rfl, H⟩ := hq32
            cases E33
            refine ew_goto (tgt := 172) dX1_named_168 (by decide) ?_
            refine ew_istore dX1_named_172 (by decide) (lv' := [(7, aI r30), (0, aR (some xT)), (1, aI x1), (4, aL x4), (6, aI x6)]) rfl ?_
            refine ew_sub (List.forall_mem_cons.mpr ⟨lm1, (List.forall_mem_cons.mpr ⟨lm2, (List.forall_mem_cons.mpr ⟨lm3, (List.forall_mem_cons.mpr ⟨lm4, (List.forall_mem_cons.mpr ⟨lm0, e_nm⟩)⟩)⟩)⟩)⟩) ?_
            refine ew_iload dX1_named_174 lm4 ?_
            refine ew_iconst dX1_named_176 (inI_of rfl) ?_
            refine ew_icmp_ne (tgt := 188) dX1_named_177 (by decide) (fun c34 => ?_) (fun c34 => ?_)
            · replace H := H.2 c34
              refine ew_iload dX1_named_188 lm4 ?_
              exact ew_ret (o := some (aI r30)) rfl (Or.inl ⟨_, rfl, rfl, H⟩) ⟨dX1_named_190, .int, rfl, Or.inl rfl, rfl⟩
            · replace H := H.1 c34
              exact ew_throwN (d := d + 0) rfl rfl dX1_named_180 dX1_named_183 dX1_named_184 dX1_named_187 (Or.inr ⟨rfl, rfl, H⟩) (Nat.le_of_ble_eq_true rfl) (Nat.le_of_ble_eq_true rfl)
      · replace H := H.1 c25
        obtain ⟨v35, H⟩ := H
        refine ew_iinc dX1_named_140 lm3 (by decide) v35 (lv' := [(6, aI (x6 + 1)), (0, aR (some xT)), (1, aI x1), (4, aL x4)]) rfl ?_
        refine ew_sub (List.forall_mem_cons.mpr ⟨lm1, (List.forall_mem_cons.mpr ⟨lm2, (List.forall_mem_cons.mpr ⟨lm3, (List.forall_mem_cons.mpr ⟨lm0, e_nm⟩)⟩)⟩)⟩) ?_
        refine ew_goto (tgt := 110) dX1_named_143 (by decide) ?_
        exact ew_room (Nat.le_refl _) (Nat.le_of_ble_eq_true rfl) (Nat.le_of_ble_eq_true rfl) (ew_sub (List.forall_mem_cons.mpr ⟨lm0, (List.forall_mem_cons.mpr ⟨lm1, (List.forall_mem_cons.mpr ⟨lm2, (List.forall_mem_cons.mpr ⟨lm3, e_nm⟩)⟩)⟩)⟩) H)
set_option maxHeartbeats 4000000 in
theorem T_X1_named_E (d : Nat) (V : XV) (g : AH) (K : Int → Prop) (KX : Prop) (a : Int) (s0 : XS) (H : B_X1_named_E (W_X1_named_2 d V g s0 K KX) (W_X1_named_41 d V g s0 K KX) (W_X1_named_110 d V g s0 K KX) K KX a s0) : EW mm_X1_named (d + 6) 1 6 (cQx (xh V s0 g) K KX) 0 [(0, aR (some xT)), (1, aI a)] [] (xh V s0 g) := by
  refine ew_iconst dX1_named_0 (inI_of rfl) ?_
  refine ew_istore_n dX1_named_1 rfl (by decide) (lv' := [(2, aI 0), (0, aR (some xT)), (1, aI a)]) rfl ?_
  refine ew_sub (List.forall_mem_cons.mpr ⟨lm1, (List.forall_mem_cons.mpr ⟨lm2, (List.forall_mem_cons.mpr ⟨lm0, e_nm⟩)⟩)⟩) ?_
  exact ew_room (Nat.le_refl _) (Nat.le_of_ble_eq_true rfl) (Nat.le_of_ble_eq_true rfl) (ew_sub (List.forall_mem_cons.mpr ⟨lm0, (List.forall_mem_cons.mpr ⟨lm1, (List.forall_mem_cons.mpr ⟨lm2, e_nm⟩)⟩)⟩) H)
def C_X1_named (a : Int) (s0 : XS) (K : Int → Prop) (KX : Prop) : Prop := ∀ (X2 : Int → Int → Prop) (X41 : Int → Int → Int → Int → Prop) (X110 : Int → Int → Int → Prop), (∀ (x1 : Int) (x2 : Int), B_X1_named_2 X2 X41 X110 K KX x1 x2 s0 → X2 x1 x2) → (∀ (x1 : Int) (x2 : Int) (x3 : Int) (x4 : Int), B_X1_named_41 X2 X41 X110 K KX x1 x2 x3 x4 s0 → X41 x1 x2 x3 x4) → (∀ (x1 : Int) (x4 : Int) (x6 : Int), B_X1_named_110 X2 X41 X110 K KX x1 x4 x6 s0 → X110 x1 x4 x6) → B_X1_named_E X2 X41 X110 K KX a s0
theorem S_X1_named {d : Nat} {V : XV} {g : AH} {K : Int → Prop} {KX : Prop} {a : Int} {s0 : XS} (H : C_X1_named a s0 K KX) : Sp mm_X1_named (d + 6) 1 6 [aR (some xT), aI a] (xh V s0 g) (cQx (xh V s0 g) K KX) :=
  ew_sp rfl (Nat.le_of_ble_eq_true rfl) (T_X1_named_E d V g K KX a s0 (H _ _ _ (fun x1 x2 H => T_X1_named_2 d V g K KX x1 x2 s0 H) (fun x1 x2 x3 x4 H => T_X1_named_41 d V g K KX x1 x2 x3 x4 s0 H) (fun x1 x4 x6 H => T_X1_named_110 d V g K KX x1 x4 x6 s0 H)))
