/-! ReasonCloser.text: its loops, by program (gen/gxw.py) -/
set_option maxRecDepth 100000
abbrev mm_X1_text : EM := (yX1_text, cX1_text, 4, (Option.some .int), [(28, 44, 47, 114)])
def B_X1_text_139 (X139 : Int → Nat → Nat → XS → Prop) (X227 : Int → Nat → Nat → XS → Prop) (K : Int → XS → Prop) (x2 : Int) (kc ks : Nat) (s0 : XS) : Prop :=
  (((if x2 = s0.1.1 34 then (0 : Int) else 1) = 0 → X227 0 kc ks s0) ∧ (¬ (if x2 = s0.1.1 34 then (0 : Int) else 1) = 0 → (((0 ≤ x2 ∧ x2 < s0.1.1 34) ∧ xok s0 4) ∧ ((-128 ≤ (s0.1.2 44 x2) ∧ (s0.1.2 44 x2) < 128) ∧ (((s0.1.2 44 x2) + 128).toNat < 256 ∧ (C_J15_intValue (s0.1.2 44 x2) (fun r4 => ((r4 = (-1) → (∃ mc25c mc25s, mc25c ≤ kc ∧ mc25s ≤ ks ∧ C_X4_comes_N mc25c mc25s s0 (fun s22 => (s22.1.1 74 = s0.1.1 74 ∧ X139 (x2 + 1) (kc - mc25c) (ks - mc25s) s22)))) ∧ (¬ r4 = (-1) → (((0 ≤ r4 ∧ r4 < s0.1.1 32) ∧ xok s0 2) ∧ ((0 ≤ r4 ∧ r4 < s0.1.1 42) ∧ ((0 ≤ r4 ∧ r4 < s0.1.1 42) ∧ (((0 ≤ r4 ∧ r4 < s0.1.1 32) ∧ xok s0 2) ∧ ((0 ≤ r4 ∧ r4 < s0.1.1 42) ∧ ((0 ≤ r4 ∧ r4 < s0.1.1 42) ∧ (∃ mc18c mc18s, mc18c ≤ kc ∧ mc18s ≤ ks ∧ C_X4_same_N mc18c mc18s (s0.1.2 40 r4) (s0.1.2 41 r4) r4 s0 (fun s15 => (s15.1.1 74 = s0.1.1 74 ∧ X139 (x2 + 1) (kc - mc18c) (ks - mc18s) s15))))))))))))))))))
def B_X1_text_227 (X139 : Int → Nat → Nat → XS → Prop) (X227 : Int → Nat → Nat → XS → Prop) (K : Int → XS → Prop) (x2 : Int) (kc ks : Nat) (s0 : XS) : Prop :=
  (((s0.1.1 31) ≤ x2 → (∀ s2 : XS, s2 = xs s0 12 0 → (C_X1_fine (s2.1.1 31) s2 (fun r5 s6 => K r5 s6)))) ∧ (¬ (s0.1.1 31) ≤ x2 → (C_X4_comes_P 2 s0 (fun s10 => (inI (x2 + 1) ∧ X227 (x2 + 1) kc ks s10)))))
def B_X1_text_E (X139 : Int → Nat → Nat → XS → Prop) (X227 : Int → Nat → Nat → XS → Prop) (K : Int → XS → Prop) (kc ks : Nat) (s0 : XS) : Prop :=
  X139 0 kc ks s0
def W_X1_text_139 (d : Nat) (V : XV) (g : AH) (K : Int → XS → Prop) (x2 : Int) (kc ks : Nat) (s0 : XS) : Prop := EW mm_X1_text (d + 48) kc ks (tQi V g K) 139 [(0, aR (some xT)), (2, aR (some (1, 48, 0)))] [] (xh V s0 (hup g (1, 48, 0) (itc V 4 x2 (s0.1.1 74))))
def W_X1_text_227 (d : Nat) (V : XV) (g : AH) (K : Int → XS → Prop) (x2 : Int) (kc ks : Nat) (s0 : XS) : Prop := ∀ g1, eX g g1 → EW mm_X1_text (d + 48) kc ks (tQi V g K) 227 [(0, aR (some xT)), (2, aI x2)] [] (xh V s0 g1)
set_option maxHeartbeats 4000000 in
theorem T_X1_text_139 (d : Nat) (V : XV) (g : AH) (hg : xf 48 g) (hr : xfree V g) (K : Int → XS → Prop) (x2 : Int) (kc ks : Nat) (s0 : XS) (H : B_X1_text_139 (W_X1_text_139 d V g K) (W_X1_text_227 d V g K) K x2 kc ks s0) : EW mm_X1_text (d + 48) kc ks (tQi V g K) 139 [(0, aR (some xT)), (2, aR (some (1, 48, 0)))] [] (xh V s0 (hup g (1, 48, 0) (itc V 4 x2 (s0.1.1 74)))) := by
  refine ew_aload_n dX1_text_139 rfl lm1 ?_
  refine iw_has (d := d + 47) (j := 4) dX1_text_140 (by decide) q902 rfl (hup_self _ _ _) rfl (Nat.le_of_ble_eq_true rfl) ?_
  refine ew_if_eq (tgt := 225) dX1_text_145 (by decide) (fun c1 => ?_) (fun c1 => ?_)
  · replace H := H.1 c1
    refine ew_iconst dX1_text_225 (inI_of rfl) ?_
    refine ew_istore_n dX1_text_226 rfl (by decide) (lv' := [(2, aI 0), (0, aR (some xT))]) rfl ?_
    refine ew_sub (List.forall_mem_cons.mpr ⟨lm1, (List.forall_mem_cons.mpr ⟨lm0, e_nm⟩)⟩) ?_
    exact ew_sub (List.forall_mem_cons.mpr ⟨lm0, (List.forall_mem_cons.mpr ⟨lm1, e_nm⟩)⟩) (H _ (eX.hup eX.rf rfl (hg _ rfl (Nat.le_refl _))))
  · replace H := H.2 c1
    refine ew_aload_n dX1_text_148 rfl lm1 ?_
    obtain ⟨v2, H⟩ := H
    refine iw_next (d := d + 46) (j := 4) dX1_text_149 (by decide) q912 rfl (hup_self _ _ _) rfl v2.1 v2.2 (Nat.le_of_ble_eq_true rfl) ?_
    rw [hup_hup, show xel V s0.1 4 x2 = (9, 12, (s0.1.2 44 x2 + 128).toNat) from rfl]
    obtain ⟨v3, H⟩ := H
    refine ew_castI dX1_text_154 (by omega) q947 ?_
    obtain ⟨hx28, H⟩ := H
    refine ew_callVi hx28 (d := d + 47) (as := []) rfl dX1_text_157 me_J15_intValue rfl rfl q948 q949 q950 (Nat.le_of_ble_eq_true rfl) (Nat.zero_le _) (Nat.zero_le _) (S_J15_intValue (d := d + 47) H) (fun o h' hq5 _ => ?_) (fun E i h' q _ => (cQ_no q).elim)
    obtain ⟨r4, E6, rfl, H⟩ := hq5
    cases E6
    refine ew_istore_n dX1_text_160 rfl (by decide) (lv' := [(3, aI r4), (0, aR (some xT)), (2, aR (some (1, 48, 0)))]) rfl ?_
    refine ew_sub (List.forall_mem_cons.mpr ⟨lm1, (List.forall_mem_cons.mpr ⟨lm2, (List.forall_mem_cons.mpr ⟨lm0, e_nm⟩)⟩)⟩) ?_
    refine ew_iload_n dX1_text_161 rfl lm2 ?_
    refine ew_iconst dX1_text_162 (inI_of rfl) ?_
    refine ew_icmp_ne (tgt := 176) dX1_text_163 (by decide) (fun c7 => ?_) (fun c7 => ?_)
    · replace H := H.2 c7
      refine ew_aload_n dX1_text_176 rfl lm0 ?_
      refine xw_get (v := aR (some (sI V 4 99))) dX1_text_177 (e_fl.a q334) xf_6 rfl ?_
      refine ew_aload_n dX1_text_180 rfl lm0 ?_
      refine xw_get (v := aR (some (bI V 1 0))) dX1_text_181 (e_fl.a q333) xf_5 rfl ?_
      refine xw_book dX1_text_184 (e_fl.c q194) bf_2 ?_
      refine ew_iload_n dX1_text_187 rfl lm2 ?_
      obtain ⟨v8, H⟩ := H
      refine lw_g2 (d := d + 45) dX1_text_188 q1021 (Nat.le_of_ble_eq_true rfl) v8.1 v8.2 ?_
      obtain ⟨v9, H⟩ := H
      refine cs_cast (f := r4) dX1_text_193 q1022 v9 ?_
      obtain ⟨v10, H⟩ := H
      refine gs_0 (f := r4) dX1_text_196 (e_fl.c q865) sf_0 v10 ?_
      refine ew_aload_n dX1_text_199 rfl lm0 ?_
      refine xw_get (v := aR (some (bI V 1 0))) dX1_text_200 (e_fl.a q333) xf_5 rfl ?_
      refine xw_book dX1_text_203 (e_fl.c q194) bf_2 ?_
      refine ew_iload_n dX1_text_206 rfl lm2 ?_
      obtain ⟨v11, H⟩ := H
      refine lw_g2 (d := d + 45) dX1_text_207 q1021 (Nat.le_of_ble_eq_true rfl) v11.1 v11.2 ?_
      obtain ⟨v12, H⟩ := H
      refine cs_cast (f := r4) dX1_text_212 q1022 v12 ?_
      obtain ⟨v13, H⟩ := H
      refine gs_1 (f := r4) dX1_text_215 (e_fl.c q867) sf_1 v13 ?_
      refine ew_iload_n dX1_text_218 rfl lm2 ?_
      obtain ⟨mc18c, mc18s, hm19c, hm19s, H⟩ := H
      refine ew_callY (x := ⟨"ReasonCloser$Reasons", "same", "(III)V"⟩) (d := d + 47) (as := [aI (s0.1.2 40 r4), aI (s0.1.2 41 r4), aI r4]) rfl dX1_text_219 me_X4_same rfl (by decide) rfl q1023 q1024 (ysel5_4 (P := fun c => Cond.selects c _ _ ∈ lw_all) q1026) q1027 (Or.inl q1025) (by decide) (Nat.le_of_ble_eq_true rfl) hm19c hm19s (S_X4_same_N (d := d + 2) (ht_of (hr.hup rfl)) H) (fun o h' hq16 _ => ?_) (fun E i h' q _ => (xQv_no q).elim)
      obtain ⟨s15, E17, rfl, H⟩ := hq16
      cases E17
      refine ew_goto (tgt := 139) dX1_text_222 (by decide) ?_
      obtain ⟨v20, H⟩ := H
      rw [← v20]
      exact ew_sub (List.forall_mem_cons.mpr ⟨lm0, (List.forall_mem_cons.mpr ⟨lm1, e_nm⟩)⟩) H
    · replace H := H.1 c7
      refine ew_aload_n dX1_text_166 rfl lm0 ?_
      refine xw_get (v := aR (some (sI V 4 99))) dX1_text_167 (e_fl.a q334) xf_6 rfl ?_
      obtain ⟨mc25c, mc25s, hm26c, hm26s, H⟩ := H
      refine ew_callY (x := ⟨"ReasonCloser$Reasons", "comes", "()V"⟩) (d := d + 47) (as := []) rfl dX1_text_170 me_X4_comes rfl (by decide) rfl q952 q953 (ysel5_4 (P := fun c => Cond.selects c _ _ ∈ lw_all) q955) q956 (Or.inl q954) (by decide) (Nat.le_of_ble_eq_true rfl) hm26c hm26s (S_X4_comes_N (d := d + 2) (ht_of (hr.hup rfl)) H) (fun o h' hq23 _ => ?_) (fun E i h' q _ => (xQv_no q).elim)
      obtain ⟨s22, E24, rfl, H⟩ := hq23
      cases E24
      refine ew_goto (tgt := 222) dX1_text_173 (by decide) ?_
      refine ew_goto (tgt := 139) dX1_text_222 (by decide) ?_
      obtain ⟨v27, H⟩ := H
      rw [← v27]
      exact ew_sub (List.forall_mem_cons.mpr ⟨lm0, (List.forall_mem_cons.mpr ⟨lm1, e_nm⟩)⟩) H
set_option maxHeartbeats 4000000 in
theorem T_X1_text_227 (d : Nat) (V : XV) (g : AH) (hg : xf 48 g) (hr : xfree V g) (K : Int → XS → Prop) (x2 : Int) (kc ks : Nat) (s0 : XS) (g1 : AH) (hx : eX g g1) (H : B_X1_text_227 (W_X1_text_139 d V g K) (W_X1_text_227 d V g K) K x2 kc ks s0) : EW mm_X1_text (d + 48) kc ks (tQi V g K) 227 [(0, aR (some xT)), (2, aI x2)] [] (xh V s0 g1) := by
  refine ew_iload_n dX1_text_227 rfl lm1 ?_
  refine ew_aload_n dX1_text_228 rfl lm0 ?_
  refine xw_get (v := aR (some (bI V 1 0))) dX1_text_229 (e_fl.a q333) xf_5 rfl ?_
  refine xw_book dX1_text_232 (e_fl.c q191) bf_1 ?_
  refine lw_size (d := d + 47) (j := 1) dX1_text_235 (by decide) q1030 (Nat.le_of_ble_eq_true rfl) ?_
  refine ew_icmp_ge (tgt := 256) dX1_text_240 (by decide) (fun c1 => ?_) (fun c1 => ?_)
  · replace H := H.1 c1
    refine ew_aload_n dX1_text_256 rfl lm0 ?_
    refine ew_iconst dX1_text_257 (inI_of rfl) ?_
    refine xw_put dX1_text_258 (e_fl.a q340) xf_12 rfl (by decide +kernel) (fun s2 e3 => ?_)
    replace H := H s2 e3
    refine ew_aload_n dX1_text_261 rfl lm0 ?_
    refine ew_aload_n dX1_text_262 rfl lm0 ?_
    refine xw_get (v := aR (some (bI V 1 0))) dX1_text_263 (e_fl.a q333) xf_5 rfl ?_
    refine xw_book dX1_text_266 (e_fl.c q191) bf_1 ?_
    refine lw_size (d := d + 47) (j := 1) dX1_text_269 (by decide) q1030 (Nat.le_of_ble_eq_true rfl) ?_
    refine ew_callV (d := d + 47) (as := [aI (s2.1.1 31)]) rfl dX1_text_274 me_X1_fine rfl (ci := 0) rfl rfl xh_x (Or.inl q1032) q1034 qs24 (Nat.le_of_ble_eq_true rfl) (Nat.zero_le _) (Nat.zero_le _) (S_X1_fine (d := d + 47) H) (fun o h' hq7 _ => ?_) (fun E i h' q _ => (xQi_no q).elim)
    obtain ⟨r5, s6, E8, rfl, H⟩ := hq7
    cases E8
    exact ew_ret (o := some (aI r5)) rfl ⟨_, _, _, rfl, rfl, hx, H⟩ ⟨dX1_text_277, .int, rfl, Or.inl rfl, rfl⟩
  · replace H := H.2 c1
    refine ew_aload_n dX1_text_243 rfl lm0 ?_
    refine xw_get (v := aR (some (sI V 2 99))) dX1_text_244 (e_fl.a q335) xf_7 rfl ?_
    refine ew_callY (x := ⟨"ReasonCloser$Closed", "comes", "()V"⟩) (d := d + 47) (as := []) rfl dX1_text_247 me_X4_comes rfl (by decide) rfl q1031 q1969 (ysel4_2 (P := fun c => Cond.selects c _ _ ∈ lw_all) q1970) q956 (Or.inl q954) (by decide) (Nat.le_of_ble_eq_true rfl) (Nat.zero_le _) (Nat.zero_le _) (S_X4_comes_P (d := d + 41) (by decide) H) (fun o h' hq11 _ => ?_) (fun E i h' q _ => (xQv_no q).elim)
    obtain ⟨s10, E12, rfl, H⟩ := hq11
    cases E12
    obtain ⟨v13, H⟩ := H
    refine ew_iinc dX1_text_250 lm1 (by decide) v13 (lv' := [(2, aI (x2 + 1)), (0, aR (some xT))]) rfl ?_
    refine ew_sub (List.forall_mem_cons.mpr ⟨lm1, (List.forall_mem_cons.mpr ⟨lm0, e_nm⟩)⟩) ?_
    refine ew_goto (tgt := 227) dX1_text_253 (by decide) ?_
    exact ew_sub (List.forall_mem_cons.mpr ⟨lm0, (List.forall_mem_cons.mpr ⟨lm1, e_nm⟩)⟩) (H _ hx)
def C_X1_textL (kc ks : Nat) (s0 : XS) (K : Int → XS → Prop) : Prop := ∀ (X139 : Int → Nat → Nat → XS → Prop) (X227 : Int → Nat → Nat → XS → Prop), (∀ (x2 : Int) (kc ks : Nat) (s0 : XS), B_X1_text_139 X139 X227 K x2 kc ks s0 → X139 x2 kc ks s0) → (∀ (x2 : Int) (kc ks : Nat) (s0 : XS), B_X1_text_227 X139 X227 K x2 kc ks s0 → X227 x2 kc ks s0) → B_X1_text_E X139 X227 K kc ks s0
