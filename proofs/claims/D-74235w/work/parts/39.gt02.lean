/-! The reader: methods that throw, by program (gen/gxt.py) -/
set_option maxRecDepth 100000
abbrev mm_X8_line : EM := (yX8_line, cX8_line, 4, (Option.none : Option Jvm.ClassFile.FieldType), [])
theorem me_X8_line : e_mth mm_X8_line 0 := ⟨rfl, q554, q118, by decide +kernel, by decide⟩
def B_X8_line_E (K : MS → Prop) (KX : Int → Int → Prop) (kc ks : Nat) (tp : Int → Int) (s0 : MS) : Prop :=
  (C_X8_isAny tp s0 (fun r1 => ((1 ≤ kc ∧ 8 ≤ ks) ∧ ((r1 = 0 → KX 1 (s0.1 3)) ∧ (¬ r1 = 0 → (C_X8_is 0 tp s0 (fun r7 => ((r7 = 0 → (C_X8_is 1 tp s0 (fun r13 => ((r13 = 0 → (C_X8_is 2 tp s0 (fun r19 => ((r19 = 0 → ((r19 = 0 → ((1 ≤ (kc - 1) ∧ 8 ≤ (ks - 8)) ∧ (C_X8_begin_3 8 tp s0 (fun s27 => ((2 ≤ ((kc - 1) - 1) ∧ 16 ≤ ((ks - 8) - 8)) ∧ (C_X8_term tp s27 (fun r31 s32 => ((s32.1 43 = s32.1 33 ∧ 1 ≤ (((kc - 1) - 1) - 2) ∧ 2 ≤ (((ks - 8) - 8) - 16)) ∧ ((2 ≤ ((((kc - 1) - 1) - 2) - 1) ∧ 16 ≤ ((((ks - 8) - 8) - 16) - 2)) ∧ (C_X8_term tp s32 (fun r37 s38 => ((s38.1 33 = s32.1 33 ∧ s38.1 43 = s38.1 33) ∧ (((bkc 3 s38 ∧ bkm 3 s38) ∧ 1 ≤ (((((kc - 1) - 1) - 2) - 1) - 2) ∧ al_N (xcap 3 (s38.1 53).toNat) ≤ (((((ks - 8) - 8) - 16) - 2) - 16)) ∧ ∀ s44 : MS, s44 = yf3 s38 r31 r37 → ((r19 = 0 → K s44) ∧ (¬ r19 = 0 → ((inI ((s44.1 33) - 1)) ∧ (C_J15_valueOf ((s44.1 33) - 1) (fun r48 => (((bkc 4 s44 ∧ bkv s44 ∧ (-128 ≤ r48 ∧ r48 < 128)) ∧ 1 ≤ ((((((kc - 1) - 1) - 2) - 1) - 2) - 1) ∧ al_N (xcap 4 (s44.1 54).toNat) ≤ ((((((ks - 8) - 8) - 16) - 2) - 16) - al_N (xcap 3 (s38.1 53).toNat))) ∧ ∀ s52 : MS, s52 = yf4 s44 r48 → K s52))))))))) KX)))) KX))) KX))) ∧ (¬ r19 = 0 → ((1 ≤ (kc - 1) ∧ 8 ≤ (ks - 8)) ∧ (C_X8_begin_3 12 tp s0 (fun s55 => ((2 ≤ ((kc - 1) - 1) ∧ 16 ≤ ((ks - 8) - 8)) ∧ (C_X8_term tp s55 (fun r59 s60 => ((s60.1 43 = s60.1 33 ∧ 1 ≤ (((kc - 1) - 1) - 2) ∧ 2 ≤ (((ks - 8) - 8) - 16)) ∧ ((2 ≤ ((((kc - 1) - 1) - 2) - 1) ∧ 16 ≤ ((((ks - 8) - 8) - 16) - 2)) ∧ (C_X8_term tp s60 (fun r65 s66 => ((s66.1 33 = s60.1 33 ∧ s66.1 43 = s66.1 33) ∧ (((bkc 3 s66 ∧ bkm 3 s66) ∧ 1 ≤ (((((kc - 1) - 1) - 2) - 1) - 2) ∧ al_N (xcap 3 (s66.1 53).toNat) ≤ (((((ks - 8) - 8) - 16) - 2) - 16)) ∧ ∀ s72 : MS, s72 = yf3 s66 r59 r65 → ((r19 = 0 → K s72) ∧ (¬ r19 = 0 → ((inI ((s72.1 33) - 1)) ∧ (C_J15_valueOf ((s72.1 33) - 1) (fun r76 => (((bkc 4 s72 ∧ bkv s72 ∧ (-128 ≤ r76 ∧ r76 < 128)) ∧ 1 ≤ ((((((kc - 1) - 1) - 2) - 1) - 2) - 1) ∧ al_N (xcap 4 (s72.1 54).toNat) ≤ ((((((ks - 8) - 8) - 16) - 2) - 16) - al_N (xcap 3 (s66.1 53).toNat))) ∧ ∀ s80 : MS, s80 = yf4 s72 r76 → K s80))))))))) KX)))) KX))) KX))))) ∧ (¬ r19 = 0 → ((r19 = 0 → ((1 ≤ (kc - 1) ∧ 8 ≤ (ks - 8)) ∧ (C_X8_begin_2 8 tp s0 (fun s84 => ((2 ≤ ((kc - 1) - 1) ∧ 16 ≤ ((ks - 8) - 8)) ∧ (C_X8_term tp s84 (fun r88 s89 => ((s89.1 42 = s89.1 32 ∧ 1 ≤ (((kc - 1) - 1) - 2) ∧ 2 ≤ (((ks - 8) - 8) - 16)) ∧ ((2 ≤ ((((kc - 1) - 1) - 2) - 1) ∧ 16 ≤ ((((ks - 8) - 8) - 16) - 2)) ∧ (C_X8_term tp s89 (fun r94 s95 => ((s95.1 32 = s89.1 32 ∧ s95.1 42 = s95.1 32) ∧ (((bkc 2 s95 ∧ bkm 2 s95) ∧ 1 ≤ (((((kc - 1) - 1) - 2) - 1) - 2) ∧ al_N (xcap 2 (s95.1 52).toNat) ≤ (((((ks - 8) - 8) - 16) - 2) - 16)) ∧ ∀ s101 : MS, s101 = yf2 s95 r88 r94 → ((r19 = 0 → K s101) ∧ (¬ r19 = 0 → ((inI ((s101.1 32) - 1)) ∧ (C_J15_valueOf ((s101.1 32) - 1) (fun r105 => (((bkc 4 s101 ∧ bkv s101 ∧ (-128 ≤ r105 ∧ r105 < 128)) ∧ 1 ≤ ((((((kc - 1) - 1) - 2) - 1) - 2) - 1) ∧ al_N (xcap 4 (s101.1 54).toNat) ≤ ((((((ks - 8) - 8) - 16) - 2) - 16) - al_N (xcap 2 (s95.1 52).toNat))) ∧ ∀ s109 : MS, s109 = yf4 s101 r105 → K s109))))))))) KX)))) KX))) KX))) ∧ (¬ r19 = 0 → ((1 ≤ (kc - 1) ∧ 8 ≤ (ks - 8)) ∧ (C_X8_begin_2 12 tp s0 (fun s112 => ((2 ≤ ((kc - 1) - 1) ∧ 16 ≤ ((ks - 8) - 8)) ∧ (C_X8_term tp s112 (fun r116 s117 => ((s117.1 42 = s117.1 32 ∧ 1 ≤ (((kc - 1) - 1) - 2) ∧ 2 ≤ (((ks - 8) - 8) - 16)) ∧ ((2 ≤ ((((kc - 1) - 1) - 2) - 1) ∧ 16 ≤ ((((ks - 8) - 8) - 16) - 2)) ∧ (C_X8_term tp s117 (fun r122 s123 => ((s123.1 32 = s117.1 32 ∧ s123.1 42 = s123.1 32) ∧ (((bkc 2 s123 ∧ bkm 2 s123) ∧ 1 ≤ (((((kc - 1) - 1) - 2) - 1) - 2) ∧ al_N (xcap 2 (s123.1 52).toNat) ≤ (((((ks - 8) - 8) - 16) - 2) - 16)) ∧ ∀ s129 : MS, s129 = yf2 s123 r116 r122 → ((r19 = 0 → K s129) ∧ (¬ r19 = 0 → ((inI ((s129.1 32) - 1)) ∧ (C_J15_valueOf ((s129.1 32) - 1) (fun r133 => (((bkc 4 s129 ∧ bkv s129 ∧ (-128 ≤ r133 ∧ r133 < 128)) ∧ 1 ≤ ((((((kc - 1) - 1) - 2) - 1) - 2) - 1) ∧ al_N (xcap 4 (s129.1 54).toNat) ≤ ((((((ks - 8) - 8) - 16) - 2) - 16) - al_N (xcap 2 (s123.1 52).toNat))) ∧ ∀ s137 : MS, s137 = yf4 s129 r133 → K s137))))))))) KX)))) KX))) KX))))))))) ∧ (¬ r13 = 0 → ((1 ≤ (kc - 1) ∧ 8 ≤ (ks - 8)) ∧ (C_X8_begin_1 24 tp s0 (fun s140 => ((2 ≤ ((kc - 1) - 1) ∧ 16 ≤ ((ks - 8) - 8)) ∧ (C_X8_fresh tp s140 (fun r144 s145 => ((1 ≤ (((kc - 1) - 1) - 2) ∧ 8 ≤ (((ks - 8) - 8) - 16)) ∧ (C_X8_pass 61 tp s145 (fun s150 => ((2 ≤ ((((kc - 1) - 1) - 2) - 1) ∧ 16 ≤ ((((ks - 8) - 8) - 16) - 8)) ∧ (C_X8_function tp s150 (fun r154 s155 => ((s155.1 41 = s155.1 31 ∧ 1 ≤ (((((kc - 1) - 1) - 2) - 1) - 2) ∧ 4 ≤ (((((ks - 8) - 8) - 16) - 8) - 16)) ∧ (((0 ≤ r154 ∧ r154 < s155.1 30) ∧ rok s155 0) ∧ ((0 ≤ r154 ∧ r154 < s155.1 40) ∧ (((0 ≤ r154 ∧ r154 < s155.1 30) ∧ rok s155 0) ∧ ((0 ≤ r154 ∧ r154 < s155.1 40) ∧ ((0 ≤ r154 ∧ r154 < s155.1 40) ∧ (∃ mc170c mc170s, mc170c ≤ ((((((kc - 1) - 1) - 2) - 1) - 2) - 1) ∧ mc170s ≤ ((((((ks - 8) - 8) - 16) - 8) - 16) - 4) ∧ (C_X8_parts mc170c mc170s tp (s155.1 31) (s155.2 31 r154) s155 (fun r165 s166 => ((s166.1 31 = s155.1 31 ∧ s166.1 41 = s166.1 31) ∧ (((bkc 1 s166 ∧ bkm 1 s166) ∧ 1 ≤ (((((((kc - 1) - 1) - 2) - 1) - 2) - 1) - mc170c) ∧ al_N (xcap 1 (s166.1 51).toNat) ≤ (((((((ks - 8) - 8) - 16) - 8) - 16) - 4) - mc170s)) ∧ ∀ s174 : MS, s174 = yf1 s166 r144 r154 (s155.2 31 r154) r165 → (C_J15_valueOf (-1) (fun r176 => (((bkc 4 s174 ∧ bkv s174 ∧ (-128 ≤ r176 ∧ r176 < 128)) ∧ 1 ≤ ((((((((kc - 1) - 1) - 2) - 1) - 2) - 1) - mc170c) - 1) ∧ al_N (xcap 4 (s174.1 54).toNat) ≤ ((((((((ks - 8) - 8) - 16) - 8) - 16) - 4) - mc170s) - al_N (xcap 1 (s166.1 51).toNat))) ∧ ∀ s180 : MS, s180 = yf4 s174 r176 → K s180)))))) KX))))))))) KX))) KX))) KX))) KX))))))) ∧ (¬ r7 = 0 → ((1 ≤ (kc - 1) ∧ 8 ≤ (ks - 8)) ∧ (C_X8_begin_0 8 tp s0 (fun s183 => ((2 ≤ ((kc - 1) - 1) ∧ 16 ≤ ((ks - 8) - 8)) ∧ (C_X8_fresh tp s183 (fun r187 s188 => (((s188.1 4) = 3 → ((1 ≤ (((kc - 1) - 1) - 2) ∧ 8 ≤ (((ks - 8) - 8) - 16)) ∧ ((3 < (s188.1 5) → ((1 ≤ ((((kc - 1) - 1) - 2) - 1) ∧ 8 ≤ ((((ks - 8) - 8) - 16) - 8)) ∧ KX 2 (s188.1 3))) ∧ (¬ 3 < (s188.1 5) → ((1 ≤ ((((kc - 1) - 1) - 2) - 1) ∧ 8 ≤ ((((ks - 8) - 8) - 16) - 8)) ∧ ((s188.1 40 = s188.1 30 ∧ 1 ≤ (((((kc - 1) - 1) - 2) - 1) - 1) ∧ 2 ≤ (((((ks - 8) - 8) - 16) - 8) - 8)) ∧ ((s188.1 40 = s188.1 30) ∧ (((bkc 0 s188 ∧ bkm 0 s188) ∧ 1 ≤ ((((((kc - 1) - 1) - 2) - 1) - 1) - 1) ∧ al_N (xcap 0 (s188.1 50).toNat) ≤ ((((((ks - 8) - 8) - 16) - 8) - 8) - 2)) ∧ ∀ s201 : MS, s201 = yf0 s188 r187 (s188.1 5) → (C_X8_go tp s201 (fun s204 => K s204)))))))))) ∧ (¬ (s188.1 4) = 3 → ((1 ≤ (((kc - 1) - 1) - 2) ∧ 8 ≤ (((ks - 8) - 8) - 16)) ∧ KX 1 (s188.1 3))))) KX))) KX)))))))))))
set_option maxHeartbeats 4000000 in
theorem T_X8_line_E (d : Nat) (V : XV) (g : AH) (tp : Int → Int) (hT : rtp tp g) (hf : g fI = none) (hr : rfr V g) (K : MS → Prop) (KX : Int → Int → Prop) (kc ks : Nat) (s0 : MS) (H : B_X8_line_E K KX kc ks tp s0) : EW mm_X8_line (d + 9) kc ks (rQv V g K KX) 0 [(0, aR (some rT))] [] (rh V s0 g) := by
  refine ew_aload_n dX8_line_0 rfl lm0 ?_
  refine ew_aload_n dX8_line_1 rfl lm0 ?_
  refine ew_getsN dX8_line_2 lm3 q555 ?_
  refine ew_callV (d := d + 8) (as := [aR (some (9, 16, 0))]) rfl dX8_line_5 me_X8_isAny rfl (ci := 6) rfl rfl rh_T (Or.inl q557) q559 qs7 (Nat.le_of_ble_eq_true rfl) (Nat.zero_le _) (Nat.zero_le _) (S_X8_isAny (d := d + 3) hT H) (fun o h' hq3 _ => ?_) (fun E i h' q _ => (cQ_no q).elim)
  obtain ⟨r1, E4, rfl, H⟩ := hq3
  cases E4
  refine ew_iconst dX8_line_8 (inI_of rfl) ?_
  obtain ⟨v6, H⟩ := H
  refine rd_need (d := d + 4) (KX := KX) dX8_line_9 q586 hf rfl (fun x h q => Or.inr q) (Nat.le_of_ble_eq_true rfl) v6.1 v6.2 H.1 (fun c208 => ?_)
  replace H := H.2 c208
  refine ew_aload_n dX8_line_12 rfl lm0 ?_
  refine ew_ldcS (i := 0) dX8_line_13 lm1 ?_
  refine ew_callV (d := d + 8) (as := [aR (some (9, 13, 0))]) rfl dX8_line_15 me_X8_is rfl (ci := 6) rfl rfl rh_T (Or.inl q561) q563 qs8 (Nat.le_of_ble_eq_true rfl) (Nat.zero_le _) (Nat.zero_le _) (S_X8_is (d := d + 4) hT H) (fun o h' hq9 _ => ?_) (fun E i h' q _ => (cQ_no q).elim)
  obtain ⟨r7, E10, rfl, H⟩ := hq9
  cases E10
  refine ew_if_eq (tgt := 107) dX8_line_18 (by decide) (fun c12 => ?_) (fun c12 => ?_)
  · replace H := H.1 c12
    refine ew_aload_n dX8_line_107 rfl lm0 ?_
    refine ew_ldcS (i := 1) dX8_line_108 lm2 ?_
    refine ew_callV (d := d + 8) (as := [aR (some (9, 13, 1))]) rfl dX8_line_110 me_X8_is rfl (ci := 6) rfl rfl rh_T (Or.inl q561) q563 qs8 (Nat.le_of_ble_eq_true rfl) (Nat.zero_le _) (Nat.zero_le _) (S_X8_is (d := d + 4) hT H) (fun o h' hq15 _ => ?_) (fun E i h' q _ => (cQ_no q).elim)
    obtain ⟨r13, E16, rfl, H⟩ := hq15
    cases E16
    refine ew_if_eq (tgt := 226) dX8_line_113 (by decide) (fun c18 => ?_) (fun c18 => ?_)
    · replace H := H.1 c18
      refine ew_aload_n dX8_line_226 rfl lm0 ?_
      refine ew_ldcS (i := 2) dX8_line_227 lm3 ?_
      refine ew_callV (d := d + 8) (as := [aR (some (9, 13, 2))]) rfl dX8_line_229 me_X8_is rfl (ci := 6) rfl rfl rh_T (Or.inl q561) q563 qs8 (Nat.le_of_ble_eq_true rfl) (Nat.zero_le _) (Nat.zero_le _) (S_X8_is (d := d + 4) hT H) (fun o h' hq21 _ => ?_) (fun E i h' q _ => (cQ_no q).elim)
      obtain ⟨r19, E22, rfl, H⟩ := hq21
      cases E22
      refine ew_istore_n dX8_line_232 rfl (by decide) (lv' := [(1, aI r19), (0, aR (some rT))]) rfl ?_
      refine ew_sub (List.forall_mem_cons.mpr ⟨lm1, (List.forall_mem_cons.mpr ⟨lm0, e_nm⟩)⟩) ?_
      refine ew_iload_n dX8_line_233 rfl lm1 ?_
      refine ew_if_eq (tgt := 247) dX8_line_234 (by decide) (fun c24 => ?_) (fun c24 => ?_)
      · replace H := H.1 c24
        refine ew_aload_n dX8_line_247 rfl lm0 ?_
        refine rd_get (v := aR (some (bI V 1 0))) dX8_line_248 (e_fl.a q419) rf_1 rfl ?_
        refine rxw_book dX8_line_251 (e_fl.c q198) bf_3 ?_
        refine ew_astore_n dX8_line_254 rfl (by decide) (lv' := [(2, aR (some (bI V 2 3))), (0, aR (some rT)), (1, aI r19)]) rfl ?_
        refine ew_sub (List.forall_mem_cons.mpr ⟨lm1, (List.forall_mem_cons.mpr ⟨lm2, (List.forall_mem_cons.mpr ⟨lm0, e_nm⟩)⟩)⟩) ?_
        refine ew_aload_n dX8_line_255 rfl lm0 ?_
        refine ew_aload_n dX8_line_256 rfl lm2 ?_
        refine ew_iload_n dX8_line_257 rfl lm1 ?_
        refine ew_if_eq (tgt := 266) dX8_line_258 (by decide) (fun c25 => ?_) (fun c25 => ?_)
        · replace H := H.1 c25
          refine ew_bipush dX8_line_266 (inI_of rfl) (by decide) ?_
          obtain ⟨v30, H⟩ := H
          refine ew_callV (d := d + 8) (as := [aR (some (bI V 2 3)), aI 8]) rfl dX8_line_268 me_X8_begin rfl (ci := 6) rfl rfl rh_T (Or.inl q659) q661 qs11 (Nat.le_of_ble_eq_true rfl) v30.1 v30.2 (S_X8_begin_3 (d := d + 3) hT hf H) (fun o h' hq28 _ => ?_) (fun E i h' q _ => ex_out (Or.inr (rQv_x q)) rfl)
          obtain ⟨s27, E29, rfl, H⟩ := rQv_n hq28
          cases E29
          refine ew_aload_n dX8_line_271 rfl lm0 ?_
          obtain ⟨v35, H⟩ := H
          refine ew_callV (d := d + 8) (as := []) rfl dX8_line_272 me_X8_term rfl (ci := 6) rfl rfl rh_T (Or.inl q810) q812 qs21 (Nat.le_of_ble_eq_true rfl) v35.1 v35.2 (S_X8_term (d := d + 1) hT hf H) (fun o h' hq33 _ => ?_) (fun E i h' q _ => ex_out (Or.inr (rQi_x q)) rfl)
          obtain ⟨r31, s32, E34, rfl, H⟩ := rQi_n hq33
          cases E34
          refine ew_istore_n dX8_line_275 rfl (by decide) (lv' := [(3, aI r31), (0, aR (some rT)), (1, aI r19), (2, aR (some (bI V 2 3)))]) rfl ?_
          refine ew_sub (List.forall_mem_cons.mpr ⟨lm1, (List.forall_mem_cons.mpr ⟨lm2, (List.forall_mem_cons.mpr ⟨lm3, (List.forall_mem_cons.mpr ⟨lm0, e_nm⟩)⟩)⟩)⟩) ?_
          refine ew_aload_n dX8_line_276 rfl lm2 ?_
          obtain ⟨v36, H⟩ := H
          refine bk_new10 bkH_r (Or.inr rfl) dX8_line_277 q858 (bC_none (j := 3) (by decide) (Int.toNat_le_toNat (Int.le_of_eq v36.1))) (hr _ _ (by decide)) v36.2.1 v36.2.2 ?_
          refine ew_dup dX8_line_280 rfl ?_
          refine ew_iload_n dX8_line_281 rfl lm3 ?_
          refine ew_aload_n dX8_line_282 rfl lm0 ?_
          obtain ⟨v41, H⟩ := H
          refine ew_callV (d := d + 8) (as := []) rfl dX8_line_283 me_X8_term rfl (ci := 6) rfl rfl rh_T (Or.inl q810) q812 qs21 (Nat.le_of_ble_eq_true rfl) v41.1 v41.2 (S_X8_term (d := d + 1) (rtp_b hT) (fI_b hf) H) (fun o h' hq39 _ => ?_) (fun E i h' q _ => ex_out (Or.inr (rX_b (by decide) (rQi_x q))) rfl)
          obtain ⟨r37, s38, E40, rfl, H⟩ := rQi_n hq39
          cases E40
          obtain ⟨v42, H⟩ := H
          rw [← v42.1]
          refine bk_i10 (d := d + 7) bkH_r (by decide) dX8_line_286 q860 (bC_none (j := 3) (by decide) (Int.toNat_le_toNat (Int.le_of_eq v42.2))) (hup_self _ _ _) (Nat.le_of_ble_eq_true rfl) ?_
          rw [hup_hup]
          obtain ⟨v43, H⟩ := H
          refine bk_add3 (d := d + 2) bkH_r dX8_line_289 q727 v43.1.1 v43.1.2 hr (Nat.le_of_ble_eq_true rfl) v43.2.1 v43.2.2 (fun s44 e45 => ?_)
          replace H := H s44 e45
          refine ew_pop dX8_line_294 rfl ?_
          refine ew_iload_n dX8_line_295 rfl lm1 ?_
          refine ew_if_eq (tgt := 323) dX8_line_296 (by decide) (fun c46 => ?_) (fun c46 => ?_)
          · replace H := H.1 c46
            exact ew_ret (o := none) rfl (Or.inl ⟨_, rfl, rfl, H⟩) ⟨rfl, dX8_line_323⟩
          · replace H := H.2 c46
            refine ew_aload_n dX8_line_299 rfl lm0 ?_
            refine rd_get (v := aR (some (bI V 1 0))) dX8_line_300 (e_fl.a q419) rf_1 rfl ?_
            refine rxw_book dX8_line_303 (e_fl.c q201) bf_4 ?_
            refine ew_aload_n dX8_line_306 rfl lm2 ?_
            refine rlw_size (d := d + 8) (j := 3) dX8_line_307 (by decide) q664 (Nat.le_of_ble_eq_true rfl) ?_
            refine ew_iconst dX8_line_312 (inI_of rfl) ?_
            obtain ⟨v47, H⟩ := H
            refine ew_isub dX8_line_313 v47 ?_
            refine ew_callS (d := d + 8) (as := [aI ((s44.1 33) - 1)]) rfl dX8_line_314 me_J15_valueOf rfl (Or.inl q837) q838 (Nat.le_of_ble_eq_true rfl) (Nat.zero_le _) (Nat.zero_le _) (S_J15_valueOf (d := d + 8) H) (fun o h' hq49 _ => ?_) (fun E i h' q _ => (cQg_no q).elim)
            obtain ⟨r48, E50, rfl, H⟩ := hq49
            cases E50
            obtain ⟨v51, H⟩ := H
            refine bk_add4 (d := d + 2) (a := r48) bkH_r dX8_line_317 q727 v51.1.1 v51.1.2.1 v51.1.2.2 hr (Nat.le_of_ble_eq_true rfl) v51.2.1 v51.2.2 (fun s52 e53 => ?_)
            replace H := H s52 e53
            refine ew_pop dX8_line_322 rfl ?_
            exact ew_ret (o := none) rfl (Or.inl ⟨_, rfl, rfl, H⟩) ⟨rfl, dX8_line_323⟩
        · replace H := H.2 c25
          refine ew_bipush dX8_line_261 (inI_of rfl) (by decide) ?_
          refine ew_goto (tgt := 268) dX8_line_263 (by decide) ?_
          obtain ⟨v58, H⟩ := H
          refine ew_callV (d := d + 8) (as := [aR (some (bI V 2 3)), aI 12]) rfl dX8_line_268 me_X8_begin rfl (ci := 6) rfl rfl rh_T (Or.inl q659) q661 qs11 (Nat.le_of_ble_eq_true rfl) v58.1 v58.2 (S_X8_begin_3 (d := d + 3) hT hf H) (fun o h' hq56 _ => ?_) (fun E i h' q _ => ex_out (Or.inr (rQv_x q)) rfl)
          obtain ⟨s55, E57, rfl, H⟩ := rQv_n hq56
          cases E57
          refine ew_aload_n dX8_line_271 rfl lm0 ?_
          obtain ⟨v63, H⟩ := H
          refine ew_callV (d := d + 8) (as := []) rfl dX8_line_272 me_X8_term rfl (ci := 6) rfl rfl rh_T (Or.inl q810) q812 qs21 (Nat.le_of_ble_eq_true rfl) v63.1 v63.2 (S_X8_term (d := d + 1) hT hf H) (fun o h' hq61 _ => ?_) (fun E i h' q _ => ex_out (Or.inr (rQi_x q)) rfl)
          obtain ⟨r59, s60, E62, rfl, H⟩ := rQi_n hq61
          cases E62
          refine ew_istore_n dX8_line_275 rfl (by decide) (lv' := [(3, aI r59), (0, aR (some rT)), (1, aI r19), (2, aR (some (bI V 2 3)))]) rfl ?_
          refine ew_sub (List.forall_mem_cons.mpr ⟨lm1, (List.forall_mem_cons.mpr ⟨lm2, (List.forall_mem_cons.mpr ⟨lm3, (List.forall_mem_cons.mpr ⟨lm0, e_nm⟩)⟩)⟩)⟩) ?_
          refine ew_aload_n dX8_line_276 rfl lm2 ?_
          obtain ⟨v64, H⟩ := H
          refine bk_new10 bkH_r (Or.inr rfl) dX8_line_277 q858 (bC_none (j := 3) (by decide) (Int.toNat_le_toNat (Int.le_of_eq v64.1))) (hr _ _ (by decide)) v64.2.1 v64.2.2 ?_
          refine ew_dup dX8_line_280 rfl ?_
          refine ew_iload_n dX8_line_281 rfl lm3 ?_
          refine ew_aload_n dX8_line_282 rfl lm0 ?_
          obtain ⟨v69, H⟩ := H
          refine ew_callV (d := d + 8) (as := []) rfl dX8_line_283 me_X8_term rfl (ci := 6) rfl rfl rh_T (Or.inl q810) q812 qs21 (Nat.le_of_ble_eq_true rfl) v69.1 v69.2 (S_X8_term (d := d + 1) (rtp_b hT) (fI_b hf) H) (fun o h' hq67 _ => ?_) (fun E i h' q _ => ex_out (Or.inr (rX_b (by decide) (rQi_x q))) rfl)
          obtain ⟨r65, s66, E68, rfl, H⟩ := rQi_n hq67
          cases E68
          obtain ⟨v70, H⟩ := H
          rw [← v70.1]
          refine bk_i10 (d := d + 7) bkH_r (by decide) dX8_line_286 q860 (bC_none (j := 3) (by decide) (Int.toNat_le_toNat (Int.le_of_eq v70.2))) (hup_self _ _ _) (Nat.le_of_ble_eq_true rfl) ?_
          rw [hup_hup]
          obtain ⟨v71, H⟩ := H
          refine bk_add3 (d := d + 2) bkH_r dX8_line_289 q727 v71.1.1 v71.1.2 hr (Nat.le_of_ble_eq_true rfl) v71.2.1 v71.2.2 (fun s72 e73 => ?_)
          replace H := H s72 e73
          refine ew_pop dX8_line_294 rfl ?_
          refine ew_iload_n dX8_line_295 rfl lm1 ?_
          refine ew_if_eq (tgt := 323) dX8_line_296 (by decide) (fun c74 => ?_) (fun c74 => ?_)
          · replace H := H.1 c74
            exact ew_ret (o := none) rfl (Or.inl ⟨_, rfl, rfl, H⟩) ⟨rfl, dX8_line_323⟩
          · replace H := H.2 c74
            refine ew_aload_n dX8_line_299 rfl lm0 ?_
            refine rd_get (v := aR (some (bI V 1 0))) dX8_line_300 (e_fl.a q419) rf_1 rfl ?_
            refine rxw_book dX8_line_303 (e_fl.c q201) bf_4 ?_
            refine ew_aload_n dX8_line_306 rfl lm2 ?_
            refine rlw_size (d := d + 8) (j := 3) dX8_line_307 (by decide) q664 (Nat.le_of_ble_eq_true rfl) ?_
            refine ew_iconst dX8_line_312 (inI_of rfl) ?_
            obtain ⟨v75, H⟩ := H
            refine ew_isub dX8_line_313 v75 ?_
            refine ew_callS (d := d + 8) (as := [aI ((s72.1 33) - 1)]) rfl dX8_line_314 me_J15_valueOf rfl (Or.inl q837) q838 (Nat.le_of_ble_eq_true rfl) (Nat.zero_le _) (Nat.zero_le _) (S_J15_valueOf (d := d + 8) H) (fun o h' hq77 _ => ?_) (fun E i h' q _ => (cQg_no q).elim)
            obtain ⟨r76, E78, rfl, H⟩ := hq77
            cases E78
            obtain ⟨v79, H⟩ := H
            refine bk_add4 (d := d + 2) (a := r76) bkH_r dX8_line_317 q727 v79.1.1 v79.1.2.1 v79.1.2.2 hr (Nat.le_of_ble_eq_true rfl) v79.2.1 v79.2.2 (fun s80 e81 => ?_)
            replace H := H s80 e81
            refine ew_pop dX8_line_322 rfl ?_
            exact ew_ret (o := none) rfl (Or.inl ⟨_, rfl, rfl, H⟩) ⟨rfl, dX8_line_323⟩
      · replace H := H.2 c24
        refine ew_aload_n dX8_line_237 rfl lm0 ?_
        refine rd_get (v := aR (some (bI V 1 0))) dX8_line_238 (e_fl.a q419) rf_1 rfl ?_
        refine rxw_book dX8_line_241 (e_fl.c q195) bf_2 ?_
        refine ew_goto (tgt := 254) dX8_line_244 (by decide) ?_
        refine ew_astore_n dX8_line_254 rfl (by decide) (lv' := [(2, aR (some (bI V 2 2))), (0, aR (some rT)), (1, aI r19)]) rfl ?_
        refine ew_sub (List.forall_mem_cons.mpr ⟨lm1, (List.forall_mem_cons.mpr ⟨lm2, (List.forall_mem_cons.mpr ⟨lm0, e_nm⟩)⟩)⟩) ?_
        refine ew_aload_n dX8_line_255 rfl lm0 ?_
        refine ew_aload_n dX8_line_256 rfl lm2 ?_
        refine ew_iload_n dX8_line_257 rfl lm1 ?_
        refine ew_if_eq (tgt := 266) dX8_line_258 (by decide) (fun c82 => ?_) (fun c82 => ?_)
        · replace H := H.1 c82
          refine ew_bipush dX8_line_266 (inI_of rfl) (by decide) ?_
          obtain ⟨v87, H⟩ := H
          refine ew_callV (d := d + 8) (as := [aR (some (bI V 2 2)), aI 8]) rfl dX8_line_268 me_X8_begin rfl (ci := 6) rfl rfl rh_T (Or.inl q659) q661 qs11 (Nat.le_of_ble_eq_true rfl) v87.1 v87.2 (S_X8_begin_2 (d := d + 3) hT hf H) (fun o h' hq85 _ => ?_) (fun E i h' q _ => ex_out (Or.inr (rQv_x q)) rfl)
          obtain ⟨s84, E86, rfl, H⟩ := rQv_n hq85
          cases E86
          refine ew_aload_n dX8_line_271 rfl lm0 ?_
          obtain ⟨v92, H⟩ := H
          refine ew_callV (d := d + 8) (as := []) rfl dX8_line_272 me_X8_term rfl (ci := 6) rfl rfl rh_T (Or.inl q810) q812 qs21 (Nat.le_of_ble_eq_true rfl) v92.1 v92.2 (S_X8_term (d := d + 1) hT hf H) (fun o h' hq90 _ => ?_) (fun E i h' q _ => ex_out (Or.inr (rQi_x q)) rfl)
          obtain ⟨r88, s89, E91, rfl, H⟩ := rQi_n hq90
          cases E91
          refine ew_istore_n dX8_line_275 rfl (by decide) (lv' := [(3, aI r88), (0, aR (some rT)), (1, aI r19), (2, aR (some (bI V 2 2)))]) rfl ?_
          refine ew_sub (List.forall_mem_cons.mpr ⟨lm1, (List.forall_mem_cons.mpr ⟨lm2, (List.forall_mem_cons.mpr ⟨lm3, (List.forall_mem_cons.mpr ⟨lm0, e_nm⟩)⟩)⟩)⟩) ?_
          refine ew_aload_n dX8_line_276 rfl lm2 ?_
          obtain ⟨v93, H⟩ := H
          refine bk_new10 bkH_r (Or.inl rfl) dX8_line_277 q858 (bC_none (j := 2) (by decide) (Int.toNat_le_toNat (Int.le_of_eq v93.1))) (hr _ _ (by decide)) v93.2.1 v93.2.2 ?_
          refine ew_dup dX8_line_280 rfl ?_
          refine ew_iload_n dX8_line_281 rfl lm3 ?_
          refine ew_aload_n dX8_line_282 rfl lm0 ?_
          obtain ⟨v98, H⟩ := H
          refine ew_callV (d := d + 8) (as := []) rfl dX8_line_283 me_X8_term rfl (ci := 6) rfl rfl rh_T (Or.inl q810) q812 qs21 (Nat.le_of_ble_eq_true rfl) v98.1 v98.2 (S_X8_term (d := d + 1) (rtp_b hT) (fI_b hf) H) (fun o h' hq96 _ => ?_) (fun E i h' q _ => ex_out (Or.inr (rX_b (by decide) (rQi_x q))) rfl)
          obtain ⟨r94, s95, E97, rfl, H⟩ := rQi_n hq96
          cases E97
          obtain ⟨v99, H⟩ := H
          rw [← v99.1]
          refine bk_i10 (d := d + 7) bkH_r (by decide) dX8_line_286 q860 (bC_none (j := 2) (by decide) (Int.toNat_le_toNat (Int.le_of_eq v99.2))) (hup_self _ _ _) (Nat.le_of_ble_eq_true rfl) ?_
          rw [hup_hup]
          obtain ⟨v100, H⟩ := H
          refine bk_add2 (d := d + 2) bkH_r dX8_line_289 q727 v100.1.1 v100.1.2 hr (Nat.le_of_ble_eq_true rfl) v100.2.1 v100.2.2 (fun s101 e102 => ?_)
          replace H := H s101 e102
          refine ew_pop dX8_line_294 rfl ?_
          refine ew_iload_n dX8_line_295 rfl lm1 ?_
          refine ew_if_eq (tgt := 323) dX8_line_296 (by decide) (fun c103 => ?_) (fun c103 => ?_)
          · replace H := H.1 c103
            exact ew_ret (o := none) rfl (Or.inl ⟨_, rfl, rfl, H⟩) ⟨rfl, dX8_line_323⟩
          · replace H := H.2 c103
            refine ew_aload_n dX8_line_299 rfl lm0 ?_
            refine rd_get (v := aR (some (bI V 1 0))) dX8_line_300 (e_fl.a q419) rf_1 rfl ?_
            refine rxw_book dX8_line_303 (e_fl.c q201) bf_4 ?_
            refine ew_aload_n dX8_line_306 rfl lm2 ?_
            refine rlw_size (d := d + 8) (j := 2) dX8_line_307 (by decide) q664 (Nat.le_of_ble_eq_true rfl) ?_
            refine ew_iconst dX8_line_312 (inI_of rfl) ?_
            obtain ⟨v104, H⟩ := H
            refine ew_isub dX8_line_313 v104 ?_
            refine ew_callS (d := d + 8) (as := [aI ((s101.1 32) - 1)]) rfl dX8_line_314 me_J15_valueOf rfl (Or.inl q837) q838 (Nat.le_of_ble_eq_true rfl) (Nat.zero_le _) (Nat.zero_le _) (S_J15_valueOf (d := d + 8) H) (fun o h' hq106 _ => ?_) (fun E i h' q _ => (cQg_no q).elim)
            obtain ⟨r105, E107, rfl, H⟩ := hq106
            cases E107
            obtain ⟨v108, H⟩ := H
            refine bk_add4 (d := d + 2) (a := r105) bkH_r dX8_line_317 q727 v108.1.1 v108.1.2.1 v108.1.2.2 hr (Nat.le_of_ble_eq_true rfl) v108.2.1 v108.2.2 (fun s109 e110 => ?_)
            replace H := H s109 e110
            refine ew_pop dX8_line_322 rfl ?_
            exact ew_ret (o := none) rfl (Or.inl ⟨_, rfl, rfl, H⟩) ⟨rfl, dX8_line_323⟩
        · replace H := H.2 c82
          refine ew_bipush dX8_line_261 (inI_of rfl) (by decide) ?_
          refine ew_goto (tgt := 268) dX8_line_263 (by decide) ?_
          obtain ⟨v115, H⟩ := H
          refine ew_callV (d := d + 8) (as := [aR (some (bI V 2 2)), aI 12]) rfl dX8_line_268 me_X8_begin rfl (ci := 6) rfl rfl rh_T (Or.inl q659) q661 qs11 (Nat.le_of_ble_eq_true rfl) v115.1 v115.2 (S_X8_begin_2 (d := d + 3) hT hf H) (fun o h' hq113 _ => ?_) (fun E i h' q _ => ex_out (Or.inr (rQv_x q)) rfl)
          obtain ⟨s112, E114, rfl, H⟩ := rQv_n hq113
          cases E114
          refine ew_aload_n dX8_line_271 rfl lm0 ?_
          obtain ⟨v120, H⟩ := H
          refine ew_callV (d := d + 8) (as := []) rfl dX8_line_272 me_X8_term rfl (ci := 6) rfl rfl rh_T (Or.inl q810) q812 qs21 (Nat.le_of_ble_eq_true rfl) v120.1 v120.2 (S_X8_term (d := d + 1) hT hf H) (fun o h' hq118 _ => ?_) (fun E i h' q _ => ex_out (Or.inr (rQi_x q)) rfl)
          obtain ⟨r116, s117, E119, rfl, H⟩ := rQi_n hq118
          cases E119
          refine ew_istore_n dX8_line_275 rfl (by decide) (lv' := [(3, aI r116), (0, aR (some rT)), (1, aI r19), (2, aR (some (bI V 2 2)))]) rfl ?_
          refine ew_sub (List.forall_mem_cons.mpr ⟨lm1, (List.forall_mem_cons.mpr ⟨lm2, (List.forall_mem_cons.mpr ⟨lm3, (List.forall_mem_cons.mpr ⟨lm0, e_nm⟩)⟩)⟩)⟩) ?_
          refine ew_aload_n dX8_line_276 rfl lm2 ?_
          obtain ⟨v121, H⟩ := H
          refine bk_new10 bkH_r (Or.inl rfl) dX8_line_277 q858 (bC_none (j := 2) (by decide) (Int.toNat_le_toNat (Int.le_of_eq v121.1))) (hr _ _ (by decide)) v121.2.1 v121.2.2 ?_
          refine ew_dup dX8_line_280 rfl ?_
          refine ew_iload_n dX8_line_281 rfl lm3 ?_
          refine ew_aload_n dX8_line_282 rfl lm0 ?_
          obtain ⟨v126, H⟩ := H
          refine ew_callV (d := d + 8) (as := []) rfl dX8_line_283 me_X8_term rfl (ci := 6) rfl rfl rh_T (Or.inl q810) q812 qs21 (Nat.le_of_ble_eq_true rfl) v126.1 v126.2 (S_X8_term (d := d + 1) (rtp_b hT) (fI_b hf) H) (fun o h' hq124 _ => ?_) (fun E i h' q _ => ex_out (Or.inr (rX_b (by decide) (rQi_x q))) rfl)
          obtain ⟨r122, s123, E125, rfl, H⟩ := rQi_n hq124
          cases E125
          obtain ⟨v127, H⟩ := H
          rw [← v127.1]
          refine bk_i10 (d := d + 7) bkH_r (by decide) dX8_line_286 q860 (bC_none (j := 2) (by decide) (Int.toNat_le_toNat (Int.le_of_eq v127.2))) (hup_self _ _ _) (Nat.le_of_ble_eq_true rfl) ?_
          rw [hup_hup]
          obtain ⟨v128, H⟩ := H
          refine bk_add2 (d := d + 2) bkH_r dX8_line_289 q727 v128.1.1 v128.1.2 hr (Nat.le_of_ble_eq_true rfl) v128.2.1 v128.2.2 (fun s129 e130 => ?_)
          replace H := H s129 e130
          refine ew_pop dX8_line_294 rfl ?_
          refine ew_iload_n dX8_line_295 rfl lm1 ?_
          refine ew_if_eq (tgt := 323) dX8_line_296 (by decide) (fun c131 => ?_) (fun c131 => ?_)
          · replace H := H.1 c131
            exact ew_ret (o := none) rfl (Or.inl ⟨_, rfl, rfl, H⟩) ⟨rfl, dX8_line_323⟩
          · replace H := H.2 c131
            refine ew_aload_n dX8_line_299 rfl lm0 ?_
            refine rd_get (v := aR (some (bI V 1 0))) dX8_line_300 (e_fl.a q419) rf_1 rfl ?_
            refine rxw_book dX8_line_303 (e_fl.c q201) bf_4 ?_
            refine ew_aload_n dX8_line_306 rfl lm2 ?_
            refine rlw_size (d := d + 8) (j := 2) dX8_line_307 (by decide) q664 (Nat.le_of_ble_eq_true rfl) ?_
            refine ew_iconst dX8_line_312 (inI_of rfl) ?_
            obtain ⟨v132, H⟩ := H
            refine ew_isub dX8_line_313 v132 ?_
            refine ew_callS (d := d + 8) (as := [aI ((s129.1 32) - 1)]) rfl dX8_line_314 me_J15_valueOf rfl (Or.inl q837) q838 (Nat.le_of_ble_eq_true rfl) (Nat.zero_le _) (Nat.zero_le _) (S_J15_valueOf (d := d + 8) H) (fun o h' hq134 _ => ?_) (fun E i h' q _ => (cQg_no q).elim)
            obtain ⟨r133, E135, rfl, H⟩ := hq134
            cases E135
            obtain ⟨v136, H⟩ := H
            refine bk_add4 (d := d + 2) (a := r133) bkH_r dX8_line_317 q727 v136.1.1 v136.1.2.1 v136.1.2.2 hr (Nat.le_of_ble_eq_true rfl) v136.2.1 v136.2.2 (fun s137 e138 => ?_)
            replace H := H s137 e138
            refine ew_pop dX8_line_322 rfl ?_
            exact ew_ret (o := none) rfl (Or.inl ⟨_, rfl, rfl, H⟩) ⟨rfl, dX8_line_323⟩
    · replace H := H.2 c18
      refine ew_aload_n dX8_line_116 rfl lm0 ?_
      refine ew_aload_n dX8_line_117 rfl lm0 ?_
      refine rd_get (v := aR (some (bI V 1 0))) dX8_line_118 (e_fl.a q419) rf_1 rfl ?_
      refine rxw_book dX8_line_121 (e_fl.c q192) bf_1 ?_
      refine ew_bipush dX8_line_124 (inI_of rfl) (by decide) ?_
      obtain ⟨v143, H⟩ := H
      refine ew_callV (d := d + 8) (as := [aR (some (bI V 2 1)), aI 24]) rfl dX8_line_126 me_X8_begin rfl (ci := 6) rfl rfl rh_T (Or.inl q659) q661 qs11 (Nat.le_of_ble_eq_true rfl) v143.1 v143.2 (S_X8_begin_1 (d := d + 3) hT hf H) (fun o h' hq141 _ => ?_) (fun E i h' q _ => ex_out (Or.inr (rQv_x q)) rfl)
      obtain ⟨s140, E142, rfl, H⟩ := rQv_n hq141
      cases E142
      refine ew_aload_n dX8_line_129 rfl lm0 ?_
      obtain ⟨v148, H⟩ := H
      refine ew_callV (d := d + 8) (as := []) rfl dX8_line_130 me_X8_fresh rfl (ci := 6) rfl rfl rh_T (Or.inl q673) q675 qs12 (Nat.le_of_ble_eq_true rfl) v148.1 v148.2 (S_X8_fresh (d := d + 1) hT hf H) (fun o h' hq146 _ => ?_) (fun E i h' q _ => ex_out (Or.inr (rQl_x q)) rfl)
      obtain ⟨r144, s145, E147, rfl, H⟩ := rQl_n hq146
      cases E147
      refine ew_lstore_n dX8_line_133 rfl (by decide) (lv' := [(1, aL r144), (0, aR (some rT))]) rfl ?_
      refine ew_sub (List.forall_mem_cons.mpr ⟨lm1, (List.forall_mem_cons.mpr ⟨lm0, e_nm⟩)⟩) ?_
      refine ew_aload_n dX8_line_134 rfl lm0 ?_
      refine ew_bipush dX8_line_135 (inI_of rfl) (by decide) ?_
      obtain ⟨v153, H⟩ := H
      refine ew_callV (d := d + 8) (as := [aI 61]) rfl dX8_line_137 me_X8_pass rfl (ci := 6) rfl rfl rh_T (Or.inl q790) q792 qs17 (Nat.le_of_ble_eq_true rfl) v153.1 v153.2 (S_X8_pass (d := d + 3) hT hf H) (fun o h' hq151 _ => ?_) (fun E i h' q _ => ex_out (Or.inr (rQv_x q)) rfl)
      obtain ⟨s150, E152, rfl, H⟩ := rQv_n hq151
      cases E152
      refine ew_aload_n dX8_line_140 rfl lm0 ?_
      obtain ⟨v158, H⟩ := H
      refine ew_callV (d := d + 8) (as := []) rfl dX8_line_141 me_X8_function rfl (ci := 6) rfl rfl rh_T (Or.inl q798) q800 qs19 (Nat.le_of_ble_eq_true rfl) v158.1 v158.2 (S_X8_function (d := d + 1) hT hf H) (fun o h' hq156 _ => ?_) (fun E i h' q _ => ex_out (Or.inr (rQi_x q)) rfl)
      obtain ⟨r154, s155, E157, rfl, H⟩ := rQi_n hq156
      cases E157
      refine ew_istore_n dX8_line_144 rfl (by decide) (lv' := [(3, aI r154), (0, aR (some rT)), (1, aL r144)]) rfl ?_
      refine ew_sub (List.forall_mem_cons.mpr ⟨lm1, (List.forall_mem_cons.mpr ⟨lm2, (List.forall_mem_cons.mpr ⟨lm0, e_nm⟩)⟩)⟩) ?_
      refine ew_aload_n dX8_line_145 rfl lm0 ?_
      refine rd_get (v := aR (some (bI V 1 0))) dX8_line_146 (e_fl.a q419) rf_1 rfl ?_
      refine rxw_book dX8_line_149 (e_fl.c q192) bf_1 ?_
      obtain ⟨v159, H⟩ := H
      refine bk_new9 bkH_r dX8_line_152 q802 (bn_1 (Int.toNat_le_toNat (Int.le_of_eq v159.1))) (hr _ _ (by decide)) v159.2.1 v159.2.2 ?_
      refine ew_dup dX8_line_155 rfl ?_
      refine ew_lload_n dX8_line_156 rfl lm1 ?_
      refine ew_aload_n dX8_line_157 rfl lm0 ?_
      refine rd_get (v := aR (some (bI V 1 0))) dX8_line_158 (e_fl.a q419) rf_1 rfl ?_
      refine rxw_book dX8_line_161 (e_fl.c q189) bf_0 ?_
      refine ew_iload_n dX8_line_164 rfl lm2 ?_
      obtain ⟨v160, H⟩ := H
      refine rlw_g0 (d := d + 6) dX8_line_165 q805 (Nat.le_of_ble_eq_true rfl) v160.1 v160.2 ?_
      obtain ⟨v161, H⟩ := H
      refine rcf_cast (f := r154) dX8_line_170 q710 v161 ?_
      refine ew_iload_n dX8_line_173 rfl lm2 ?_
      refine ew_aload_n dX8_line_174 rfl lm0 ?_
      refine ew_aload_n dX8_line_175 rfl lm0 ?_
      refine rd_get (v := aR (some (bI V 1 0))) dX8_line_176 (e_fl.a q419) rf_1 rfl ?_
      refine rxw_book dX8_line_179 (e_fl.c q189) bf_0 ?_
      refine ew_iload_n dX8_line_182 rfl lm2 ?_
      obtain ⟨v162, H⟩ := H
      refine rlw_g0 (d := d + 6) dX8_line_183 q805 (Nat.le_of_ble_eq_true rfl) v162.1 v162.2 ?_
      obtain ⟨v163, H⟩ := H
      refine rcf_cast (f := r154) dX8_line_188 q710 v163 ?_
      obtain ⟨v164, H⟩ := H
      refine rgf_1 (f := r154) dX8_line_191 (e_fl.c q720) ff_1 v164 ?_
      obtain ⟨mc170c, mc170s, hm171c, hm171s, H⟩ := H
      refine ew_callV (d := d + 8) (as := [aI (s155.2 31 r154)]) rfl dX8_line_194 me_X8_parts rfl (ci := 6) rfl rfl rh_T (Or.inl q806) q808 qs20 (Nat.le_of_ble_eq_true rfl) hm171c hm171s (S_X8_parts (d := d + 0) (rtp_b hT) (fI_b hf) ((hup_ne (bI_ne (by omega))).trans (hr _ _ (by decide))) H) (fun o h' hq167 _ => ?_) (fun E i h' q _ => ex_out (Or.inr (rX_b (by decide) (rQp_x q))) rfl)
      obtain ⟨r165, s166, E168, rfl, H⟩ := rQp_n hq167
      cases E168
      obtain ⟨v172, H⟩ := H
      rw [← v172.1]
      refine bk_i9 (d := d + 7) bkH_r dX8_line_197 q814 (bn_1 (Int.toNat_le_toNat (Int.le_of_eq v172.2))) ((hup_ne (bI_ne (by omega))).trans (hup_self _ _ _)) (Nat.le_of_ble_eq_true rfl) ?_
      rw [hup_x (bI_ne (by omega))]
      obtain ⟨v173, H⟩ := H
      refine bk_add1 (d := d + 2) bkH_r dX8_line_200 q727 v173.1.1 v173.1.2 hr (Nat.le_of_ble_eq_true rfl) v173.2.1 v173.2.2 (fun s174 e175 => ?_)
      replace H := H s174 e175
      refine ew_pop dX8_line_205 rfl ?_
      refine ew_aload_n dX8_line_206 rfl lm0 ?_
      refine rd_get (v := aR (some (bI V 1 0))) dX8_line_207 (e_fl.a q419) rf_1 rfl ?_
      refine rxw_book dX8_line_210 (e_fl.c q201) bf_4 ?_
      refine ew_iconst dX8_line_213 (inI_of rfl) ?_
      refine ew_callS (d := d + 8) (as := [aI (-1)]) rfl dX8_line_214 me_J15_valueOf rfl (Or.inl q837) q838 (Nat.le_of_ble_eq_true rfl) (Nat.zero_le _) (Nat.zero_le _) (S_J15_valueOf (d := d + 8) H) (fun o h' hq177 _ => ?_) (fun E i h' q _ => (cQg_no q).elim)
      obtain ⟨r176, E178, rfl, H⟩ := hq177
      cases E178
      obtain ⟨v179, H⟩ := H
      refine bk_add4 (d := d + 2) (a := r176) bkH_r dX8_line_217 q727 v179.1.1 v179.1.2.1 v179.1.2.2 hr (Nat.le_of_ble_eq_true rfl) v179.2.1 v179.2.2 (fun s180 e181 => ?_)
      replace H := H s180 e181
      refine ew_pop dX8_line_222 rfl ?_
      refine ew_goto (tgt := 323) dX8_line_223 (by decide) ?_
      exact ew_ret (o := none) rfl (Or.inl ⟨_, rfl, rfl, H⟩) ⟨rfl, dX8_line_323⟩
  · replace H := H.2 c12
    refine ew_aload_n dX8_line_21 rfl lm0 ?_
    refine ew_aload_n dX8_line_22 rfl lm0 ?_
    refine rd_get (v := aR (some (bI V 1 0))) dX8_line_23 (e_fl.a q419) rf_1 rfl ?_
    refine rxw_book dX8_line_26 (e_fl.c q189) bf_0 ?_
    refine ew_bipush dX8_line_29 (inI_of rfl) (by decide) ?_
    obtain ⟨v186, H⟩ := H
    refine ew_callV (d := d + 8) (as := [aR (some (bI V 2 0)), aI 8]) rfl dX8_line_31 me_X8_begin rfl (ci := 6) rfl rfl rh_T (Or.inl q659) q661 qs11 (Nat.le_of_ble_eq_true rfl) v186.1 v186.2 (S_X8_begin_0 (d := d + 3) hT hf H) (fun o h' hq184 _ => ?_) (fun E i h' q _ => ex_out (Or.inr (rQv_x q)) rfl)
    obtain ⟨s183, E185, rfl, H⟩ := rQv_n hq184
    cases E185
    refine ew_aload_n dX8_line_34 rfl lm0 ?_
    obtain ⟨v191, H⟩ := H
    refine ew_callV (d := d + 8) (as := []) rfl dX8_line_35 me_X8_fresh rfl (ci := 6) rfl rfl rh_T (Or.inl q673) q675 qs12 (Nat.le_of_ble_eq_true rfl) v191.1 v191.2 (S_X8_fresh (d := d + 1) hT hf H) (fun o h' hq189 _ => ?_) (fun E i h' q _ => ex_out (Or.inr (rQl_x q)) rfl)
    obtain ⟨r187, s188, E190, rfl, H⟩ := rQl_n hq189
    cases E190
    refine ew_lstore_n dX8_line_38 rfl (by decide) (lv' := [(1, aL r187), (0, aR (some rT))]) rfl ?_
    refine ew_sub (List.forall_mem_cons.mpr ⟨lm1, (List.forall_mem_cons.mpr ⟨lm0, e_nm⟩)⟩) ?_
    refine ew_aload_n dX8_line_39 rfl lm0 ?_
    refine ew_aload_n dX8_line_40 rfl lm0 ?_
    refine rd_get (v := aI (s188.1 4)) dX8_line_41 (e_fl.a q422) rf_4 rfl ?_
    refine ew_iconst dX8_line_44 (inI_of rfl) ?_
    refine ew_icmp_ne (tgt := 52) dX8_line_45 (by decide) (fun c192 => ?_) (fun c192 => ?_)
    · replace H := H.2 c192
      refine ew_iconst dX8_line_52 (inI_of rfl) ?_
      refine ew_iconst dX8_line_53 (inI_of rfl) ?_
      obtain ⟨v193, H⟩ := H
      exact rd_need (d := d + 4) (KX := KX) dX8_line_54 q586 hf rfl (fun x h q => Or.inr q) (Nat.le_of_ble_eq_true rfl) v193.1 v193.2 (fun _ => H) (fun c => absurd rfl c)
    · replace H := H.1 c192
      refine ew_iconst dX8_line_48 (inI_of rfl) ?_
      refine ew_goto (tgt := 53) dX8_line_49 (by decide) ?_
      refine ew_iconst dX8_line_53 (inI_of rfl) ?_
      obtain ⟨v194, H⟩ := H
      refine rd_need (d := d + 4) (KX := KX) dX8_line_54 q586 hf rfl (fun x h q => Or.inr q) (Nat.le_of_ble_eq_true rfl) v194.1 v194.2 (fun c => absurd c (by decide)) (fun _ => ?_)
      refine ew_aload_n dX8_line_57 rfl lm0 ?_
      refine ew_aload_n dX8_line_58 rfl lm0 ?_
      refine rd_get (v := aI (s188.1 5)) dX8_line_59 (e_fl.a q423) rf_5 rfl ?_
      refine ew_iconst dX8_line_62 (inI_of rfl) ?_
      refine ew_icmp_gt (tgt := 70) dX8_line_63 (by decide) (fun c195 => ?_) (fun c195 => ?_)
      · replace H := H.1 c195
        refine ew_iconst dX8_line_70 (inI_of rfl) ?_
        refine ew_iconst dX8_line_71 (inI_of rfl) ?_
        obtain ⟨v196, H⟩ := H
        exact rd_need (d := d + 4) (KX := KX) dX8_line_72 q586 hf rfl (fun x h q => Or.inr q) (Nat.le_of_ble_eq_true rfl) v196.1 v196.2 (fun _ => H) (fun c => absurd rfl c)
      · replace H := H.2 c195
        refine ew_iconst dX8_line_66 (inI_of rfl) ?_
        refine ew_goto (tgt := 71) dX8_line_67 (by decide) ?_
        refine ew_iconst dX8_line_71 (inI_of rfl) ?_
        obtain ⟨v197, H⟩ := H
        refine rd_need (d := d + 4) (KX := KX) dX8_line_72 q586 hf rfl (fun x h q => Or.inr q) (Nat.le_of_ble_eq_true rfl) v197.1 v197.2 (fun c => absurd c (by decide)) (fun _ => ?_)
        refine ew_aload_n dX8_line_75 rfl lm0 ?_
        refine rd_get (v := aR (some (bI V 1 0))) dX8_line_76 (e_fl.a q419) rf_1 rfl ?_
        refine rxw_book dX8_line_79 (e_fl.c q189) bf_0 ?_
        obtain ⟨v198, H⟩ := H
        refine bk_new8 bkH_r dX8_line_82 q710 (bn_0 (Int.toNat_le_toNat (Int.le_of_eq v198.1))) (hr _ _ (by decide)) v198.2.1 v198.2.2 ?_
        refine ew_dup dX8_line_85 rfl ?_
        refine ew_lload_n dX8_line_86 rfl lm1 ?_
        refine ew_aload_n dX8_line_87 rfl lm0 ?_
        refine rd_get (v := aI (s188.1 5)) dX8_line_88 (e_fl.a q423) rf_5 rfl ?_
        obtain ⟨v199, H⟩ := H
        refine bk_i8 (d := d + 7) bkH_r dX8_line_91 q712 (bn_0 (Int.toNat_le_toNat (Int.le_of_eq v199))) (hup_self _ _ _) (Nat.le_of_ble_eq_true rfl) ?_
        rw [hup_hup]
        obtain ⟨v200, H⟩ := H
        refine bk_add0 (d := d + 2) bkH_r dX8_line_94 q727 v200.1.1 v200.1.2 hr (Nat.le_of_ble_eq_true rfl) v200.2.1 v200.2.2 (fun s201 e202 => ?_)
        replace H := H s201 e202
        refine ew_pop dX8_line_99 rfl ?_
        refine ew_aload_n dX8_line_100 rfl lm0 ?_
        refine ew_callV (d := d + 8) (as := []) rfl dX8_line_101 me_X8_go rfl (ci := 6) rfl rfl rh_T (Or.inl q447) q449 qs2 (Nat.le_of_ble_eq_true rfl) (Nat.zero_le _) (Nat.zero_le _) (S_X8_go (d := d + 4) hT H) (fun o h' hq205 _ => ?_) (fun E i h' q _ => (nQv_no q).elim)
        obtain ⟨s204, E206, rfl, H⟩ := hq205
        cases E206
        refine ew_goto (tgt := 323) dX8_line_104 (by decide) ?_
        exact ew_ret (o := none) rfl (Or.inl ⟨_, rfl, rfl, H⟩) ⟨rfl, dX8_line_323⟩
def C_X8_line (kc ks : Nat) (tp : Int → Int) (s0 : MS) (K : MS → Prop) (KX : Int → Int → Prop) : Prop := B_X8_line_E K KX kc ks tp s0
theorem S_X8_line {d : Nat} {V : XV} {g : AH} {tp : Int → Int} {K : MS → Prop} {KX : Int → Int → Prop} {kc ks : Nat} {s0 : MS} (hT : rtp tp g) (hf : g fI = none) (hr : rfr V g) (H : C_X8_line kc ks tp s0 K KX) : Sp mm_X8_line (d + 9) kc ks [aR (some rT)] (rh V s0 g) (rQv V g K KX) :=
  ew_sp rfl (Nat.le_of_ble_eq_true rfl) (T_X8_line_E d V g tp hT hf hr K KX kc ks s0 (H ))
