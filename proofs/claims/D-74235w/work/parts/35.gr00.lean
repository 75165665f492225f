/-! The reader, by program (gen/gxr.py) -/
set_option maxRecDepth 100000
abbrev mm_X8_byteAt : EM := (yX8_byteAt, cX8_byteAt, 2, (Option.some .int), [])
theorem me_X8_byteAt : e_mth mm_X8_byteAt 1 := ⟨rfl, q454, q118, by decide +kernel, by decide⟩
def B_X8_byteAt_E (K : Int → Prop) (a : Int) (tp : Int → Int) (s0 : MS) : Prop :=
  (((s0.1 0) ≤ a → K 0) ∧ (¬ (s0.1 0) ≤ a → ((0 ≤ a ∧ a < 500) ∧ K (jand (tp a) 255))))
set_option maxHeartbeats 4000000 in
theorem T_X8_byteAt_E (d : Nat) (V : XV) (g : AH) (tp : Int → Int) (hT : rtp tp g) (K : Int → Prop) (a : Int) (s0 : MS) (H : B_X8_byteAt_E K a tp s0) : EW mm_X8_byteAt (d + 0) 0 0 (cQ (rh V s0 g) K) 0 [(0, aR (some rT)), (1, aI a)] [] (rh V s0 g) := by
  refine ew_iload_n dX8_byteAt_0 rfl lm1 ?_
  refine ew_aload_n dX8_byteAt_1 rfl lm0 ?_
  refine rd_get (v := aI (s0.1 0)) dX8_byteAt_2 (e_fl.a q418) rf_0 rfl ?_
  refine ew_icmp_ge (tgt := 24) dX8_byteAt_5 (by decide) (fun c1 => ?_) (fun c1 => ?_)
  · replace H := H.1 c1
    refine ew_iconst dX8_byteAt_24 (inI_of rfl) ?_
    exact ew_ret (o := some (aI 0)) rfl ⟨_, rfl, rfl, H⟩ ⟨dX8_byteAt_25, .int, rfl, Or.inl rfl, rfl⟩
  · replace H := H.2 c1
    refine ew_aload_n dX8_byteAt_8 rfl lm0 ?_
    refine rd_get (v := aR (some xT)) dX8_byteAt_9 (e_fl.a q425) rf_7 rfl ?_
    refine rd_tape dX8_byteAt_12 (e_fl.c q329) xf_2 hT ?_
    refine ew_iload_n dX8_byteAt_15 rfl lm1 ?_
    obtain ⟨v2, H⟩ := H
    refine rd_bald dX8_byteAt_16 hT v2.1 v2.2 ?_
    refine ew_sipush dX8_byteAt_17 (inI_of rfl) (by decide) ?_
    refine ew_iand dX8_byteAt_20 ?_
    refine ew_goto (tgt := 25) dX8_byteAt_21 (by decide) ?_
    exact ew_ret (o := some (aI (jand (tp a) 255))) rfl ⟨_, rfl, rfl, H⟩ ⟨dX8_byteAt_25, .int, rfl, Or.inl rfl, rfl⟩
def C_X8_byteAt (a : Int) (tp : Int → Int) (s0 : MS) (K : Int → Prop) : Prop := B_X8_byteAt_E K a tp s0
theorem S_X8_byteAt {d : Nat} {V : XV} {g : AH} {tp : Int → Int} {K : Int → Prop} {a : Int} {s0 : MS} (hT : rtp tp g) (H : C_X8_byteAt a tp s0 K) : Sp mm_X8_byteAt (d + 0) 0 0 [aR (some rT), aI a] (rh V s0 g) (cQ (rh V s0 g) K) :=
  ew_sp rfl (Nat.le_of_ble_eq_true rfl) (T_X8_byteAt_E d V g tp hT K a s0 (H ))
abbrev mm_X8_isLetter : EM := (yX8_isLetter, cX8_isLetter, 2, (Option.some .boolean), [])
theorem me_X8_isLetter : e_mth mm_X8_isLetter 1 := ⟨rfl, q458, q118, by decide +kernel, by decide⟩
def B_X8_isLetter_E (K : Int → Prop) (a : Int) (tp : Int → Int) (s0 : MS) : Prop :=
  (C_X8_byteAt a tp s0 (fun r1 => (C_X1_isIn r1 97 122 (fun r5 => ((r5 = 0 ∨ r5 = 1) ∧ K r5)))))
set_option maxHeartbeats 4000000 in
theorem T_X8_isLetter_E (d : Nat) (V : XV) (g : AH) (tp : Int → Int) (hT : rtp tp g) (K : Int → Prop) (a : Int) (s0 : MS) (H : B_X8_isLetter_E K a tp s0) : EW mm_X8_isLetter (d + 1) 0 0 (cQ (rh V s0 g) K) 0 [(0, aR (some rT)), (1, aI a)] [] (rh V s0 g) := by
  refine ew_aload_n dX8_isLetter_0 rfl lm0 ?_
  refine ew_iload_n dX8_isLetter_1 rfl lm1 ?_
  refine ew_callV (d := d + 0) (as := [aI a]) rfl dX8_isLetter_2 me_X8_byteAt rfl (ci := 6) rfl rfl rh_T (Or.inl q451) q453 qs3 (Nat.le_of_ble_eq_true rfl) (Nat.zero_le _) (Nat.zero_le _) (S_X8_byteAt (d := d + 0) hT H) (fun o h' hq3 _ => ?_) (fun E i h' q _ => (cQ_no q).elim)
  obtain ⟨r1, E4, rfl, H⟩ := hq3
  cases E4
  refine ew_bipush dX8_isLetter_5 (inI_of rfl) (by decide) ?_
  refine ew_bipush dX8_isLetter_7 (inI_of rfl) (by decide) ?_
  refine ew_callS (d := d + 0) (as := [aI r1, aI 97, aI 122]) rfl dX8_isLetter_9 me_X1_isIn rfl (Or.inr ⟨_, q459⟩) q404 (Nat.le_of_ble_eq_true rfl) (Nat.zero_le _) (Nat.zero_le _) (S_X1_isIn (d := d + 0) H) (fun o h' hq6 _ => ?_) (fun E i h' q _ => (cQ_no q).elim)
  obtain ⟨r5, E7, rfl, H⟩ := hq6
  cases E7
  obtain ⟨v8, H⟩ := H
  exact ew_ret (o := some (aI r5)) rfl ⟨_, rfl, rfl, H⟩ ⟨dX8_isLetter_12, .boolean, rfl, Or.inr (Or.inl rfl), by rcases v8 with z | z <;> rw [z] <;> decide⟩
def C_X8_isLetter (a : Int) (tp : Int → Int) (s0 : MS) (K : Int → Prop) : Prop := B_X8_isLetter_E K a tp s0
theorem S_X8_isLetter {d : Nat} {V : XV} {g : AH} {tp : Int → Int} {K : Int → Prop} {a : Int} {s0 : MS} (hT : rtp tp g) (H : C_X8_isLetter a tp s0 K) : Sp mm_X8_isLetter (d + 1) 0 0 [aR (some rT), aI a] (rh V s0 g) (cQ (rh V s0 g) K) :=
  ew_sp rfl (Nat.le_of_ble_eq_true rfl) (T_X8_isLetter_E d V g tp hT K a s0 (H ))
abbrev mm_X8_isDigit : EM := (yX8_isDigit, cX8_isDigit, 2, (Option.some .boolean), [])
theorem me_X8_isDigit : e_mth mm_X8_isDigit 1 := ⟨rfl, q463, q118, by decide +kernel, by decide⟩
def B_X8_isDigit_E (K : Int → Prop) (a : Int) (tp : Int → Int) (s0 : MS) : Prop :=
  (C_X8_byteAt a tp s0 (fun r1 => (C_X1_isIn r1 48 57 (fun r5 => ((r5 = 0 ∨ r5 = 1) ∧ K r5)))))
set_option maxHeartbeats 4000000 in
theorem T_X8_isDigit_E (d : Nat) (V : XV) (g : AH) (tp : Int → Int) (hT : rtp tp g) (K : Int → Prop) (a : Int) (s0 : MS) (H : B_X8_isDigit_E K a tp s0) : EW mm_X8_isDigit (d + 1) 0 0 (cQ (rh V s0 g) K) 0 [(0, aR (some rT)), (1, aI a)] [] (rh V s0 g) := by
  refine ew_aload_n dX8_isDigit_0 rfl lm0 ?_
  refine ew_iload_n dX8_isDigit_1 rfl lm1 ?_
  refine ew_callV (d := d + 0) (as := [aI a]) rfl dX8_isDigit_2 me_X8_byteAt rfl (ci := 6) rfl rfl rh_T (Or.inl q451) q453 qs3 (Nat.le_of_ble_eq_true rfl) (Nat.zero_le _) (Nat.zero_le _) (S_X8_byteAt (d := d + 0) hT H) (fun o h' hq3 _ => ?_) (fun E i h' q _ => (cQ_no q).elim)
  obtain ⟨r1, E4, rfl, H⟩ := hq3
  cases E4
  refine ew_bipush dX8_isDigit_5 (inI_of rfl) (by decide) ?_
  refine ew_bipush dX8_isDigit_7 (inI_of rfl) (by decide) ?_
  refine ew_callS (d := d + 0) (as := [aI r1, aI 48, aI 57]) rfl dX8_isDigit_9 me_X1_isIn rfl (Or.inr ⟨_, q459⟩) q404 (Nat.le_of_ble_eq_true rfl) (Nat.zero_le _) (Nat.zero_le _) (S_X1_isIn (d := d + 0) H) (fun o h' hq6 _ => ?_) (fun E i h' q _ => (cQ_no q).elim)
  obtain ⟨r5, E7, rfl, H⟩ := hq6
  cases E7
  obtain ⟨v8, H⟩ := H
  exact ew_ret (o := some (aI r5)) rfl ⟨_, rfl, rfl, H⟩ ⟨dX8_isDigit_12, .boolean, rfl, Or.inr (Or.inl rfl), by rcases v8 with z | z <;> rw [z] <;> decide⟩
def C_X8_isDigit (a : Int) (tp : Int → Int) (s0 : MS) (K : Int → Prop) : Prop := B_X8_isDigit_E K a tp s0
theorem S_X8_isDigit {d : Nat} {V : XV} {g : AH} {tp : Int → Int} {K : Int → Prop} {a : Int} {s0 : MS} (hT : rtp tp g) (H : C_X8_isDigit a tp s0 K) : Sp mm_X8_isDigit (d + 1) 0 0 [aR (some rT), aI a] (rh V s0 g) (cQ (rh V s0 g) K) :=
  ew_sp rfl (Nat.le_of_ble_eq_true rfl) (T_X8_isDigit_E d V g tp hT K a s0 (H ))
abbrev mm_X8_isSign : EM := (yX8_isSign, cX8_isSign, 2, (Option.some .boolean), [])
theorem me_X8_isSign : e_mth mm_X8_isSign 1 := ⟨rfl, q797, q118, by decide +kernel, by decide⟩
def B_X8_isSign_E (K : Int → Prop) (a : Int) (tp : Int → Int) (s0 : MS) : Prop :=
  (((s0.1 4) = 4 → (C_X8_byteAt (s0.1 3) tp s0 (fun r2 => ((r2 = a → K 1) ∧ (¬ r2 = a → K 0))))) ∧ (¬ (s0.1 4) = 4 → K 0))
set_option maxHeartbeats 4000000 in
theorem T_X8_isSign_E (d : Nat) (V : XV) (g : AH) (tp : Int → Int) (hT : rtp tp g) (K : Int → Prop) (a : Int) (s0 : MS) (H : B_X8_isSign_E K a tp s0) : EW mm_X8_isSign (d + 1) 0 0 (cQ (rh V s0 g) K) 0 [(0, aR (some rT)), (1, aI a)] [] (rh V s0 g) := by
  refine ew_aload_n dX8_isSign_0 rfl lm0 ?_
  refine rd_get (v := aI (s0.1 4)) dX8_isSign_1 (e_fl.a q422) rf_4 rfl ?_
  refine ew_iconst dX8_isSign_4 (inI_of rfl) ?_
  refine ew_icmp_ne (tgt := 24) dX8_isSign_5 (by decide) (fun c1 => ?_) (fun c1 => ?_)
  · replace H := H.2 c1
    refine ew_iconst dX8_isSign_24 (inI_of rfl) ?_
    exact ew_ret (o := some (aI 0)) rfl ⟨_, rfl, rfl, H⟩ ⟨dX8_isSign_25, .boolean, rfl, Or.inr (Or.inl rfl), by decide⟩
  · replace H := H.1 c1
    refine ew_aload_n dX8_isSign_8 rfl lm0 ?_
    refine ew_aload_n dX8_isSign_9 rfl lm0 ?_
    refine rd_get (v := aI (s0.1 3)) dX8_isSign_10 (e_fl.a q421) rf_3 rfl ?_
    refine ew_callV (d := d + 0) (as := [aI (s0.1 3)]) rfl dX8_isSign_13 me_X8_byteAt rfl (ci := 6) rfl rfl rh_T (Or.inl q451) q453 qs3 (Nat.le_of_ble_eq_true rfl) (Nat.zero_le _) (Nat.zero_le _) (S_X8_byteAt (d := d + 0) hT H) (fun o h' hq4 _ => ?_) (fun E i h' q _ => (cQ_no q).elim)
    obtain ⟨r2, E5, rfl, H⟩ := hq4
    cases E5
    refine ew_iload_n dX8_isSign_16 rfl lm1 ?_
    refine ew_icmp_ne (tgt := 24) dX8_isSign_17 (by decide) (fun c6 => ?_) (fun c6 => ?_)
    · replace H := H.2 c6
      refine ew_iconst dX8_isSign_24 (inI_of rfl) ?_
      exact ew_ret (o := some (aI 0)) rfl ⟨_, rfl, rfl, H⟩ ⟨dX8_isSign_25, .boolean, rfl, Or.inr (Or.inl rfl), by decide⟩
    · replace H := H.1 c6
      refine ew_iconst dX8_isSign_20 (inI_of rfl) ?_
      refine ew_goto (tgt := 25) dX8_isSign_21 (by decide) ?_
      exact ew_ret (o := some (aI 1)) rfl ⟨_, rfl, rfl, H⟩ ⟨dX8_isSign_25, .boolean, rfl, Or.inr (Or.inl rfl), by decide⟩
def C_X8_isSign (a : Int) (tp : Int → Int) (s0 : MS) (K : Int → Prop) : Prop := B_X8_isSign_E K a tp s0
theorem S_X8_isSign {d : Nat} {V : XV} {g : AH} {tp : Int → Int} {K : Int → Prop} {a : Int} {s0 : MS} (hT : rtp tp g) (H : C_X8_isSign a tp s0 K) : Sp mm_X8_isSign (d + 1) 0 0 [aR (some rT), aI a] (rh V s0 g) (cQ (rh V s0 g) K) :=
  ew_sp rfl (Nat.le_of_ble_eq_true rfl) (T_X8_isSign_E d V g tp hT K a s0 (H ))
abbrev mm_X8_is : EM := (yX8_is, cX8_is, 3, (Option.some .boolean), [])
theorem me_X8_is : e_mth mm_X8_is 1 := ⟨rfl, q564, q118, by decide +kernel, by decide⟩
def B_X8_is_28 (X28 : Nat → Int → Prop) (K : Int → Prop) (x1 : Nat) (x2 : Int) (tp : Int → Int) (s0 : MS) : Prop :=
  (x1 < 5 ∧ (C_J3_length x1 (fun r1 => ((r1 ≤ x2 → K 1) ∧ (¬ r1 ≤ x2 → ((inI ((s0.1 3) + x2)) ∧ (C_X8_byteAt ((s0.1 3) + x2) tp s0 (fun r6 => (x1 < 5 ∧ (C_J3_charAt x1 x2 (fun r10 => ((r6 = r10 → (inI (x2 + 1) ∧ X28 x1 (x2 + 1))) ∧ (¬ r6 = r10 → K 0)))))))))))))
def B_X8_is_E (X28 : Nat → Int → Prop) (K : Int → Prop) (a : Nat) (tp : Int → Int) (s0 : MS) : Prop :=
  (((s0.1 4) = 2 → ((inI ((s0.1 2) - (s0.1 3))) ∧ (a < 5 ∧ (C_J3_length a (fun r3 => ((((s0.1 2) - (s0.1 3)) = r3 → X28 a 0) ∧ (¬ ((s0.1 2) - (s0.1 3)) = r3 → K 0))))))) ∧ (¬ (s0.1 4) = 2 → K 0))
def W_X8_is_28 (d : Nat) (V : XV) (g : AH) (tp : Int → Int) (s0 : MS) (K : Int → Prop) (x1 : Nat) (x2 : Int) : Prop := EW mm_X8_is (d + 4) 0 0 (cQ (rh V s0 g) K) 28 [(0, aR (some rT)), (1, aR (some (9, 13, x1))), (2, aI x2)] [] (rh V s0 g)
set_option maxHeartbeats 4000000 in
theorem T_X8_is_28 (d : Nat) (V : XV) (g : AH) (tp : Int → Int) (hT : rtp tp g) (K : Int → Prop) (x1 : Nat) (x2 : Int) (s0 : MS) (H : B_X8_is_28 (W_X8_is_28 d V g tp s0 K) K x1 x2 tp s0) : EW mm_X8_is (d + 4) 0 0 (cQ (rh V s0 g) K) 28 [(0, aR (some rT)), (1, aR (some (9, 13, x1))), (2, aI x2)] [] (rh V s0 g) := by
  refine ew_iload_n dX8_is_28 rfl lm2 ?_
  refine ew_aload_n dX8_is_29 rfl lm1 ?_
  obtain ⟨hx16, H⟩ := H
  refine ew_callVk hx16 (d := d + 3) (as := []) rfl dX8_is_30 me_J3_length rfl rfl q565 q480 q481 (Nat.le_of_ble_eq_true rfl) (Nat.zero_le _) (Nat.zero_le _) (S_J3_length (d := d + 2) H) (fun o h' hq2 _ => ?_) (fun E i h' q _ => (cQ_no q).elim)
  obtain ⟨r1, E3, rfl, H⟩ := hq2
  cases E3
  refine ew_icmp_ge (tgt := 62) dX8_is_33 (by decide) (fun c4 => ?_) (fun c4 => ?_)
  · replace H := H.1 c4
    refine ew_iconst dX8_is_62 (inI_of rfl) ?_
    exact ew_ret (o := some (aI 1)) rfl ⟨_, rfl, rfl, H⟩ ⟨dX8_is_63, .boolean, rfl, Or.inr (Or.inl rfl), by decide⟩
  · replace H := H.2 c4
    refine ew_aload_n dX8_is_36 rfl lm0 ?_
    refine ew_aload_n dX8_is_37 rfl lm0 ?_
    refine rd_get (v := aI (s0.1 3)) dX8_is_38 (e_fl.a q421) rf_3 rfl ?_
    refine ew_iload_n dX8_is_41 rfl lm2 ?_
    obtain ⟨v5, H⟩ := H
    refine ew_iadd dX8_is_42 v5 ?_
    refine ew_callV (d := d + 3) (as := [aI ((s0.1 3) + x2)]) rfl dX8_is_43 me_X8_byteAt rfl (ci := 6) rfl rfl rh_T (Or.inl q451) q453 qs3 (Nat.le_of_ble_eq_true rfl) (Nat.zero_le _) (Nat.zero_le _) (S_X8_byteAt (d := d + 3) hT H) (fun o h' hq8 _ => ?_) (fun E i h' q _ => (cQ_no q).elim)
    obtain ⟨r6, E9, rfl, H⟩ := hq8
    cases E9
    refine ew_aload_n dX8_is_46 rfl lm1 ?_
    refine ew_iload_n dX8_is_47 rfl lm2 ?_
    obtain ⟨hx15, H⟩ := H
    refine ew_callVk hx15 (d := d + 3) (as := [aI x2]) rfl dX8_is_48 me_J3_charAt rfl rfl q566 q567 q568 (Nat.le_of_ble_eq_true rfl) (Nat.zero_le _) (Nat.zero_le _) (S_J3_charAt (d := d + 0) H) (fun o h' hq11 _ => ?_) (fun E i h' q _ => (cQ_no q).elim)
    obtain ⟨r10, E12, rfl, H⟩ := hq11
    cases E12
    refine ew_icmp_eq (tgt := 56) dX8_is_51 (by decide) (fun c13 => ?_) (fun c13 => ?_)
    · replace H := H.1 c13
      obtain ⟨v14, H⟩ := H
      refine ew_iinc dX8_is_56 lm2 (by decide) v14 (lv' := [(2, aI (x2 + 1)), (0, aR (some rT)), (1, aR (some (9, 13, x1)))]) rfl ?_
      refine ew_sub (List.forall_mem_cons.mpr ⟨lm1, (List.forall_mem_cons.mpr ⟨lm2, (List.forall_mem_cons.mpr ⟨lm0, e_nm⟩)⟩)⟩) ?_
      refine ew_goto (tgt := 28) dX8_is_59 (by decide) ?_
      exact ew_room (Nat.le_refl _) (Nat.zero_le _) (Nat.zero_le _) (ew_sub (List.forall_mem_cons.mpr ⟨lm0, (List.forall_mem_cons.mpr ⟨lm1, (List.forall_mem_cons.mpr ⟨lm2, e_nm⟩)⟩)⟩) H)
    · replace H := H.2 c13
      refine ew_iconst dX8_is_54 (inI_of rfl) ?_
      exact ew_ret (o := some (aI 0)) rfl ⟨_, rfl, rfl, H⟩ ⟨dX8_is_55, .boolean, rfl, Or.inr (Or.inl rfl), by decide⟩
set_option maxHeartbeats 4000000 in
theorem T_X8_is_E (d : Nat) (V : XV) (g : AH) (tp : Int → Int) (hT : rtp tp g) (K : Int → Prop) (a : Nat) (s0 : MS) (H : B_X8_is_E (W_X8_is_28 d V g tp s0 K) K a tp s0) : EW mm_X8_is (d + 4) 0 0 (cQ (rh V s0 g) K) 0 [(0, aR (some rT)), (1, aR (some (9, 13, a)))] [] (rh V s0 g) := by
  refine ew_aload_n dX8_is_0 rfl lm0 ?_
  refine rd_get (v := aI (s0.1 4)) dX8_is_1 (e_fl.a q422) rf_4 rfl ?_
  refine ew_iconst dX8_is_4 (inI_of rfl) ?_
  refine ew_icmp_ne (tgt := 24) dX8_is_5 (by decide) (fun c1 => ?_) (fun c1 => ?_)
  · replace H := H.2 c1
    refine ew_iconst dX8_is_24 (inI_of rfl) ?_
    exact ew_ret (o := some (aI 0)) rfl ⟨_, rfl, rfl, H⟩ ⟨dX8_is_25, .boolean, rfl, Or.inr (Or.inl rfl), by decide⟩
  · replace H := H.1 c1
    refine ew_aload_n dX8_is_8 rfl lm0 ?_
    refine rd_get (v := aI (s0.1 2)) dX8_is_9 (e_fl.a q420) rf_2 rfl ?_
    refine ew_aload_n dX8_is_12 rfl lm0 ?_
    refine rd_get (v := aI (s0.1 3)) dX8_is_13 (e_fl.a q421) rf_3 rfl ?_
    obtain ⟨v2, H⟩ := H
    refine ew_isub dX8_is_16 v2 ?_
    refine ew_aload_n dX8_is_17 rfl lm1 ?_
    obtain ⟨hx7, H⟩ := H
    refine ew_callVk hx7 (d := d + 3) (as := []) rfl dX8_is_18 me_J3_length rfl rfl q565 q480 q481 (Nat.le_of_ble_eq_true rfl) (Nat.zero_le _) (Nat.zero_le _) (S_J3_length (d := d + 2) H) (fun o h' hq4 _ => ?_) (fun E i h' q _ => (cQ_no q).elim)
    obtain ⟨r3, E5, rfl, H⟩ := hq4
    cases E5
    refine ew_icmp_eq (tgt := 26) dX8_is_21 (by decide) (fun c6 => ?_) (fun c6 => ?_)
    · replace H := H.1 c6
      refine ew_iconst dX8_is_26 (inI_of rfl) ?_
      refine ew_istore_n dX8_is_27 rfl (by decide) (lv' := [(2, aI 0), (0, aR (some rT)), (1, aR (some (9, 13, a)))]) rfl ?_
      refine ew_sub (List.forall_mem_cons.mpr ⟨lm1, (List.forall_mem_cons.mpr ⟨lm2, (List.forall_mem_cons.mpr ⟨lm0, e_nm⟩)⟩)⟩) ?_
      exact ew_room (Nat.le_refl _) (Nat.zero_le _) (Nat.zero_le _) (ew_sub (List.forall_mem_cons.mpr ⟨lm0, (List.forall_mem_cons.mpr ⟨lm1, (List.forall_mem_cons.mpr ⟨lm2, e_nm⟩)⟩)⟩) H)
    · replace H := H.2 c6
      refine ew_iconst dX8_is_24 (inI_of rfl) ?_
      exact ew_ret (o := some (aI 0)) rfl ⟨_, rfl, rfl, H⟩ ⟨dX8_is_25, .boolean, rfl, Or.inr (Or.inl rfl), by decide⟩
def C_X8_is (a : Nat) (tp : Int → Int) (s0 : MS) (K : Int → Prop) : Prop := ∀ (X28 : Nat → Int → Prop), (∀ (x1 : Nat) (x2 : Int), B_X8_is_28 X28 K x1 x2 tp s0 → X28 x1 x2) → B_X8_is_E X28 K a tp s0
theorem S_X8_is {d : Nat} {V : XV} {g : AH} {tp : Int → Int} {K : Int → Prop} {a : Nat} {s0 : MS} (hT : rtp tp g) (H : C_X8_is a tp s0 K) : Sp mm_X8_is (d + 4) 0 0 [aR (some rT), aR (some (9, 13, a))] (rh V s0 g) (cQ (rh V s0 g) K) :=
  ew_sp rfl (Nat.le_of_ble_eq_true rfl) (T_X8_is_E d V g tp hT K a s0 (H _ (fun x1 x2 H => T_X8_is_28 d V g tp hT K x1 x2 s0 H)))
abbrev mm_X8_isAny : EM := (yX8_isAny, cX8_isAny, 6, (Option.some .boolean), [])
theorem me_X8_isAny : e_mth mm_X8_isAny 1 := ⟨rfl, q560, q118, by decide +kernel, by decide⟩
def B_X8_isAny_8 (X8 : Int → Int → Prop) (K : Int → Prop) (x3 : Int) (x4 : Int) (tp : Int → Int) (s0 : MS) : Prop :=
  ((x3 ≤ x4 → K 0) ∧ (¬ x3 ≤ x4 → ((0 ≤ x4 ∧ x4 < 4) ∧ (C_X8_is ((x4).toNat) tp s0 (fun r3 => ((r3 = 0 → (inI (x4 + 1) ∧ X8 x3 (x4 + 1))) ∧ (¬ r3 = 0 → K 1)))))))
def B_X8_isAny_E (X8 : Int → Int → Prop) (K : Int → Prop) (tp : Int → Int) (s0 : MS) : Prop :=
  X8 4 0
def W_X8_isAny_8 (d : Nat) (V : XV) (g : AH) (tp : Int → Int) (s0 : MS) (K : Int → Prop) (x3 : Int) (x4 : Int) : Prop := EW mm_X8_isAny (d + 5) 0 0 (cQ (rh V s0 g) K) 8 [(0, aR (some rT)), (2, aR (some (9, 16, 0))), (3, aI x3), (4, aI x4)] [] (rh V s0 g)
set_option maxHeartbeats 4000000 in
theorem T_X8_isAny_8 (d : Nat) (V : XV) (g : AH) (tp : Int → Int) (hT : rtp tp g) (K : Int → Prop) (x3 : Int) (x4 : Int) (s0 : MS) (H : B_X8_isAny_8 (W_X8_isAny_8 d V g tp s0 K) K x3 x4 tp s0) : EW mm_X8_isAny (d + 5) 0 0 (cQ (rh V s0 g) K) 8 [(0, aR (some rT)), (2, aR (some (9, 16, 0))), (3, aI x3), (4, aI x4)] [] (rh V s0 g) := by
  refine ew_iload dX8_isAny_8 lm3 ?_
  refine ew_iload_n dX8_isAny_10 rfl lm2 ?_
  refine ew_icmp_ge (tgt := 37) dX8_isAny_11 (by decide) (fun c1 => ?_) (fun c1 => ?_)
  · replace H := H.1 c1
    refine ew_iconst dX8_isAny_37 (inI_of rfl) ?_
    exact ew_ret (o := some (aI 0)) rfl ⟨_, rfl, rfl, H⟩ ⟨dX8_isAny_38, .boolean, rfl, Or.inr (Or.inl rfl), by decide⟩
  · replace H := H.2 c1
    refine ew_aload_n dX8_isAny_14 rfl lm1 ?_
    refine ew_iload dX8_isAny_15 lm3 ?_
    obtain ⟨v2, H⟩ := H
    refine ew_kaaldS dX8_isAny_17 v2.1 v2.2 ?_
    refine ew_astore dX8_isAny_18 (by decide) (lv' := [(5, aR (some (9, 13, (x4).toNat))), (0, aR (some rT)), (2, aR (some (9, 16, 0))), (3, aI x3), (4, aI x4)]) rfl ?_
    refine ew_sub (List.forall_mem_cons.mpr ⟨lm1, (List.forall_mem_cons.mpr ⟨lm2, (List.forall_mem_cons.mpr ⟨lm3, (List.forall_mem_cons.mpr ⟨lm4, (List.forall_mem_cons.mpr ⟨lm0, e_nm⟩)⟩)⟩)⟩)⟩) ?_
    refine ew_aload_n dX8_isAny_20 rfl lm0 ?_
    refine ew_aload dX8_isAny_21 lm4 ?_
    refine ew_callV (d := d + 4) (as := [aR (some (9, 13, (x4).toNat))]) rfl dX8_isAny_23 me_X8_is rfl (ci := 6) rfl rfl rh_T (Or.inl q561) q563 qs8 (Nat.le_of_ble_eq_true rfl) (Nat.zero_le _) (Nat.zero_le _) (S_X8_is (d := d + 0) hT H) (fun o h' hq5 _ => ?_) (fun E i h' q _ => (cQ_no q).elim)
    obtain ⟨r3, E6, rfl, H⟩ := hq5
    cases E6
    refine ew_if_eq (tgt := 31) dX8_isAny_26 (by decide) (fun c7 => ?_) (fun c7 => ?_)
    · replace H := H.1 c7
      obtain ⟨v8, H⟩ := H
      refine ew_iinc dX8_isAny_31 lm3 (by decide) v8 (lv' := [(4, aI (x4 + 1)), (0, aR (some rT)), (2, aR (some (9, 16, 0))), (3, aI x3), (5, aR (some (9, 13, (x4).toNat)))]) rfl ?_
      refine ew_sub (List.forall_mem_cons.mpr ⟨lm1, (List.forall_mem_cons.mpr ⟨lm2, (List.forall_mem_cons.mpr ⟨lm3, (List.forall_mem_cons.mpr ⟨lm0, (List.forall_mem_cons.mpr ⟨lm4, e_nm⟩)⟩)⟩)⟩)⟩) ?_
      refine ew_goto (tgt := 8) dX8_isAny_34 (by decide) ?_
      exact ew_room (Nat.le_refl _) (Nat.zero_le _) (Nat.zero_le _) (ew_sub (List.forall_mem_cons.mpr ⟨lm0, (List.forall_mem_cons.mpr ⟨lm1, (List.forall_mem_cons.mpr ⟨lm2, (List.forall_mem_cons.mpr ⟨lm3, e_nm⟩)⟩)⟩)⟩) H)
    · replace H := H.2 c7
      refine ew_iconst dX8_isAny_29 (inI_of rfl) ?_
      exact ew_ret (o := some (aI 1)) rfl ⟨_, rfl, rfl, H⟩ ⟨dX8_isAny_30, .boolean, rfl, Or.inr (Or.inl rfl), by decide⟩
set_option maxHeartbeats 4000000 in
theorem T_X8_isAny_E (d : Nat) (V : XV) (g : AH) (tp : Int → Int) (hT : rtp tp g) (K : Int → Prop) (s0 : MS) (H : B_X8_isAny_E (W_X8_isAny_8 d V g tp s0 K) K tp s0) : EW mm_X8_isAny (d + 5) 0 0 (cQ (rh V s0 g) K) 0 [(0, aR (some rT)), (1, aR (some (9, 16, 0)))] [] (rh V s0 g) := by
  refine ew_aload_n dX8_isAny_0 rfl lm1 ?_
  refine ew_astore_n dX8_isAny_1 rfl (by decide) (lv' := [(2, aR (some (9, 16, 0))), (0, aR (some rT)), (1, aR (some (9, 16, 0)))]) rfl ?_
  refine ew_sub (List.forall_mem_cons.mpr ⟨lm1, (List.forall_mem_cons.mpr ⟨lm2, (List.forall_mem_cons.mpr ⟨lm0, e_nm⟩)⟩)⟩) ?_
  refine ew_aload_n dX8_isAny_2 rfl lm2 ?_
  refine ew_kalenS dX8_isAny_3 ?_
  refine ew_istore_n dX8_isAny_4 rfl (by decide) (lv' := [(3, aI 4), (0, aR (some rT)), (1, aR (some (9, 16, 0))), (2, aR (some (9, 16, 0)))]) rfl ?_
  refine ew_sub (List.forall_mem_cons.mpr ⟨lm1, (List.forall_mem_cons.mpr ⟨lm2, (List.forall_mem_cons.mpr ⟨lm3, (List.forall_mem_cons.mpr ⟨lm0, e_nm⟩)⟩)⟩)⟩) ?_
  refine ew_iconst dX8_isAny_5 (inI_of rfl) ?_
  refine ew_istore dX8_isAny_6 (by decide) (lv' := [(4, aI 0), (0, aR (some rT)), (1, aR (some (9, 16, 0))), (2, aR (some (9, 16, 0))), (3, aI 4)]) rfl ?_
  refine ew_sub (List.forall_mem_cons.mpr ⟨lm1, (List.forall_mem_cons.mpr ⟨lm2, (List.forall_mem_cons.mpr ⟨lm3, (List.forall_mem_cons.mpr ⟨lm4, (List.forall_mem_cons.mpr ⟨lm0, e_nm⟩)⟩)⟩)⟩)⟩) ?_
  exact ew_room (Nat.le_refl _) (Nat.zero_le _) (Nat.zero_le _) (ew_sub (List.forall_mem_cons.mpr ⟨lm0, (List.forall_mem_cons.mpr ⟨lm2, (List.forall_mem_cons.mpr ⟨lm3, (List.forall_mem_cons.mpr ⟨lm4, e_nm⟩)⟩)⟩)⟩) H)
def C_X8_isAny (tp : Int → Int) (s0 : MS) (K : Int → Prop) : Prop := ∀ (X8 : Int → Int → Prop), (∀ (x3 : Int) (x4 : Int), B_X8_isAny_8 X8 K x3 x4 tp s0 → X8 x3 x4) → B_X8_isAny_E X8 K tp s0
theorem S_X8_isAny {d : Nat} {V : XV} {g : AH} {tp : Int → Int} {K : Int → Prop} {s0 : MS} (hT : rtp tp g) (H : C_X8_isAny tp s0 K) : Sp mm_X8_isAny (d + 5) 0 0 [aR (some rT), aR (some (9, 16, 0))] (rh V s0 g) (cQ (rh V s0 g) K) :=
  ew_sp rfl (Nat.le_of_ble_eq_true rfl) (T_X8_isAny_E d V g tp hT K s0 (H _ (fun x3 x4 H => T_X8_isAny_8 d V g tp hT K x3 x4 s0 H)))
abbrev mm_X8_go : EM := (yX8_go, cX8_go, 1, (Option.none : Option Jvm.ClassFile.FieldType), [])
theorem me_X8_go : e_mth mm_X8_go 0 := ⟨rfl, q450, q118, by decide +kernel, by decide⟩
def B_X8_go_0 (X0 : MS → Prop) (X80 : MS → Prop) (X191 : MS → Prop) (K : MS → Prop) (tp : Int → Int) (s0 : MS) : Prop :=
  (((s0.1 0) ≤ (s0.1 2) → (∀ s2 : MS, s2 = ms s0 3 (s0.1 2) → (((s2.1 2) < (s2.1 0) → (C_X8_isLetter (s2.1 2) tp s2 (fun r5 => ((r5 = 0 → (C_X8_isDigit (s2.1 2) tp s2 (fun r10 => ((r10 = 0 → (C_X8_byteAt (s2.1 2) tp s2 (fun r15 => (4 < 5 ∧ (C_J3_indexOf 4 r15 (fun r19 => ((0 ≤ r19 → (∀ s23 : MS, s23 = ms s2 4 4 → ((inI ((s23.1 2) + 1)) ∧ (∀ s26 : MS, s26 = ms s23 2 ((s23.1 2) + 1) → K s26)))) ∧ (¬ 0 ≤ r19 → (∀ s28 : MS, s28 = ms s2 4 0 → ((inI ((s28.1 2) + 1)) ∧ (∀ s31 : MS, s31 = ms s28 2 ((s28.1 2) + 1) → K s31))))))))))) ∧ (¬ r10 = 0 → (C_X8_byteAt (s2.1 2) tp s2 (fun r34 => ((inI (r34 - 48)) ∧ (∀ s39 : MS, s39 = ms s2 5 (r34 - 48) → X191 s39))))))))) ∧ (¬ r5 = 0 → (∀ s41 : MS, s41 = ms s2 6 0 → X80 s41)))))) ∧ (¬ (s2.1 2) < (s2.1 0) → (∀ s43 : MS, s43 = ms s2 4 1 → K s43))))) ∧ (¬ (s0.1 0) ≤ (s0.1 2) → (C_X8_byteAt (s0.1 2) tp s0 (fun r45 => ((r45 = 32 → ((inI ((s0.1 2) + 1)) ∧ (∀ s94 : MS, s94 = ms s0 2 ((s0.1 2) + 1) → X0 s94))) ∧ (¬ r45 = 32 → (∀ s50 : MS, s50 = ms s0 3 (s0.1 2) → (((s50.1 2) < (s50.1 0) → (C_X8_isLetter (s50.1 2) tp s50 (fun r53 => ((r53 = 0 → (C_X8_isDigit (s50.1 2) tp s50 (fun r58 => ((r58 = 0 → (C_X8_byteAt (s50.1 2) tp s50 (fun r63 => (4 < 5 ∧ (C_J3_indexOf 4 r63 (fun r67 => ((0 ≤ r67 → (∀ s71 : MS, s71 = ms s50 4 4 → ((inI ((s71.1 2) + 1)) ∧ (∀ s74 : MS, s74 = ms s71 2 ((s71.1 2) + 1) → K s74)))) ∧ (¬ 0 ≤ r67 → (∀ s76 : MS, s76 = ms s50 4 0 → ((inI ((s76.1 2) + 1)) ∧ (∀ s79 : MS, s79 = ms s76 2 ((s76.1 2) + 1) → K s79))))))))))) ∧ (¬ r58 = 0 → (C_X8_byteAt (s50.1 2) tp s50 (fun r82 => ((inI (r82 - 48)) ∧ (∀ s87 : MS, s87 = ms s50 5 (r82 - 48) → X191 s87))))))))) ∧ (¬ r53 = 0 → (∀ s89 : MS, s89 = ms s50 6 0 → X80 s89)))))) ∧ (¬ (s50.1 2) < (s50.1 0) → (∀ s91 : MS, s91 = ms s50 4 1 → K s91))))))))))
def B_X8_go_80 (X0 : MS → Prop) (X80 : MS → Prop) (X191 : MS → Prop) (K : MS → Prop) (tp : Int → Int) (s0 : MS) : Prop :=
  (C_X8_isLetter (s0.1 2) tp s0 (fun r1 => ((r1 = 0 → ((inI ((s0.1 2) - (s0.1 3))) ∧ ((((s0.1 2) - (s0.1 3)) ≤ 6 → (∀ s8 : MS, s8 = ms s0 4 2 → K s8)) ∧ (¬ ((s0.1 2) - (s0.1 3)) ≤ 6 → (∀ s10 : MS, s10 = ms s0 4 0 → K s10))))) ∧ (¬ r1 = 0 → ((inI ((s0.1 2) - (s0.1 3))) ∧ ((6 ≤ ((s0.1 2) - (s0.1 3)) → ((inI ((s0.1 2) + 1)) ∧ (∀ s15 : MS, s15 = ms s0 2 ((s0.1 2) + 1) → X80 s15))) ∧ (¬ 6 ≤ ((s0.1 2) - (s0.1 3)) → (C_X8_byteAt (s0.1 2) tp s0 (fun r17 => (∀ s21 : MS, s21 = ms s0 6 (jlor (jlshl (s0.1 6) 8) r17) → ((inI ((s21.1 2) + 1)) ∧ (∀ s24 : MS, s24 = ms s21 2 ((s21.1 2) + 1) → X80 s24))))))))))))
def B_X8_go_191 (X0 : MS → Prop) (X80 : MS → Prop) (X191 : MS → Prop) (K : MS → Prop) (tp : Int → Int) (s0 : MS) : Prop :=
  (C_X8_isDigit (s0.1 2) tp s0 (fun r1 => ((r1 = 0 → ((inI ((s0.1 2) - (s0.1 3))) ∧ ((((s0.1 2) - (s0.1 3)) ≤ 1 → (∀ s8 : MS, s8 = ms s0 4 3 → K s8)) ∧ (¬ ((s0.1 2) - (s0.1 3)) ≤ 1 → (∀ s10 : MS, s10 = ms s0 4 0 → K s10))))) ∧ (¬ r1 = 0 → ((inI ((s0.1 2) + 1)) ∧ (∀ s13 : MS, s13 = ms s0 2 ((s0.1 2) + 1) → X191 s13))))))
def B_X8_go_E (X0 : MS → Prop) (X80 : MS → Prop) (X191 : MS → Prop) (K : MS → Prop) (tp : Int → Int) (s0 : MS) : Prop :=
  (((s0.1 0) ≤ (s0.1 2) → (∀ s2 : MS, s2 = ms s0 3 (s0.1 2) → (((s2.1 2) < (s2.1 0) → (C_X8_isLetter (s2.1 2) tp s2 (fun r5 => ((r5 = 0 → (C_X8_isDigit (s2.1 2) tp s2 (fun r10 => ((r10 = 0 → (C_X8_byteAt (s2.1 2) tp s2 (fun r15 => (4 < 5 ∧ (C_J3_indexOf 4 r15 (fun r19 => ((0 ≤ r19 → (∀ s23 : MS, s23 = ms s2 4 4 → ((inI ((s23.1 2) + 1)) ∧ (∀ s26 : MS, s26 = ms s23 2 ((s23.1 2) + 1) → K s26)))) ∧ (¬ 0 ≤ r19 → (∀ s28 : MS, s28 = ms s2 4 0 → ((inI ((s28.1 2) + 1)) ∧ (∀ s31 : MS, s31 = ms s28 2 ((s28.1 2) + 1) → K s31))))))))))) ∧ (¬ r10 = 0 → (C_X8_byteAt (s2.1 2) tp s2 (fun r34 => ((inI (r34 - 48)) ∧ (∀ s39 : MS, s39 = ms s2 5 (r34 - 48) → X191 s39))))))))) ∧ (¬ r5 = 0 → (∀ s41 : MS, s41 = ms s2 6 0 → X80 s41)))))) ∧ (¬ (s2.1 2) < (s2.1 0) → (∀ s43 : MS, s43 = ms s2 4 1 → K s43))))) ∧ (¬ (s0.1 0) ≤ (s0.1 2) → (C_X8_byteAt (s0.1 2) tp s0 (fun r45 => ((r45 = 32 → ((inI ((s0.1 2) + 1)) ∧ (∀ s94 : MS, s94 = ms s0 2 ((s0.1 2) + 1) → X0 s94))) ∧ (¬ r45 = 32 → (∀ s50 : MS, s50 = ms s0 3 (s0.1 2) → (((s50.1 2) < (s50.1 0) → (C_X8_isLetter (s50.1 2) tp s50 (fun r53 => ((r53 = 0 → (C_X8_isDigit (s50.1 2) tp s50 (fun r58 => ((r58 = 0 → (C_X8_byteAt (s50.1 2) tp s50 (fun r63 => (4 < 5 ∧ (C_J3_indexOf 4 r63 (fun r67 => ((0 ≤ r67 → (∀ s71 : MS, s71 = ms s50 4 4 → ((inI ((s71.1 2) + 1)) ∧ (∀ s74 : MS, s74 = ms s71 2 ((s71.1 2) + 1) → K s74)))) ∧ (¬ 0 ≤ r67 → (∀ s76 : MS, s76 = ms s50 4 0 → ((inI ((s76.1 2) + 1)) ∧ (∀ s79 : MS, s79 = ms s76 2 ((s76.1 2) + 1) → K s79))))))))))) ∧ (¬ r58 = 0 → (C_X8_byteAt (s50.1 2) tp s50 (fun r82 => ((inI (r82 - 48)) ∧ (∀ s87 : MS, s87 = ms s50 5 (r82 - 48) → X191 s87))))))))) ∧ (¬ r53 = 0 → (∀ s89 : MS, s89 = ms s50 6 0 → X80 s89)))))) ∧ (¬ (s50.1 2) < (s50.1 0) → (∀ s91 : MS, s91 = ms s50 4 1 → K s91))))))))))
def W_X8_go_0 (d : Nat) (V : XV) (g : AH) (tp : Int → Int) (K : MS → Prop) (s0 : MS) : Prop := EW mm_X8_go (d + 4) 0 0 (nQv V g K) 0 [(0, aR (some rT))] [] (rh V s0 g)
def W_X8_go_80 (d : Nat) (V : XV) (g : AH) (tp : Int → Int) (K : MS → Prop) (s0 : MS) : Prop := EW mm_X8_go (d + 4) 0 0 (nQv V g K) 80 [(0, aR (some rT))] [] (rh V s0 g)
def W_X8_go_191 (d : Nat) (V : XV) (g : AH) (tp : Int → Int) (K : MS → Prop) (s0 : MS) : Prop := EW mm_X8_go (d + 4) 0 0 (nQv V g K) 191 [(0, aR (some rT))] [] (rh V s0 g)
set_option maxHeartbeats 4000000 in
theorem T_X8_go_0 (d : Nat) (V : XV) (g : AH) (tp : Int → Int) (hT : rtp tp g) (K : MS → Prop) (s0 : MS) (H : B_X8_go_0 (W_X8_go_0 d V g tp K) (W_X8_go_80 d V g tp K) (W_X8_go_191 d V g tp K) K tp s0) : EW mm_X8_go (d + 4) 0 0 (nQv V g K) 0 [(0, aR (some rT))] [] (rh V s0 g) := by
  refine ew_aload_n dX8_go_0 rfl lm0 ?_
  refine rd_get (v := aI (s0.1 2)) dX8_go_1 (e_fl.a q420) rf_2 rfl ?_
  refine ew_aload_n dX8_go_4 rfl lm0 ?_
  refine rd_get (v := aI (s0.1 0)) dX8_go_5 (e_fl.a q418) rf_0 rfl ?_
  refine ew_icmp_ge (tgt := 37) dX8_go_8 (by decide) (fun c1 => ?_) (fun c1 => ?_)
  · replace H := H.1 c1
    refine ew_aload_n dX8_go_37 rfl lm0 ?_
    refine ew_aload_n dX8_go_38 rfl lm0 ?_
    refine rd_get (v := aI (s0.1 2)) dX8_go_39 (e_fl.a q420) rf_2 rfl ?_
    refine rd_put dX8_go_42 (e_fl.a q421) rf_3 rfl (by decide +kernel) (fun s2 e3 => ?_)
    replace H := H s2 e3
    refine ew_aload_n dX8_go_45 rfl lm0 ?_
    refine rd_get (v := aI (s2.1 2)) dX8_go_46 (e_fl.a q420) rf_2 rfl ?_
    refine ew_aload_n dX8_go_49 rfl lm0 ?_
    refine rd_get (v := aI (s2.1 0)) dX8_go_50 (e_fl.a q418) rf_0 rfl ?_
    refine ew_icmp_lt (tgt := 64) dX8_go_53 (by decide) (fun c4 => ?_) (fun c4 => ?_)
    · replace H := H.1 c4
      refine ew_aload_n dX8_go_64 rfl lm0 ?_
      refine ew_aload_n dX8_go_65 rfl lm0 ?_
      refine rd_get (v := aI (s2.1 2)) dX8_go_66 (e_fl.a q420) rf_2 rfl ?_
      refine ew_callV (d := d + 3) (as := [aI (s2.1 2)]) rfl dX8_go_69 me_X8_isLetter rfl (ci := 6) rfl rfl rh_T (Or.inl q455) q457 qs4 (Nat.le_of_ble_eq_true rfl) (Nat.zero_le _) (Nat.zero_le _) (S_X8_isLetter (d := d + 2) hT H) (fun o h' hq7 _ => ?_) (fun E i h' q _ => (cQ_no q).elim)
      obtain ⟨r5, E8, rfl, H⟩ := hq7
      cases E8
      refine ew_if_eq (tgt := 165) dX8_go_72 (by decide) (fun c9 => ?_) (fun c9 => ?_)
      · replace H := H.1 c9
        refine ew_aload_n dX8_go_165 rfl lm0 ?_
        refine ew_aload_n dX8_go_166 rfl lm0 ?_
        refine rd_get (v := aI (s2.1 2)) dX8_go_167 (e_fl.a q420) rf_2 rfl ?_
        refine ew_callV (d := d + 3) (as := [aI (s2.1 2)]) rfl dX8_go_170 me_X8_isDigit rfl (ci := 6) rfl rfl rh_T (Or.inl q460) q462 qs5 (Nat.le_of_ble_eq_true rfl) (Nat.zero_le _) (Nat.zero_le _) (S_X8_isDigit (d := d + 2) hT H) (fun o h' hq12 _ => ?_) (fun E i h' q _ => (cQ_no q).elim)
        obtain ⟨r10, E13, rfl, H⟩ := hq12
        cases E13
        refine ew_if_eq (tgt := 240) dX8_go_173 (by decide) (fun c14 => ?_) (fun c14 => ?_)
        · replace H := H.1 c14
          refine ew_aload_n dX8_go_240 rfl lm0 ?_
          refine ew_ldcS (i := 4) dX8_go_241 lm0 ?_
          refine ew_aload_n dX8_go_243 rfl lm0 ?_
          refine ew_aload_n dX8_go_244 rfl lm0 ?_
          refine rd_get (v := aI (s2.1 2)) dX8_go_245 (e_fl.a q420) rf_2 rfl ?_
          refine ew_callV (d := d + 3) (as := [aI (s2.1 2)]) rfl dX8_go_248 me_X8_byteAt rfl (ci := 6) rfl rfl rh_T (Or.inl q451) q453 qs3 (Nat.le_of_ble_eq_true rfl) (Nat.zero_le _) (Nat.zero_le _) (S_X8_byteAt (d := d + 3) hT H) (fun o h' hq17 _ => ?_) (fun E i h' q _ => (cQ_no q).elim)
          obtain ⟨r15, E18, rfl, H⟩ := hq17
          cases E18
          obtain ⟨hx33, H⟩ := H
          refine ew_callVk hx33 (d := d + 3) (as := [aI r15]) rfl dX8_go_251 me_J3_indexOf rfl rfl q465 q466 q467 (Nat.le_of_ble_eq_true rfl) (Nat.zero_le _) (Nat.zero_le _) (S_J3_indexOf (d := d + 0) H) (fun o h' hq20 _ => ?_) (fun E i h' q _ => (cQ_no q).elim)
          obtain ⟨r19, E21, rfl, H⟩ := hq20
          cases E21
          refine ew_if_ge (tgt := 261) dX8_go_254 (by decide) (fun c22 => ?_) (fun c22 => ?_)
          · replace H := H.1 c22
            refine ew_iconst dX8_go_261 (inI_of rfl) ?_
            refine rd_put dX8_go_262 (e_fl.a q422) rf_4 rfl (by decide +kernel) (fun s23 e24 => ?_)
            replace H := H s23 e24
            refine ew_aload_n dX8_go_265 rfl lm0 ?_
            refine ew_dup dX8_go_266 rfl ?_
            refine rd_get (v := aI (s23.1 2)) dX8_go_267 (e_fl.a q420) rf_2 rfl ?_
            refine ew_iconst dX8_go_270 (inI_of rfl) ?_
            obtain ⟨v25, H⟩ := H
            refine ew_iadd dX8_go_271 v25 ?_
            refine rd_put dX8_go_272 (e_fl.a q420) rf_2 rfl (by decide +kernel) (fun s26 e27 => ?_)
            replace H := H s26 e27
            exact ew_ret (o := none) rfl ⟨_, rfl, rfl, H⟩ ⟨rfl, dX8_go_275⟩
          · replace H := H.2 c22
            refine ew_iconst dX8_go_257 (inI_of rfl) ?_
            refine ew_goto (tgt := 262) dX8_go_258 (by decide) ?_
            refine rd_put dX8_go_262 (e_fl.a q422) rf_4 rfl (by decide +kernel) (fun s28 e29 => ?_)
            replace H := H s28 e29
            refine ew_aload_n dX8_go_265 rfl lm0 ?_
            refine ew_dup dX8_go_266 rfl ?_
            refine rd_get (v := aI (s28.1 2)) dX8_go_267 (e_fl.a q420) rf_2 rfl ?_
            refine ew_iconst dX8_go_270 (inI_of rfl) ?_
            obtain ⟨v30, H⟩ := H
            refine ew_iadd dX8_go_271 v30 ?_
            refine rd_put dX8_go_272 (e_fl.a q420) rf_2 rfl (by decide +kernel) (fun s31 e32 => ?_)
            replace H := H s31 e32
            exact ew_ret (o := none) rfl ⟨_, rfl, rfl, H⟩ ⟨rfl, dX8_go_275⟩
        · replace H := H.2 c14
          refine ew_aload_n dX8_go_176 rfl lm0 ?_
          refine ew_aload_n dX8_go_177 rfl lm0 ?_
          refine ew_aload_n dX8_go_178 rfl lm0 ?_
          refine rd_get (v := aI (s2.1 2)) dX8_go_179 (e_fl.a q420) rf_2 rfl ?_
          refine ew_callV (d := d + 3) (as := [aI (s2.1 2)]) rfl dX8_go_182 me_X8_byteAt rfl (ci := 6) rfl rfl rh_T (Or.inl q451) q453 qs3 (Nat.le_of_ble_eq_true rfl) (Nat.zero_le _) (Nat.zero_le _) (S_X8_byteAt (d := d + 3) hT H) (fun o h' hq36 _ => ?_) (fun E i h' q _ => (cQ_no q).elim)
          obtain ⟨r34, E37, rfl, H⟩ := hq36
          cases E37
          refine ew_bipush dX8_go_185 (inI_of rfl) (by decide) ?_
          obtain ⟨v38, H⟩ := H
          refine ew_isub dX8_go_187 v38 ?_
          refine rd_put dX8_go_188 (e_fl.a q423) rf_5 rfl (by decide +kernel) (fun s39 e40 => ?_)
          replace H := H s39 e40
          exact ew_room (Nat.le_refl _) (Nat.zero_le _) (Nat.zero_le _) (ew_sub (List.forall_mem_cons.mpr ⟨lm0, e_nm⟩) H)
      · replace H := H.2 c9
        refine ew_aload_n dX8_go_75 rfl lm0 ?_
        refine ew_lconst (v := 0) dX8_go_76 (inL_of rfl) (by decide) ?_
        refine rd_putL dX8_go_77 (e_fl.a q424) rf_6 (by decide +kernel) (fun s41 e42 => ?_)
        replace H := H s41 e42
        exact ew_room (Nat.le_refl _) (Nat.zero_le _) (Nat.zero_le _) (ew_sub (List.forall_mem_cons.mpr ⟨lm0, e_nm⟩) H)
    · replace H := H.2 c4
      refine ew_aload_n dX8_go_56 rfl lm0 ?_
      refine ew_iconst dX8_go_57 (inI_of rfl) ?_
      refine rd_put dX8_go_58 (e_fl.a q422) rf_4 rfl (by decide +kernel) (fun s43 e44 => ?_)
      replace H := H s43 e44
      refine ew_goto (tgt := 275) dX8_go_61 (by decide) ?_
      exact ew_ret (o := none) rfl ⟨_, rfl, rfl, H⟩ ⟨rfl, dX8_go_275⟩
  · replace H := H.2 c1
    refine ew_aload_n dX8_go_11 rfl lm0 ?_
    refine ew_aload_n dX8_go_12 rfl lm0 ?_
    refine rd_get (v := aI (s0.1 2)) dX8_go_13 (e_fl.a q420) rf_2 rfl ?_
    refine ew_callV (d := d + 3) (as := [aI (s0.1 2)]) rfl dX8_go_16 me_X8_byteAt rfl (ci := 6) rfl rfl rh_T (Or.inl q451) q453 qs3 (Nat.le_of_ble_eq_true rfl) (Nat.zero_le _) (Nat.zero_le _) (S_X8_byteAt (d := d + 3) hT H) (fun o h' hq47 _ => ?_) (fun E i h' q _ => (cQ_no q).elim)
    obtain ⟨r45, E48, rfl, H⟩ := hq47
    cases E48
    refine ew_bipush dX8_go_19 (inI_of rfl) (by decide) ?_
    refine ew_icmp_ne (tgt := 37) dX8_go_21 (by decide) (fun c49 => ?_) (fun c49 => ?_)
    · replace H := H.2 c49
      refine ew_aload_n dX8_go_37 rfl lm0 ?_
      refine ew_aload_n dX8_go_38 rfl lm0 ?_
      refine rd_get (v := aI (s0.1 2)) dX8_go_39 (e_fl.a q420) rf_2 rfl ?_
      refine rd_put dX8_go_42 (e_fl.a q421) rf_3 rfl (by decide +kernel) (fun s50 e51 => ?_)
      replace H := H s50 e51
      refine ew_aload_n dX8_go_45 rfl lm0 ?_
      refine rd_get (v := aI (s50.1 2)) dX8_go_46 (e_fl.a q420) rf_2 rfl ?_
      refine ew_aload_n dX8_go_49 rfl lm0 ?_
      refine rd_get (v := aI (s50.1 0)) dX8_go_50 (e_fl.a q418) rf_0 rfl ?_
      refine ew_icmp_lt (tgt := 64) dX8_go_53 (by decide) (fun c52 => ?_) (fun c52 => ?_)
      · replace H := H.1 c52
        refine ew_aload_n dX8_go_64 rfl lm0 ?_
        refine ew_aload_n dX8_go_65 rfl lm0 ?_
        refine rd_get (v := aI (s50.1 2)) dX8_go_66 (e_fl.a q420) rf_2 rfl ?_
        refine ew_callV (d := d + 3) (as := [aI (s50.1 2)]) rfl dX8_go_69 me_X8_isLetter rfl (ci := 6) rfl rfl rh_T (Or.inl q455) q457 qs4 (Nat.le_of_ble_eq_true rfl) (Nat.zero_le _) (Nat.zero_le _) (S_X8_isLetter (d := d + 2) hT H) (fun o h' hq55 _ => ?_) (fun E i h' q _ => (cQ_no q).elim)
        obtain ⟨r53, E56, rfl, H⟩ := hq55
        cases E56
        refine ew_if_eq (tgt := 165) dX8_go_72 (by decide) (fun c57 => ?_) (fun c57 => ?_)
        · replace H := H.1 c57
          refine ew_aload_n dX8_go_165 rfl lm0 ?_
          refine ew_aload_n dX8_go_166 rfl lm0 ?_
          refine rd_get (v := aI (s50.1 2)) dX8_go_167 (e_fl.a q420) rf_2 rfl ?_
          refine ew_callV (d := d + 3) (as := [aI (s50.1 2)]) rfl dX8_go_170 me_X8_isDigit rfl (ci := 6) rfl rfl rh_T (Or.inl q460) q462 qs5 (Nat.le_of_ble_eq_true rfl) (Nat.zero_le _) (Nat.zero_le _) (S_X8_isDigit (d := d + 2) hT H) (fun o h' hq60 _ => ?_) (fun E i h' q _ => (cQ_no q).elim)
          obtain ⟨r58, E61, rfl, H⟩ := hq60
          cases E61
          refine ew_if_eq (tgt := 240) dX8_go_173 (by decide) (fun c62 => ?_) (fun c62 => ?_)
          · replace H := H.1 c62
            refine ew_aload_n dX8_go_240 rfl lm0 ?_
            refine ew_ldcS (i := 4) dX8_go_241 lm0 ?_
            refine ew_aload_n dX8_go_243 rfl lm0 ?_
            refine ew_aload_n dX8_go_244 rfl lm0 ?_
            refine rd_get (v := aI (s50.1 2)) dX8_go_245 (e_fl.a q420) rf_2 rfl ?_
            refine ew_callV (d := d + 3) (as := [aI (s50.1 2)]) rfl dX8_go_248 me_X8_byteAt rfl (ci := 6) rfl rfl rh_T (Or.inl q451) q453 qs3 (Nat.le_of_ble_eq_true rfl) (Nat.zero_le _) (Nat.zero_le _) (S_X8_byteAt (d := d + 3) hT H) (fun o h' hq65 _ => ?_) (fun E i h' q _ => (cQ_no q).elim)
            obtain ⟨r63, E66, rfl, H⟩ := hq65
            cases E66
            obtain ⟨hx81, H⟩ := H
            refine ew_callVk hx81 (d := d + 3) (as := [aI r63]) rfl dX8_go_251 me_J3_indexOf rfl rfl q465 q466 q467 (Nat.le_of_ble_eq_true rfl) (Nat.zero_le _) (Nat.zero_le _) (S_J3_indexOf (d := d + 0) H) (fun o h' hq68 _ => ?_) (fun E i h' q _ => (cQ_no q).elim)
            obtain ⟨r67, E69, rfl, H⟩ := hq68
            cases E69
            refine ew_if_ge (tgt := 261) dX8_go_254 (by decide) (fun c70 => ?_) (fun c70 => ?_)
            · replace H := H.1 c70
              refine ew_iconst dX8_go_261 (inI_of rfl) ?_
              refine rd_put dX8_go_262 (e_fl.a q422) rf_4 rfl (by decide +kernel) (fun s71 e72 => ?_)
              replace H := H s71 e72
              refine ew_aload_n dX8_go_265 rfl lm0 ?_
              refine ew_dup dX8_go_266 rfl ?_
              refine rd_get (v := aI (s71.1 2)) dX8_go_267 (e_fl.a q420) rf_2 rfl ?_
              refine ew_iconst dX8_go_270 (inI_of rfl) ?_
              obtain ⟨v73, H⟩ := H
              refine ew_iadd dX8_go_271 v73 ?_
              refine rd_put dX8_go_272 (e_fl.a q420) rf_2 rfl (by decide +kernel) (fun s74 e75 => ?_)
              replace H := H s74 e75
              exact ew_ret (o := none) rfl ⟨_, rfl, rfl, H⟩ ⟨rfl, dX8_go_275⟩
            · replace H := H.2 c70
              refine ew_iconst dX8_go_257 (inI_of rfl) ?_
              refine ew_goto (tgt := 262) dX8_go_258 (by decide) ?_
              refine rd_put dX8_go_262 (e_fl.a q422) rf_4 rfl (by decide +kernel) (fun s76 e77 => ?_)
              replace H := H s76 e77
              refine ew_aload_n dX8_go_265 rfl lm0 ?_
              refine ew_dup dX8_go_266 rfl ?_
              refine rd_get (v := aI (s76.1 2)) dX8_go_267 (e_fl.a q420) rf_2 rfl ?_
              refine ew_iconst dX8_go_270 (inI_of rfl) ?_
              obtain ⟨v78, H⟩ := H
              refine ew_iadd dX8_go_271 v78 ?_
              refine rd_put dX8_go_272 (e_fl.a q420) rf_2 rfl (by decide +kernel) (fun s79 e80 => ?_)
              replace H := H s79 e80
              exact ew_ret (o := none) rfl ⟨_, rfl, rfl, H⟩ ⟨rfl, dX8_go_275⟩
          · replace H := H.2 c62
            refine ew_aload_n dX8_go_176 rfl lm0 ?_
            refine ew_aload_n dX8_go_177 rfl lm0 ?_
            refine ew_aload_n dX8_go_178 rfl lm0 ?_
            refine rd_get (v := aI (s50.1 2)) dX8_go_179 (e_fl.a q420) rf_2 rfl ?_
            refine ew_callV (d := d + 3) (as := [aI (s50.1 2)]) rfl dX8_go_182 me_X8_byteAt rfl (ci := 6) rfl rfl rh_T (Or.inl q451) q453 qs3 (Nat.le_of_ble_eq_true rfl) (Nat.zero_le _) (Nat.zero_le _) (S_X8_byteAt (d := d + 3) hT H) (fun o h' hq84 _ => ?_) (fun E i h' q _ => (cQ_no q).elim)
            obtain ⟨r82, E85, rfl, H⟩ := hq84
            cases E85
            refine ew_bipush dX8_go_185 (inI_of rfl) (by decide) ?_
            obtain ⟨v86, H⟩ := H
            refine ew_isub dX8_go_187 v86 ?_
            refine rd_put dX8_go_188 (e_fl.a q423) rf_5 rfl (by decide +kernel) (fun s87 e88 => ?_)
            replace H := H s87 e88
            exact ew_room (Nat.le_refl _) (Nat.zero_le _) (Nat.zero_le _) (ew_sub (List.forall_mem_cons.mpr ⟨lm0, e_nm⟩) H)
        · replace H := H.2 c57
          refine ew_aload_n dX8_go_75 rfl lm0 ?_
          refine ew_lconst (v := 0) dX8_go_76 (inL_of rfl) (by decide) ?_
          refine rd_putL dX8_go_77 (e_fl.a q424) rf_6 (by decide +kernel) (fun s89 e90 => ?_)
          replace H := H s89 e90
          exact ew_room (Nat.le_refl _) (Nat.zero_le _) (Nat.zero_le _) (ew_sub (List.forall_mem_cons.mpr ⟨lm0, e_nm⟩) H)
      · replace H := H.2 c52
        refine ew_aload_n dX8_go_56 rfl lm0 ?_
        refine ew_iconst dX8_go_57 (inI_of rfl) ?_
        refine rd_put dX8_go_58 (e_fl.a q422) rf_4 rfl (by decide +kernel) (fun s91 e92 => ?_)
        replace H := H s91 e92
        refine ew_goto (tgt := 275) dX8_go_61 (by decide) ?_
        exact ew_ret (o := none) rfl ⟨_, rfl, rfl, H⟩ ⟨rfl, dX8_go_275⟩
    · replace H := H.1 c49
      refine ew_aload_n dX8_go_24 rfl lm0 ?_
      refine ew_dup dX8_go_25 rfl ?_
      refine rd_get (v := aI (s0.1 2)) dX8_go_26 (e_fl.a q420) rf_2 rfl ?_
      refine ew_iconst dX8_go_29 (inI_of rfl) ?_
      obtain ⟨v93, H⟩ := H
      refine ew_iadd dX8_go_30 v93 ?_
      refine rd_put dX8_go_31 (e_fl.a q420) rf_2 rfl (by decide +kernel) (fun s94 e95 => ?_)
      replace H := H s94 e95
      refine ew_goto (tgt := 0) dX8_go_34 (by decide) ?_
      exact ew_room (Nat.le_refl _) (Nat.zero_le _) (Nat.zero_le _) (ew_sub (List.forall_mem_cons.mpr ⟨lm0, e_nm⟩) H)
set_option maxHeartbeats 4000000 in
theorem T_X8_go_80 (d : Nat) (V : XV) (g : AH) (tp : Int → Int) (hT : rtp tp g) (K : MS → Prop) (s0 : MS) (H : B_X8_go_80 (W_X8_go_0 d V g tp K) (W_X8_go_80 d V g tp K) (W_X8_go_191 d V g tp K) K tp s0) : EW mm_X8_go (d + 4) 0 0 (nQv V g K) 80 [(0, aR (some rT))] [] (rh V s0 g) := by
  refine ew_aload_n dX8_go_80 rfl lm0 ?_
  refine ew_aload_n dX8_go_81 rfl lm0 ?_
  refine rd_get (v := aI (s0.1 2)) dX8_go_82 (e_fl.a q420) rf_2 rfl ?_
  refine ew_callV (d := d + 3) (as := [aI (s0.1 2)]) rfl dX8_go_85 me_X8_isLetter rfl (ci := 6) rfl rfl rh_T (Or.inl q455) q457 qs4 (Nat.le_of_ble_eq_true rfl) (Nat.zero_le _) (Nat.zero_le _) (S_X8_isLetter (d := d + 2) hT H) (fun o h' hq3 _ => ?_) (fun E i h' q _ => (cQ_no q).elim)
  obtain ⟨r1, E4, rfl, H⟩ := hq3
  cases E4
  refine ew_if_eq (tgt := 139) dX8_go_88 (by decide) (fun c5 => ?_) (fun c5 => ?_)
  · replace H := H.1 c5
    refine ew_aload_n dX8_go_139 rfl lm0 ?_
    refine ew_aload_n dX8_go_140 rfl lm0 ?_
    refine rd_get (v := aI (s0.1 2)) dX8_go_141 (e_fl.a q420) rf_2 rfl ?_
    refine ew_aload_n dX8_go_144 rfl lm0 ?_
    refine rd_get (v := aI (s0.1 3)) dX8_go_145 (e_fl.a q421) rf_3 rfl ?_
    obtain ⟨v6, H⟩ := H
    refine ew_isub dX8_go_148 v6 ?_
    refine ew_bipush dX8_go_149 (inI_of rfl) (by decide) ?_
    refine ew_icmp_le (tgt := 158) dX8_go_151 (by decide) (fun c7 => ?_) (fun c7 => ?_)
    · replace H := H.1 c7
      refine ew_iconst dX8_go_158 (inI_of rfl) ?_
      refine rd_put dX8_go_159 (e_fl.a q422) rf_4 rfl (by decide +kernel) (fun s8 e9 => ?_)
      replace H := H s8 e9
      refine ew_goto (tgt := 275) dX8_go_162 (by decide) ?_
      exact ew_ret (o := none) rfl ⟨_, rfl, rfl, H⟩ ⟨rfl, dX8_go_275⟩
    · replace H := H.2 c7
      refine ew_iconst dX8_go_154 (inI_of rfl) ?_
      refine ew_goto (tgt := 159) dX8_go_155 (by decide) ?_
      refine rd_put dX8_go_159 (e_fl.a q422) rf_4 rfl (by decide +kernel) (fun s10 e11 => ?_)
      replace H := H s10 e11
      refine ew_goto (tgt := 275) dX8_go_162 (by decide) ?_
      exact ew_ret (o := none) rfl ⟨_, rfl, rfl, H⟩ ⟨rfl, dX8_go_275⟩
  · replace H := H.2 c5
    refine ew_aload_n dX8_go_91 rfl lm0 ?_
    refine rd_get (v := aI (s0.1 2)) dX8_go_92 (e_fl.a q420) rf_2 rfl ?_
    refine ew_aload_n dX8_go_95 rfl lm0 ?_
    refine rd_get (v := aI (s0.1 3)) dX8_go_96 (e_fl.a q421) rf_3 rfl ?_
    obtain ⟨v12, H⟩ := H
    refine ew_isub dX8_go_99 v12 ?_
    refine ew_bipush dX8_go_100 (inI_of rfl) (by decide) ?_
    refine ew_icmp_ge (tgt := 126) dX8_go_102 (by decide) (fun c13 => ?_) (fun c13 => ?_)
    · replace H := H.1 c13
      refine ew_aload_n dX8_go_126 rfl lm0 ?_
      refine ew_dup dX8_go_127 rfl ?_
      refine rd_get (v := aI (s0.1 2)) dX8_go_128 (e_fl.a q420) rf_2 rfl ?_
      refine ew_iconst dX8_go_131 (inI_of rfl) ?_
      obtain ⟨v14, H⟩ := H
      refine ew_iadd dX8_go_132 v14 ?_
      refine rd_put dX8_go_133 (e_fl.a q420) rf_2 rfl (by decide +kernel) (fun s15 e16 => ?_)
      replace H := H s15 e16
      refine ew_goto (tgt := 80) dX8_go_136 (by decide) ?_
      exact ew_room (Nat.le_refl _) (Nat.zero_le _) (Nat.zero_le _) (ew_sub (List.forall_mem_cons.mpr ⟨lm0, e_nm⟩) H)
    · replace H := H.2 c13
      refine ew_aload_n dX8_go_105 rfl lm0 ?_
      refine ew_aload_n dX8_go_106 rfl lm0 ?_
      refine rd_get (v := aL (s0.1 6)) dX8_go_107 (e_fl.a q424) rf_6 rfl ?_
      refine ew_bipush dX8_go_110 (inI_of rfl) (by decide) ?_
      refine ew_lshl dX8_go_112 ?_
      refine ew_aload_n dX8_go_113 rfl lm0 ?_
      refine ew_aload_n dX8_go_114 rfl lm0 ?_
      refine rd_get (v := aI (s0.1 2)) dX8_go_115 (e_fl.a q420) rf_2 rfl ?_
      refine ew_callV (d := d + 3) (as := [aI (s0.1 2)]) rfl dX8_go_118 me_X8_byteAt rfl (ci := 6) rfl rfl rh_T (Or.inl q451) q453 qs3 (Nat.le_of_ble_eq_true rfl) (Nat.zero_le _) (Nat.zero_le _) (S_X8_byteAt (d := d + 3) hT H) (fun o h' hq19 _ => ?_) (fun E i h' q _ => (cQ_no q).elim)
      obtain ⟨r17, E20, rfl, H⟩ := hq19
      cases E20
      refine ew_i2l dX8_go_121 ?_
      refine ew_lor dX8_go_122 ?_
      refine rd_putL dX8_go_123 (e_fl.a q424) rf_6 (by decide +kernel) (fun s21 e22 => ?_)
      replace H := H s21 e22
      refine ew_aload_n dX8_go_126 rfl lm0 ?_
      refine ew_dup dX8_go_127 rfl ?_
      refine rd_get (v := aI (s21.1 2)) dX8_go_128 (e_fl.a q420) rf_2 rfl ?_
      refine ew_iconst dX8_go_131 (inI_of rfl) ?_
      obtain ⟨v23, H⟩ := H
      refine ew_iadd dX8_go_132 v23 ?_
      refine rd_put dX8_go_133 (e_fl.a q420) rf_2 rfl (by decide +kernel) (fun s24 e25 => ?_)
      replace H := H s24 e25
      refine ew_goto (tgt := 80) dX8_go_136 (by decide) ?_
      exact ew_room (Nat.le_refl _) (Nat.zero_le _) (Nat.zero_le _) (ew_sub (List.forall_mem_cons.mpr ⟨lm0, e_nm⟩) H)
set_option maxHeartbeats 4000000 in
theorem T_X8_go_191 (d : Nat) (V : XV) (g : AH) (tp : Int → Int) (hT : rtp tp g) (K : MS → Prop) (s0 : MS) (H : B_X8_go_191 (W_X8_go_0 d V g tp K) (W_X8_go_80 d V g tp K) (W_X8_go_191 d V g tp K) K tp s0) : EW mm_X8_go (d + 4) 0 0 (nQv V g K) 191 [(0, aR (some rT))] [] (rh V s0 g) := by
  refine ew_aload_n dX8_go_191 rfl lm0 ?_
  refine ew_aload_n dX8_go_192 rfl lm0 ?_
  refine rd_get (v := aI (s0.1 2)) dX8_go_193 (e_fl.a q420) rf_2 rfl ?_
  refine ew_callV (d := d + 3) (as := [aI (s0.1 2)]) rfl dX8_go_196 me_X8_isDigit rfl (ci := 6) rfl rfl rh_T (Or.inl q460) q462 qs5 (Nat.le_of_ble_eq_true rfl) (Nat.zero_le _) (Nat.zero_le _) (S_X8_isDigit (d := d + 2) hT H) (fun o h' hq3 _ => ?_) (fun E i h' q _ => (cQ_no q).elim)
  obtain ⟨r1, E4, rfl, H⟩ := hq3
  cases E4
  refine ew_if_eq (tgt := 215) dX8_go_199 (by decide) (fun c5 => ?_) (fun c5 => ?_)
  · replace H := H.1 c5
    refine ew_aload_n dX8_go_215 rfl lm0 ?_
    refine ew_aload_n dX8_go_216 rfl lm0 ?_
    refine rd_get (v := aI (s0.1 2)) dX8_go_217 (e_fl.a q420) rf_2 rfl ?_
    refine ew_aload_n dX8_go_220 rfl lm0 ?_
    refine rd_get (v := aI (s0.1 3)) dX8_go_221 (e_fl.a q421) rf_3 rfl ?_
    obtain ⟨v6, H⟩ := H
    refine ew_isub dX8_go_224 v6 ?_
    refine ew_iconst dX8_go_225 (inI_of rfl) ?_
    refine ew_icmp_le (tgt := 233) dX8_go_226 (by decide) (fun c7 => ?_) (fun c7 => ?_)
    · replace H := H.1 c7
      refine ew_iconst dX8_go_233 (inI_of rfl) ?_
      refine rd_put dX8_go_234 (e_fl.a q422) rf_4 rfl (by decide +kernel) (fun s8 e9 => ?_)
      replace H := H s8 e9
      refine ew_goto (tgt := 275) dX8_go_237 (by decide) ?_
      exact ew_ret (o := none) rfl ⟨_, rfl, rfl, H⟩ ⟨rfl, dX8_go_275⟩
    · replace H := H.2 c7
      refine ew_iconst dX8_go_229 (inI_of rfl) ?_
      refine ew_goto (tgt := 234) dX8_go_230 (by decide) ?_
      refine rd_put dX8_go_234 (e_fl.a q422) rf_4 rfl (by decide +kernel) (fun s10 e11 => ?_)
      replace H := H s10 e11
      refine ew_goto (tgt := 275) dX8_go_237 (by decide) ?_
      exact ew_ret (o := none) rfl ⟨_, rfl, rfl, H⟩ ⟨rfl, dX8_go_275⟩
  · replace H := H.2 c5
    refine ew_aload_n dX8_go_202 rfl lm0 ?_
    refine ew_dup dX8_go_203 rfl ?_
    refine rd_get (v := aI (s0.1 2)) dX8_go_204 (e_fl.a q420) rf_2 rfl ?_
    refine ew_iconst dX8_go_207 (inI_of rfl) ?_
    obtain ⟨v12, H⟩ := H
    refine ew_iadd dX8_go_208 v12 ?_
    refine rd_put dX8_go_209 (e_fl.a q420) rf_2 rfl (by decide +kernel) (fun s13 e14 => ?_)
    replace H := H s13 e14
    refine ew_goto (tgt := 191) dX8_go_212 (by decide) ?_
    exact ew_room (Nat.le_refl _) (Nat.zero_le _) (Nat.zero_le _) (ew_sub (List.forall_mem_cons.mpr ⟨lm0, e_nm⟩) H)
set_option maxHeartbeats 4000000 in
theorem T_X8_go_E (d : Nat) (V : XV) (g : AH) (tp : Int → Int) (hT : rtp tp g) (K : MS → Prop) (s0 : MS) (H : B_X8_go_E (W_X8_go_0 d V g tp K) (W_X8_go_80 d V g tp K) (W_X8_go_191 d V g tp K) K tp s0) : EW mm_X8_go (d + 4) 0 0 (nQv V g K) 0 [(0, aR (some rT))] [] (rh V s0 g) := by
  refine ew_aload_n dX8_go_0 rfl lm0 ?_
  refine rd_get (v := aI (s0.1 2)) dX8_go_1 (e_fl.a q420) rf_2 rfl ?_
  refine ew_aload_n dX8_go_4 rfl lm0 ?_
  refine rd_get (v := aI (s0.1 0)) dX8_go_5 (e_fl.a q418) rf_0 rfl ?_
  refine ew_icmp_ge (tgt := 37) dX8_go_8 (by decide) (fun c1 => ?_) (fun c1 => ?_)
  · replace H := H.1 c1
    refine ew_aload_n dX8_go_37 rfl lm0 ?_
    refine ew_aload_n dX8_go_38 rfl lm0 ?_
    refine rd_get (v := aI (s0.1 2)) dX8_go_39 (e_fl.a q420) rf_2 rfl ?_
    refine rd_put dX8_go_42 (e_fl.a q421) rf_3 rfl (by decide +kernel) (fun s2 e3 => ?_)
    replace H := H s2 e3
    refine ew_aload_n dX8_go_45 rfl lm0 ?_
    refine rd_get (v := aI (s2.1 2)) dX8_go_46 (e_fl.a q420) rf_2 rfl ?_
    refine ew_aload_n dX8_go_49 rfl lm0 ?_
    refine rd_get (v := aI (s2.1 0)) dX8_go_50 (e_fl.a q418) rf_0 rfl ?_
    refine ew_icmp_lt (tgt := 64) dX8_go_53 (by decide) (fun c4 => ?_) (fun c4 => ?_)
    · replace H := H.1 c4
      refine ew_aload_n dX8_go_64 rfl lm0 ?_
      refine ew_aload_n dX8_go_65 rfl lm0 ?_
      refine rd_get (v := aI (s2.1 2)) dX8_go_66 (e_fl.a q420) rf_2 rfl ?_
      refine ew_callV (d := d + 3) (as := [aI (s2.1 2)]) rfl dX8_go_69 me_X8_isLetter rfl (ci := 6) rfl rfl rh_T (Or.inl q455) q457 qs4 (Nat.le_of_ble_eq_true rfl) (Nat.zero_le _) (Nat.zero_le _) (S_X8_isLetter (d := d + 2) hT H) (fun o h' hq7 _ => ?_) (fun E i h' q _ => (cQ_no q).elim)
      obtain ⟨r5, E8, rfl, H⟩ := hq7
      cases E8
      refine ew_if_eq (tgt := 165) dX8_go_72 (by decide) (fun c9 => ?_) (fun c9 => ?_)
      · replace H := H.1 c9
        refine ew_aload_n dX8_go_165 rfl lm0 ?_
        refine ew_aload_n dX8_go_166 rfl lm0 ?_
        refine rd_get (v := aI (s2.1 2)) dX8_go_167 (e_fl.a q420) rf_2 rfl ?_
        refine ew_callV (d := d + 3) (as := [aI (s2.1 2)]) rfl dX8_go_170 me_X8_isDigit rfl (ci := 6) rfl rfl rh_T (Or.inl q460) q462 qs5 (Nat.le_of_ble_eq_true rfl) (Nat.zero_le _) (Nat.zero_le _) (S_X8_isDigit (d := d + 2) hT H) (fun o h' hq12 _ => ?_) (fun E i h' q _ => (cQ_no q).elim)
        obtain ⟨r10, E13, rfl, H⟩ := hq12
        cases E13
        refine ew_if_eq (tgt := 240) dX8_go_173 (by decide) (fun c14 => ?_) (fun c14 => ?_)
        · replace H := H.1 c14
          refine ew_aload_n dX8_go_240 rfl lm0 ?_
          refine ew_ldcS (i := 4) dX8_go_241 lm0 ?_
          refine ew_aload_n dX8_go_243 rfl lm0 ?_
          refine ew_aload_n dX8_go_244 rfl lm0 ?_
          refine rd_get (v := aI (s2.1 2)) dX8_go_245 (e_fl.a q420) rf_2 rfl ?_
          refine ew_callV (d := d + 3) (as := [aI (s2.1 2)]) rfl dX8_go_248 me_X8_byteAt rfl (ci := 6) rfl rfl rh_T (Or.inl q451) q453 qs3 (Nat.le_of_ble_eq_true rfl) (Nat.zero_le _) (Nat.zero_le _) (S_X8_byteAt (d := d + 3) hT H) (fun o h' hq17 _ => ?_) (fun E i h' q _ => (cQ_no q).elim)
          obtain ⟨r15, E18, rfl, H⟩ := hq17
          cases E18
          obtain ⟨hx33, H⟩ := H
          refine ew_callVk hx33 (d := d + 3) (as := [aI r15]) rfl dX8_go_251 me_J3_indexOf rfl rfl q465 q466 q467 (Nat.le_of_ble_eq_true rfl) (Nat.zero_le _) (Nat.zero_le _) (S_J3_indexOf (d := d + 0) H) (fun o h' hq20 _ => ?_) (fun E i h' q _ => (cQ_no q).elim)
          obtain ⟨r19, E21, rfl, H⟩ := hq20
          cases E21
          refine ew_if_ge (tgt := 261) dX8_go_254 (by decide) (fun c22 => ?_) (fun c22 => ?_)
          · replace H := H.1 c22
            refine ew_iconst dX8_go_261 (inI_of rfl) ?_
            refine rd_put dX8_go_262 (e_fl.a q422) rf_4 rfl (by decide +kernel) (fun s23 e24 => ?_)
            replace H := H s23 e24
            refine ew_aload_n dX8_go_265 rfl lm0 ?_
            refine ew_dup dX8_go_266 rfl ?_
            refine rd_get (v := aI (s23.1 2)) dX8_go_267 (e_fl.a q420) rf_2 rfl ?_
            refine ew_iconst dX8_go_270 (inI_of rfl) ?_
            obtain ⟨v25, H⟩ := H
            refine ew_iadd dX8_go_271 v25 ?_
            refine rd_put dX8_go_272 (e_fl.a q420) rf_2 rfl (by decide +kernel) (fun s26 e27 => ?_)
            replace H := H s26 e27
            exact ew_ret (o := none) rfl ⟨_, rfl, rfl, H⟩ ⟨rfl, dX8_go_275⟩
          · replace H := H.2 c22
            refine ew_iconst dX8_go_257 (inI_of rfl) ?_
            refine ew_goto (tgt := 262) dX8_go_258 (by decide) ?_
            refine rd_put dX8_go_262 (e_fl.a q422) rf_4 rfl (by decide +kernel) (fun s28 e29 => ?_)
            replace H := H s28 e29
            refine ew_aload_n dX8_go_265 rfl lm0 ?_
            refine ew_dup dX8_go_266 rfl ?_
            refine rd_get (v := aI (s28.1 2)) dX8_go_267 (e_fl.a q420) rf_2 rfl ?_
            refine ew_iconst dX8_go_270 (inI_of rfl) ?_
            obtain ⟨v30, H⟩ := H
            refine ew_iadd dX8_go_271 v30 ?_
            refine rd_put dX8_go_272 (e_fl.a q420) rf_2 rfl (by decide +kernel) (fun s31 e32 => ?_)
            replace H := H s31 e32
            exact ew_ret (o := none) rfl ⟨_, rfl, rfl, H⟩ ⟨rfl, dX8_go_275⟩
        · replace H := H.2 c14
          refine ew_aload_n dX8_go_176 rfl lm0 ?_
          refine ew_aload_n dX8_go_177 rfl lm0 ?_
          refine ew_aload_n dX8_go_178 rfl lm0 ?_
          refine rd_get (v := aI (s2.1 2)) dX8_go_179 (e_fl.a q420) rf_2 rfl ?_
          refine ew_callV (d := d + 3) (as := [aI (s2.1 2)]) rfl dX8_go_182 me_X8_byteAt rfl (ci := 6) rfl rfl rh_T (Or.inl q451) q453 qs3 (Nat.le_of_ble_eq_true rfl) (Nat.zero_le _) (Nat.zero_le _) (S_X8_byteAt (d := d + 3) hT H) (fun o h' hq36 _ => ?_) (fun E i h' q _ => (cQ_no q).elim)
          obtain ⟨r34, E37, rfl, H⟩ := hq36
          cases E37
          refine ew_bipush dX8_go_185 (inI_of rfl) (by decide) ?_
          obtain ⟨v38, H⟩ := H
          refine ew_isub dX8_go_187 v38 ?_
          refine rd_put dX8_go_188 (e_fl.a q423) rf_5 rfl (by decide +kernel) (fun s39 e40 => ?_)
          replace H := H s39 e40
          exact ew_room (Nat.le_refl _) (Nat.zero_le _) (Nat.zero_le _) (ew_sub (List.forall_mem_cons.mpr ⟨lm0, e_nm⟩) H)
      · replace H := H.2 c9
        refine ew_aload_n dX8_go_75 rfl lm0 ?_
        refine ew_lconst (v := 0) dX8_go_76 (inL_of rfl) (by decide) ?_
        refine rd_putL dX8_go_77 (e_fl.a q424) rf_6 (by decide +kernel) (fun s41 e42 => ?_)
        replace H := H s41 e42
        exact ew_room (Nat.le_refl _) (Nat.zero_le _) (Nat.zero_le _) (ew_sub (List.forall_mem_cons.mpr ⟨lm0, e_nm⟩) H)
    · replace H := H.2 c4
      refine ew_aload_n dX8_go_56 rfl lm0 ?_
      refine ew_iconst dX8_go_57 (inI_of rfl) ?_
      refine rd_put dX8_go_58 (e_fl.a q422) rf_4 rfl (by decide +kernel) (fun s43 e44 => ?_)
      replace H := H s43 e44
      refine ew_goto (tgt := 275) dX8_go_61 (by decide) ?_
      exact ew_ret (o := none) rfl ⟨_, rfl, rfl, H⟩ ⟨rfl, dX8_go_275⟩
  · replace H := H.2 c1
    refine ew_aload_n dX8_go_11 rfl lm0 ?_
    refine ew_aload_n dX8_go_12 rfl lm0 ?_
    refine rd_get (v := aI (s0.1 2)) dX8_go_13 (e_fl.a q420) rf_2 rfl ?_
    refine ew_callV (d := d + 3) (as := [aI (s0.1 2)]) rfl dX8_go_16 me_X8_byteAt rfl (ci := 6) rfl rfl rh_T (Or.inl q451) q453 qs3 (Nat.le_of_ble_eq_true rfl) (Nat.zero_le _) (Nat.zero_le _) (S_X8_byteAt (d := d + 3) hT H) (fun o h' hq47 _ => ?_) (fun E i h' q _ => (cQ_no q).elim)
    obtain ⟨r45, E48, rfl, H⟩ := hq47
    cases E48
    refine ew_bipush dX8_go_19 (inI_of rfl) (by decide) ?_
    refine ew_icmp_ne (tgt := 37) dX8_go_21 (by decide) (fun c49 => ?_) (fun c49 => ?_)
    · replace H := H.2 c49
      refine ew_aload_n dX8_go_37 rfl lm0 ?_
      refine ew_aload_n dX8_go_38 rfl lm0 ?_
      refine rd_get (v := aI (s0.1 2)) dX8_go_39 (e_fl.a q420) rf_2 rfl ?_
      refine rd_put dX8_go_42 (e_fl.a q421) rf_3 rfl (by decide +kernel) (fun s50 e51 => ?_)
      replace H := H s50 e51
      refine ew_aload_n dX8_go_45 rfl lm0 ?_
      refine rd_get (v := aI (s50.1 2)) dX8_go_46 (e_fl.a q420) rf_2 rfl ?_
      refine ew_aload_n dX8_go_49 rfl lm0 ?_
      refine rd_get (v := aI (s50.1 0)) dX8_go_50 (e_fl.a q418) rf_0 rfl ?_
      refine ew_icmp_lt (tgt := 64) dX8_go_53 (by decide) (fun c52 => ?_) (fun c52 => ?_)
      · replace H := H.1 c52
        refine ew_aload_n dX8_go_64 rfl lm0 ?_
        refine ew_aload_n dX8_go_65 rfl lm0 ?_
        refine rd_get (v := aI (s50.1 2)) dX8_go_66 (e_fl.a q420) rf_2 rfl ?_
        refine ew_callV (d := d + 3) (as := [aI (s50.1 2)]) rfl dX8_go_69 me_X8_isLetter rfl (ci := 6) rfl rfl rh_T (Or.inl q455) q457 qs4 (Nat.le_of_ble_eq_true rfl) (Nat.zero_le _) (Nat.zero_le _) (S_X8_isLetter (d := d + 2) hT H) (fun o h' hq55 _ => ?_) (fun E i h' q _ => (cQ_no q).elim)
        obtain ⟨r53, E56, rfl, H⟩ := hq55
        cases E56
        refine ew_if_eq (tgt := 165) dX8_go_72 (by decide) (fun c57 => ?_) (fun c57 => ?_)
        · replace H := H.1 c57
          refine ew_aload_n dX8_go_165 rfl lm0 ?_
          refine ew_aload_n dX8_go_166 rfl lm0 ?_
          refine rd_get (v := aI (s50.1 2)) dX8_go_167 (e_fl.a q420) rf_2 rfl ?_
          refine ew_callV (d := d + 3) (as := [aI (s50.1 2)]) rfl dX8_go_170 me_X8_isDigit rfl (ci := 6) rfl rfl rh_T (Or.inl q460) q462 qs5 (Nat.le_of_ble_eq_true rfl) (Nat.zero_le _) (Nat.zero_le _) (S_X8_isDigit (d := d + 2) hT H) (fun o h' hq60 _ => ?_) (fun E i h' q _ => (cQ_no q).elim)
          obtain ⟨r58, E61, rfl, H⟩ := hq60
          cases E61
          refine ew_if_eq (tgt := 240) dX8_go_173 (by decide) (fun c62 => ?_) (fun c62 => ?_)
          · replace H := H.1 c62
            refine ew_aload_n dX8_go_240 rfl lm0 ?_
            refine ew_ldcS (i := 4) dX8_go_241 lm0 ?_
            refine ew_aload_n dX8_go_243 rfl lm0 ?_
            refine ew_aload_n dX8_go_244 rfl lm0 ?_
            refine rd_get (v := aI (s50.1 2)) dX8_go_245 (e_fl.a q420) rf_2 rfl ?_
            refine ew_callV (d := d + 3) (as := [aI (s50.1 2)]) rfl dX8_go_248 me_X8_byteAt rfl (ci := 6) rfl rfl rh_T (Or.inl q451) q453 qs3 (Nat.le_of_ble_eq_true rfl) (Nat.zero_le _) (Nat.zero_le _) (S_X8_byteAt (d := d + 3) hT H) (fun o h' hq65 _ => ?_) (fun E i h' q _ => (cQ_no q).elim)
            obtain ⟨r63, E66, rfl, H⟩ := hq65
            cases E66
            obtain ⟨hx81, H⟩ := H
            refine ew_callVk hx81 (d := d + 3) (as := [aI r63]) rfl dX8_go_251 me_J3_indexOf rfl rfl q465 q466 q467 (Nat.le_of_ble_eq_true rfl) (Nat.zero_le _) (Nat.zero_le _) (S_J3_indexOf (d := d + 0) H) (fun o h' hq68 _ => ?_) (fun E i h' q _ => (cQ_no q).elim)
            obtain ⟨r67, E69, rfl, H⟩ := hq68
            cases E69
            refine ew_if_ge (tgt := 261) dX8_go_254 (by decide) (fun c70 => ?_) (fun c70 => ?_)
            · replace H := H.1 c70
              refine ew_iconst dX8_go_261 (inI_of rfl) ?_
              refine rd_put dX8_go_262 (e_fl.a q422) rf_4 rfl (by decide +kernel) (fun s71 e72 => ?_)
              replace H := H s71 e72
              refine ew_aload_n dX8_go_265 rfl lm0 ?_
              refine ew_dup dX8_go_266 rfl ?_
              refine rd_get (v := aI (s71.1 2)) dX8_go_267 (e_fl.a q420) rf_2 rfl ?_
              refine ew_iconst dX8_go_270 (inI_of rfl) ?_
              obtain ⟨v73, H⟩ := H
              refine ew_iadd dX8_go_271 v73 ?_
              refine rd_put dX8_go_272 (e_fl.a q420) rf_2 rfl (by decide +kernel) (fun s74 e75 => ?_)
              replace H := H s74 e75
              exact ew_ret (o := none) rfl ⟨_, rfl, rfl, H⟩ ⟨rfl, dX8_go_275⟩
            · replace H := H.2 c70
              refine ew_iconst dX8_go_257 (inI_of rfl) ?_
              refine ew_goto (tgt := 262) dX8_go_258 (by decide) ?_
              refine rd_put dX8_go_262 (e_fl.a q422) rf_4 rfl (by decide +kernel) (fun s76 e77 => ?_)
              replace H := H s76 e77
              refine ew_aload_n dX8_go_265 rfl lm0 ?_
              refine ew_dup dX8_go_266 rfl ?_
              refine rd_get (v := aI (s76.1 2)) dX8_go_267 (e_fl.a q420) rf_2 rfl ?_
              refine ew_iconst dX8_go_270 (inI_of rfl) ?_
              obtain ⟨v78, H⟩ := H
              refine ew_iadd dX8_go_271 v78 ?_
              refine rd_put dX8_go_272 (e_fl.a q420) rf_2 rfl (by decide +kernel) (fun s79 e80 => ?_)
              replace H := H s79 e80
              exact ew_ret (o := none) rfl ⟨_, rfl, rfl, H⟩ ⟨rfl, dX8_go_275⟩
          · replace H := H.2 c62
            refine ew_aload_n dX8_go_176 rfl lm0 ?_
            refine ew_aload_n dX8_go_177 rfl lm0 ?_
            refine ew_aload_n dX8_go_178 rfl lm0 ?_
            refine rd_get (v := aI (s50.1 2)) dX8_go_179 (e_fl.a q420) rf_2 rfl ?_
            refine ew_callV (d := d + 3) (as := [aI (s50.1 2)]) rfl dX8_go_182 me_X8_byteAt rfl (ci := 6) rfl rfl rh_T (Or.inl q451) q453 qs3 (Nat.le_of_ble_eq_true rfl) (Nat.zero_le _) (Nat.zero_le _) (S_X8_byteAt (d := d + 3) hT H) (fun o h' hq84 _ => ?_) (fun E i h' q _ => (cQ_no q).elim)
            obtain ⟨r82, E85, rfl, H⟩ := hq84
            cases E85
            refine ew_bipush dX8_go_185 (inI_of rfl) (by decide) ?_
            obtain ⟨v86, H⟩ := H
            refine ew_isub dX8_go_187 v86 ?_
            refine rd_put dX8_go_188 (e_fl.a q423) rf_5 rfl (by decide +kernel) (fun s87 e88 => ?_)
            replace H := H s87 e88
            exact ew_room (Nat.le_refl _) (Nat.zero_le _) (Nat.zero_le _) (ew_sub (List.forall_mem_cons.mpr ⟨lm0, e_nm⟩) H)
        · replace H := H.2 c57
          refine ew_aload_n dX8_go_75 rfl lm0 ?_
          refine ew_lconst (v := 0) dX8_go_76 (inL_of rfl) (by decide) ?_
          refine rd_putL dX8_go_77 (e_fl.a q424) rf_6 (by decide +kernel) (fun s89 e90 => ?_)
          replace H := H s89 e90
          exact ew_room (Nat.le_refl _) (Nat.zero_le _) (Nat.zero_le _) (ew_sub (List.forall_mem_cons.mpr ⟨lm0, e_nm⟩) H)
      · replace H := H.2 c52
        refine ew_aload_n dX8_go_56 rfl lm0 ?_
        refine ew_iconst dX8_go_57 (inI_of rfl) ?_
        refine rd_put dX8_go_58 (e_fl.a q422) rf_4 rfl (by decide +kernel) (fun s91 e92 => ?_)
        replace H := H s91 e92
        refine ew_goto (tgt := 275) dX8_go_61 (by decide) ?_
        exact ew_ret (o := none) rfl ⟨_, rfl, rfl, H⟩ ⟨rfl, dX8_go_275⟩
    · replace H := H.1 c49
      refine ew_aload_n dX8_go_24 rfl lm0 ?_
      refine ew_dup dX8_go_25 rfl ?_
      refine rd_get (v := aI (s0.1 2)) dX8_go_26 (e_fl.a q420) rf_2 rfl ?_
      refine ew_iconst dX8_go_29 (inI_of rfl) ?_
      obtain ⟨v93, H⟩ := H
      refine ew_iadd dX8_go_30 v93 ?_
      refine rd_put dX8_go_31 (e_fl.a q420) rf_2 rfl (by decide +kernel) (fun s94 e95 => ?_)
      replace H := H s94 e95
      refine ew_goto (tgt := 0) dX8_go_34 (by decide) ?_
      exact ew_room (Nat.le_refl _) (Nat.zero_le _) (Nat.zero_le _) (ew_sub (List.forall_mem_cons.mpr ⟨lm0, e_nm⟩) H)
def C_X8_go (tp : Int → Int) (s0 : MS) (K : MS → Prop) : Prop := ∀ (X0 : MS → Prop) (X80 : MS → Prop) (X191 : MS → Prop), (∀ (s0 : MS), B_X8_go_0 X0 X80 X191 K tp s0 → X0 s0) → (∀ (s0 : MS), B_X8_go_80 X0 X80 X191 K tp s0 → X80 s0) → (∀ (s0 : MS), B_X8_go_191 X0 X80 X191 K tp s0 → X191 s0) → B_X8_go_E X0 X80 X191 K tp s0
theorem S_X8_go {d : Nat} {V : XV} {g : AH} {tp : Int → Int} {K : MS → Prop} {s0 : MS} (hT : rtp tp g) (H : C_X8_go tp s0 K) : Sp mm_X8_go (d + 4) 0 0 [aR (some rT)] (rh V s0 g) (nQv V g K) :=
  ew_sp rfl (Nat.le_of_ble_eq_true rfl) (T_X8_go_E d V g tp hT K s0 (H _ _ _ (fun s0 H => T_X8_go_0 d V g tp hT K s0 H) (fun s0 H => T_X8_go_80 d V g tp hT K s0 H) (fun s0 H => T_X8_go_191 d V g tp hT K s0 H)))
