/-! The JDK's plain methods, as predicates, by program (gen/gx.py) -/
set_option maxRecDepth 100000
def cQ (h : AH) (K : Int → Prop) : AO → AH → Prop := fun o h' => ∃ n, o = Sum.inl (some (aI n)) ∧ h' = h ∧ K n
def cQl (h : AH) (K : Int → Prop) : AO → AH → Prop := fun o h' => ∃ n, o = Sum.inl (some (aL n)) ∧ h' = h ∧ K n
def cQg (h : AH) (K : Int → Prop) : AO → AH → Prop := fun o h' => ∃ n : Int, o = Sum.inl (some (aR (some (9, 12, (n + 128).toNat)))) ∧ h' = h ∧ K n
def cQv (h : AH) (K : Prop) : AO → AH → Prop := fun o h' => o = Sum.inl none ∧ h' = h ∧ K
theorem cQ_no {h : AH} {K : Int → Prop} {x : String × EId} {h' : AH} (q : cQ h K (Sum.inr x) h') : False := by obtain ⟨n, e, -⟩ := q; cases e
theorem cQl_no {h : AH} {K : Int → Prop} {x : String × EId} {h' : AH} (q : cQl h K (Sum.inr x) h') : False := by obtain ⟨n, e, -⟩ := q; cases e
theorem cQg_no {h : AH} {K : Int → Prop} {x : String × EId} {h' : AH} (q : cQg h K (Sum.inr x) h') : False := by obtain ⟨n, e, -⟩ := q; cases e
theorem cQv_no {h : AH} {K : Prop} {x : String × EId} {h' : AH} (q : cQv h K (Sum.inr x) h') : False := by obtain ⟨e, -⟩ := q; cases e
theorem e_narC {x : Int} (h0 : 0 ≤ x) (h1 : x < 65536) : narrow .char (.int (Int32.ofInt x)) = .int (Int32.ofInt x) := by
  have e : ((Int32.ofInt x).toUInt32 % 65536).toInt32 = Int32.ofInt x := lg_i2c_word (by rw [e_ti ⟨by omega, by omega⟩]; exact h0) (by rw [e_ti ⟨by omega, by omega⟩]; exact h1)
  rw [← e]
  exact pk_nc _
abbrev mm_J15_bitCount : EM := (yJ15_bitCount, cJ15_bitCount, 1, (Option.some .int), [])
theorem me_J15_bitCount : e_mth mm_J15_bitCount 1 := ⟨rfl, q1196, q135, by decide +kernel, by decide⟩
def B_J15_bitCount_E (K : Int → Prop) (a : Int) : Prop :=
  ((inI (a - (jand (jushr a 1) 1431655765))) ∧ ((inI ((jand (a - (jand (jushr a 1) 1431655765)) 858993459) + (jand (jushr (a - (jand (jushr a 1) 1431655765)) 2) 858993459))) ∧ ((inI (((jand (a - (jand (jushr a 1) 1431655765)) 858993459) + (jand (jushr (a - (jand (jushr a 1) 1431655765)) 2) 858993459)) + (jushr ((jand (a - (jand (jushr a 1) 1431655765)) 858993459) + (jand (jushr (a - (jand (jushr a 1) 1431655765)) 2) 858993459)) 4))) ∧ ((inI ((jand (((jand (a - (jand (jushr a 1) 1431655765)) 858993459) + (jand (jushr (a - (jand (jushr a 1) 1431655765)) 2) 858993459)) + (jushr ((jand (a - (jand (jushr a 1) 1431655765)) 858993459) + (jand (jushr (a - (jand (jushr a 1) 1431655765)) 2) 858993459)) 4)) 252645135) + (jushr (jand (((jand (a - (jand (jushr a 1) 1431655765)) 858993459) + (jand (jushr (a - (jand (jushr a 1) 1431655765)) 2) 858993459)) + (jushr ((jand (a - (jand (jushr a 1) 1431655765)) 858993459) + (jand (jushr (a - (jand (jushr a 1) 1431655765)) 2) 858993459)) 4)) 252645135) 8))) ∧ ((inI (((jand (((jand (a - (jand (jushr a 1) 1431655765)) 858993459) + (jand (jushr (a - (jand (jushr a 1) 1431655765)) 2) 858993459)) + (jushr ((jand (a - (jand (jushr a 1) 1431655765)) 858993459) + (jand (jushr (a - (jand (jushr a 1) 1431655765)) 2) 858993459)) 4)) 252645135) + (jushr (jand (((jand (a - (jand (jushr a 1) 1431655765)) 858993459) + (jand (jushr (a - (jand (jushr a 1) 1431655765)) 2) 858993459)) + (jushr ((jand (a - (jand (jushr a 1) 1431655765)) 858993459) + (jand (jushr (a - (jand (jushr a 1) 1431655765)) 2) 858993459)) 4)) 252645135) 8)) + (jushr ((jand (((jand (a - (jand (jushr a 1) 1431655765)) 858993459) + (jand (jushr (a - (jand (jushr a 1) 1431655765)) 2) 858993459)) + (jushr ((jand (a - (jand (jushr a 1) 1431655765)) 858993459) + (jand (jushr (a - (jand (jushr a 1) 1431655765)) 2) 858993459)) 4)) 252645135) + (jushr (jand (((jand (a - (jand (jushr a 1) 1431655765)) 858993459) + (jand (jushr (a - (jand (jushr a 1) 1431655765)) 2) 858993459)) + (jushr ((jand (a - (jand (jushr a 1) 1431655765)) 858993459) + (jand (jushr (a - (jand (jushr a 1) 1431655765)) 2) 858993459)) 4)) 252645135) 8)) 16))) ∧ K (jand (((jand (((jand (a - (jand (jushr a 1) 1431655765)) 858993459) + (jand (jushr (a - (jand (jushr a 1) 1431655765)) 2) 858993459)) + (jushr ((jand (a - (jand (jushr a 1) 1431655765)) 858993459) + (jand (jushr (a - (jand (jushr a 1) 1431655765)) 2) 858993459)) 4)) 252645135) + (jushr (jand (((jand (a - (jand (jushr a 1) 1431655765)) 858993459) + (jand (jushr (a - (jand (jushr a 1) 1431655765)) 2) 858993459)) + (jushr ((jand (a - (jand (jushr a 1) 1431655765)) 858993459) + (jand (jushr (a - (jand (jushr a 1) 1431655765)) 2) 858993459)) 4)) 252645135) 8)) + (jushr ((jand (((jand (a - (jand (jushr a 1) 1431655765)) 858993459) + (jand (jushr (a - (jand (jushr a 1) 1431655765)) 2) 858993459)) + (jushr ((jand (a - (jand (jushr a 1) 1431655765)) 858993459) + (jand (jushr (a - (jand (jushr a 1) 1431655765)) 2) 858993459)) 4)) 252645135) + (jushr (jand (((jand (a - (jand (jushr a 1) 1431655765)) 858993459) + (jand (jushr (a - (jand (jushr a 1) 1431655765)) 2) 858993459)) + (jushr ((jand (a - (jand (jushr a 1) 1431655765)) 858993459) + (jand (jushr (a - (jand (jushr a 1) 1431655765)) 2) 858993459)) 4)) 252645135) 8)) 16)) 63))))))
set_option maxHeartbeats 4000000 in
theorem T_J15_bitCount_E (d : Nat) (h : AH) (K : Int → Prop) (a : Int) (H : B_J15_bitCount_E K a ) : EW mm_J15_bitCount (d + 0) 0 0 (cQ h K) 0 [(0, aI a)] [] h := by
  refine ew_iload_n dJ15_bitCount_0 rfl lm0 ?_
  refine ew_iload_n dJ15_bitCount_1 rfl lm0 ?_
  refine ew_iconst dJ15_bitCount_2 (inI_of rfl) ?_
  refine ew_iushr dJ15_bitCount_3 ?_
  refine ew_ldc_w (n := 1431655765) dJ15_bitCount_4 (inI_of rfl) q1197 ?_
  refine ew_iand dJ15_bitCount_7 ?_
  obtain ⟨v1, H⟩ := H
  refine ew_isub dJ15_bitCount_8 v1 ?_
  refine ew_istore_n dJ15_bitCount_9 rfl (by decide) (lv' := [(0, aI (a - (jand (jushr a 1) 1431655765)))]) rfl ?_
  refine ew_iload_n dJ15_bitCount_10 rfl lm0 ?_
  refine ew_ldc_w (n := 858993459) dJ15_bitCount_11 (inI_of rfl) q1198 ?_
  refine ew_iand dJ15_bitCount_14 ?_
  refine ew_iload_n dJ15_bitCount_15 rfl lm0 ?_
  refine ew_iconst dJ15_bitCount_16 (inI_of rfl) ?_
  refine ew_iushr dJ15_bitCount_17 ?_
  refine ew_ldc_w (n := 858993459) dJ15_bitCount_18 (inI_of rfl) q1198 ?_
  refine ew_iand dJ15_bitCount_21 ?_
  obtain ⟨v2, H⟩ := H
  refine ew_iadd dJ15_bitCount_22 v2 ?_
  refine ew_istore_n dJ15_bitCount_23 rfl (by decide) (lv' := [(0, aI ((jand (a - (jand (jushr a 1) 1431655765)) 858993459) + (jand (jushr (a - (jand (jushr a 1) 1431655765)) 2) 858993459)))]) rfl ?_
  refine ew_iload_n dJ15_bitCount_24 rfl lm0 ?_
  refine ew_iload_n dJ15_bitCount_25 rfl lm0 ?_
  refine ew_iconst dJ15_bitCount_26 (inI_of rfl) ?_
  refine ew_iushr dJ15_bitCount_27 ?_
  obtain ⟨v3, H⟩ := H
  refine ew_iadd dJ15_bitCount_28 v3 ?_
  refine ew_ldc_w (n := 252645135) dJ15_bitCount_29 (inI_of rfl) q1199 ?_
  refine ew_iand dJ15_bitCount_32 ?_
  refine ew_istore_n dJ15_bitCount_33 rfl (by decide) (lv' := [(0, aI (jand (((jand (a - (jand (jushr a 1) 1431655765)) 858993459) + (jand (jushr (a - (jand (jushr a 1) 1431655765)) 2) 858993459)) + (jushr ((jand (a - (jand (jushr a 1) 1431655765)) 858993459) + (jand (jushr (a - (jand (jushr a 1) 1431655765)) 2) 858993459)) 4)) 252645135))]) rfl ?_
  refine ew_iload_n dJ15_bitCount_34 rfl lm0 ?_
  refine ew_iload_n dJ15_bitCount_35 rfl lm0 ?_
  refine ew_bipush dJ15_bitCount_36 (inI_of rfl) (by decide) ?_
  refine ew_iushr dJ15_bitCount_38 ?_
  obtain ⟨v4, H⟩ := H
  refine ew_iadd dJ15_bitCount_39 v4 ?_
  refine ew_istore_n dJ15_bitCount_40 rfl (by decide) (lv' := [(0, aI ((jand (((jand (a - (jand (jushr a 1) 1431655765)) 858993459) + (jand (jushr (a - (jand (jushr a 1) 1431655765)) 2) 858993459)) + (jushr ((jand (a - (jand (jushr a 1) 1431655765)) 858993459) + (jand (jushr (a - (jand (jushr a 1) 1431655765)) 2) 858993459)) 4)) 252645135) + (jushr (jand (((jand (a - (jand (jushr a 1) 1431655765)) 858993459) + (jand (jushr (a - (jand (jushr a 1) 1431655765)) 2) 858993459)) + (jushr ((jand (a - (jand (jushr a 1) 1431655765)) 858993459) + (jand (jushr (a - (jand (jushr a 1) 1431655765)) 2) 858993459)) 4)) 252645135) 8)))]) rfl ?_
  refine ew_iload_n dJ15_bitCount_41 rfl lm0 ?_
  refine ew_iload_n dJ15_bitCount_42 rfl lm0 ?_
  refine ew_bipush dJ15_bitCount_43 (inI_of rfl) (by decide) ?_
  refine ew_iushr dJ15_bitCount_45 ?_
  obtain ⟨v5, H⟩ := H
  refine ew_iadd dJ15_bitCount_46 v5 ?_
  refine ew_istore_n dJ15_bitCount_47 rfl (by decide) (lv' := [(0, aI (((jand (((jand (a - (jand (jushr a 1) 1431655765)) 858993459) + (jand (jushr (a - (jand (jushr a 1) 1431655765)) 2) 858993459)) + (jushr ((jand (a - (jand (jushr a 1) 1431655765)) 858993459) + (jand (jushr (a - (jand (jushr a 1) 1431655765)) 2) 858993459)) 4)) 252645135) + (jushr (jand (((jand (a - (jand (jushr a 1) 1431655765)) 858993459) + (jand (jushr (a - (jand (jushr a 1) 1431655765)) 2) 858993459)) + (jushr ((jand (a - (jand (jushr a 1) 1431655765)) 858993459) + (jand (jushr (a - (jand (jushr a 1) 1431655765)) 2) 858993459)) 4)) 252645135) 8)) + (jushr ((jand (((jand (a - (jand (jushr a 1) 1431655765)) 858993459) + (jand (jushr (a - (jand (jushr a 1) 1431655765)) 2) 858993459)) + (jushr ((jand (a - (jand (jushr a 1) 1431655765)) 858993459) + (jand (jushr (a - (jand (jushr a 1) 1431655765)) 2) 858993459)) 4)) 252645135) + (jushr (jand (((jand (a - (jand (jushr a 1) 1431655765)) 858993459) + (jand (jushr (a - (jand (jushr a 1) 1431655765)) 2) 858993459)) + (jushr ((jand (a - (jand (jushr a 1) 1431655765)) 858993459) + (jand (jushr (a - (jand (jushr a 1) 1431655765)) 2) 858993459)) 4)) 252645135) 8)) 16)))]) rfl ?_
  refine ew_iload_n dJ15_bitCount_48 rfl lm0 ?_
  refine ew_bipush dJ15_bitCount_49 (inI_of rfl) (by decide) ?_
  refine ew_iand dJ15_bitCount_51 ?_
  exact ew_ret (o := some (aI (jand (((jand (((jand (a - (jand (jushr a 1) 1431655765)) 858993459) + (jand (jushr (a - (jand (jushr a 1) 1431655765)) 2) 858993459)) + (jushr ((jand (a - (jand (jushr a 1) 1431655765)) 858993459) + (jand (jushr (a - (jand (jushr a 1) 1431655765)) 2) 858993459)) 4)) 252645135) + (jushr (jand (((jand (a - (jand (jushr a 1) 1431655765)) 858993459) + (jand (jushr (a - (jand (jushr a 1) 1431655765)) 2) 858993459)) + (jushr ((jand (a - (jand (jushr a 1) 1431655765)) 858993459) + (jand (jushr (a - (jand (jushr a 1) 1431655765)) 2) 858993459)) 4)) 252645135) 8)) + (jushr ((jand (((jand (a - (jand (jushr a 1) 1431655765)) 858993459) + (jand (jushr (a - (jand (jushr a 1) 1431655765)) 2) 858993459)) + (jushr ((jand (a - (jand (jushr a 1) 1431655765)) 858993459) + (jand (jushr (a - (jand (jushr a 1) 1431655765)) 2) 858993459)) 4)) 252645135) + (jushr (jand (((jand (a - (jand (jushr a 1) 1431655765)) 858993459) + (jand (jushr (a - (jand (jushr a 1) 1431655765)) 2) 858993459)) + (jushr ((jand (a - (jand (jushr a 1) 1431655765)) 858993459) + (jand (jushr (a - (jand (jushr a 1) 1431655765)) 2) 858993459)) 4)) 252645135) 8)) 16)) 63))) rfl ⟨_, rfl, rfl, H⟩ ⟨dJ15_bitCount_52, .int, rfl, Or.inl rfl, rfl⟩
def C_J15_bitCount (a : Int) (K : Int → Prop) : Prop := B_J15_bitCount_E K a 
theorem S_J15_bitCount {d : Nat} {h : AH} {K : Int → Prop} {a : Int} (H : C_J15_bitCount a K) : Sp mm_J15_bitCount (d + 0) 0 0 [aI a] h (cQ h K) :=
 ew_sp rfl (Nat.le_of_ble_eq_true rfl) (T_J15_bitCount_E d h K a (H ))
abbrev mm_J15_intValue : EM := (yJ15_intValue, cJ15_intValue, 1, (Option.some .int), [])
theorem me_J15_intValue : e_mth mm_J15_intValue 0 := ⟨rfl, q951, q135, by decide +kernel, by decide⟩
def B_J15_intValue_E (K : Int → Prop) (a : Int) : Prop :=
  ((-128 ≤ a ∧ a < 128) ∧ K a)
set_option maxHeartbeats 4000000 in
theorem T_J15_intValue_E (d : Nat) (h : AH) (K : Int → Prop) (a : Int) (H : B_J15_intValue_E K a ) : EW mm_J15_intValue (d + 0) 0 0 (cQ h K) 0 [(0, aR (some (9, 12, (a + 128).toNat)))] [] h := by
  refine ew_aload_n dJ15_intValue_0 rfl lm0 ?_
  obtain ⟨v1, H⟩ := H
  refine ew_kint (by omega) dJ15_intValue_1 q853 ?_
  rw [show ((((a + 128).toNat : Nat) : Int) - 128) = a by omega]
  exact ew_ret (o := some (aI a)) rfl ⟨_, rfl, rfl, H⟩ ⟨dJ15_intValue_4, .int, rfl, Or.inl rfl, rfl⟩
def C_J15_intValue (a : Int) (K : Int → Prop) : Prop := B_J15_intValue_E K a 
theorem S_J15_intValue {d : Nat} {h : AH} {K : Int → Prop} {a : Int} (H : C_J15_intValue a K) : Sp mm_J15_intValue (d + 0) 0 0 [aR (some (9, 12, (a + 128).toNat))] h (cQ h K) :=
 ew_sp rfl (Nat.le_of_ble_eq_true rfl) (T_J15_intValue_E d h K a (H ))
abbrev mm_J15_valueOf : EM := (yJ15_valueOf, cJ15_valueOf, 1, (Option.some (.object "java/lang/Integer")), [])
theorem me_J15_valueOf : e_mth mm_J15_valueOf 1 := ⟨rfl, q839, q135, by decide +kernel, by decide⟩
def B_J15_valueOf_E (K : Int → Prop) (a : Int) : Prop :=
  ((a < (-128) → False) ∧ (¬ a < (-128) → ((127 < a → False) ∧ (¬ 127 < a → ((inI (a + 128)) ∧ ((0 ≤ (a + 128) ∧ (a + 128) < 256) ∧ K ((a + 128) - 128)))))))
set_option maxHeartbeats 4000000 in
theorem T_J15_valueOf_E (d : Nat) (h : AH) (K : Int → Prop) (a : Int) (H : B_J15_valueOf_E K a ) : EW mm_J15_valueOf (d + 0) 0 0 (cQg h K) 0 [(0, aI a)] [] h := by
  refine ew_iload_n dJ15_valueOf_0 rfl lm0 ?_
  refine ew_bipush dJ15_valueOf_1 (inI_of rfl) (by decide) ?_
  refine ew_icmp_lt (tgt := 23) dJ15_valueOf_3 (by decide) (fun c1 => ?_) (fun c1 => ?_)
  · replace H := H.1 c1
    exact H.elim
  · replace H := H.2 c1
    refine ew_iload_n dJ15_valueOf_6 rfl lm0 ?_
    refine ew_gets dJ15_valueOf_7 lm1 q840 ?_
    refine ew_icmp_gt (tgt := 23) dJ15_valueOf_10 (by decide) (fun c2 => ?_) (fun c2 => ?_)
    · replace H := H.1 c2
      exact H.elim
    · replace H := H.2 c2
      refine ew_gets dJ15_valueOf_13 lm0 q842 ?_
      refine ew_iload_n dJ15_valueOf_16 rfl lm0 ?_
      refine ew_sipush dJ15_valueOf_17 (inI_of rfl) (by decide) ?_
      obtain ⟨v3, H⟩ := H
      refine ew_iadd dJ15_valueOf_20 v3 ?_
      obtain ⟨v4, H⟩ := H
      refine ew_kaald dJ15_valueOf_21 v4.1 v4.2 ?_
      rw [show ((a + 128)).toNat = (((a + 128) - 128) + 128).toNat by omega]
      exact ew_ret (o := some (aR (some (9, 12, (((a + 128) - 128) + 128).toNat)))) rfl ⟨_, rfl, rfl, H⟩ ⟨dJ15_valueOf_22, _, rfl, Or.inl ⟨_, rfl⟩⟩
def C_J15_valueOf (a : Int) (K : Int → Prop) : Prop := B_J15_valueOf_E K a 
theorem S_J15_valueOf {d : Nat} {h : AH} {K : Int → Prop} {a : Int} (H : C_J15_valueOf a K) : Sp mm_J15_valueOf (d + 0) 0 0 [aI a] h (cQg h K) :=
 ew_sp rfl (Nat.le_of_ble_eq_true rfl) (T_J15_valueOf_E d h K a (H ))
abbrev mm_X1_isIn : EM := (yX1_isIn, cX1_isIn, 3, (Option.some .boolean), [])
theorem me_X1_isIn : e_mth mm_X1_isIn 3 := ⟨rfl, q405, q108, by decide +kernel, by decide⟩
def B_X1_isIn_E (K : Int → Prop) (a : Int) (b : Int) (c : Int) : Prop :=
  ((a < b → K 0) ∧ (¬ a < b → ((c < a → K 0) ∧ (¬ c < a → K 1))))
set_option maxHeartbeats 4000000 in
theorem T_X1_isIn_E (d : Nat) (h : AH) (K : Int → Prop) (a : Int) (b : Int) (c : Int) (H : B_X1_isIn_E K a b c ) : EW mm_X1_isIn (d + 0) 0 0 (cQ h K) 0 [(0, aI a), (1, aI b), (2, aI c)] [] h := by
  refine ew_iload_n dX1_isIn_0 rfl lm0 ?_
  refine ew_iload_n dX1_isIn_1 rfl lm1 ?_
  refine ew_icmp_lt (tgt := 14) dX1_isIn_2 (by decide) (fun c1 => ?_) (fun c1 => ?_)
  · replace H := H.1 c1
    refine ew_iconst dX1_isIn_14 (inI_of rfl) ?_
    exact ew_ret (o := some (aI 0)) rfl ⟨_, rfl, rfl, H⟩ ⟨dX1_isIn_15, .boolean, rfl, Or.inr (Or.inl rfl), by decide⟩
  · replace H := H.2 c1
    refine ew_iload_n dX1_isIn_5 rfl lm0 ?_
    refine ew_iload_n dX1_isIn_6 rfl lm2 ?_
    refine ew_icmp_gt (tgt := 14) dX1_isIn_7 (by decide) (fun c2 => ?_) (fun c2 => ?_)
    · replace H := H.1 c2
      refine ew_iconst dX1_isIn_14 (inI_of rfl) ?_
      exact ew_ret (o := some (aI 0)) rfl ⟨_, rfl, rfl, H⟩ ⟨dX1_isIn_15, .boolean, rfl, Or.inr (Or.inl rfl), by decide⟩
    · replace H := H.2 c2
      refine ew_iconst dX1_isIn_10 (inI_of rfl) ?_
      refine ew_goto (tgt := 15) dX1_isIn_11 (by decide) ?_
      exact ew_ret (o := some (aI 1)) rfl ⟨_, rfl, rfl, H⟩ ⟨dX1_isIn_15, .boolean, rfl, Or.inr (Or.inl rfl), by decide⟩
def C_X1_isIn (a : Int) (b : Int) (c : Int) (K : Int → Prop) : Prop := B_X1_isIn_E K a b c 
theorem S_X1_isIn {d : Nat} {h : AH} {K : Int → Prop} {a : Int} {b : Int} {c : Int} (H : C_X1_isIn a b c K) : Sp mm_X1_isIn (d + 0) 0 0 [aI a, aI b, aI c] h (cQ h K) :=
 ew_sp rfl (Nat.le_of_ble_eq_true rfl) (T_X1_isIn_E d h K a b c (H ))
abbrev mm_X1_has : EM := (yX1_has, cX1_has, 2, (Option.some .boolean), [])
theorem me_X1_has : e_mth mm_X1_has 2 := ⟨rfl, q1126, q108, by decide +kernel, by decide⟩
def B_X1_has_E (K : Int → Prop) (a : Int) (b : Int) : Prop :=
  (((jand (jshr a b) 1) = 1 → K 1) ∧ (¬ (jand (jshr a b) 1) = 1 → K 0))
set_option maxHeartbeats 4000000 in
theorem T_X1_has_E (d : Nat) (h : AH) (K : Int → Prop) (a : Int) (b : Int) (H : B_X1_has_E K a b ) : EW mm_X1_has (d + 0) 0 0 (cQ h K) 0 [(0, aI a), (1, aI b)] [] h := by
  refine ew_iload_n dX1_has_0 rfl lm0 ?_
  refine ew_iload_n dX1_has_1 rfl lm1 ?_
  refine ew_ishr dX1_has_2 ?_
  refine ew_iconst dX1_has_3 (inI_of rfl) ?_
  refine ew_iand dX1_has_4 ?_
  refine ew_iconst dX1_has_5 (inI_of rfl) ?_
  refine ew_icmp_ne (tgt := 13) dX1_has_6 (by decide) (fun c1 => ?_) (fun c1 => ?_)
  · replace H := H.2 c1
    refine ew_iconst dX1_has_13 (inI_of rfl) ?_
    exact ew_ret (o := some (aI 0)) rfl ⟨_, rfl, rfl, H⟩ ⟨dX1_has_14, .boolean, rfl, Or.inr (Or.inl rfl), by decide⟩
  · replace H := H.1 c1
    refine ew_iconst dX1_has_9 (inI_of rfl) ?_
    refine ew_goto (tgt := 14) dX1_has_10 (by decide) ?_
    exact ew_ret (o := some (aI 1)) rfl ⟨_, rfl, rfl, H⟩ ⟨dX1_has_14, .boolean, rfl, Or.inr (Or.inl rfl), by decide⟩
def C_X1_has (a : Int) (b : Int) (K : Int → Prop) : Prop := B_X1_has_E K a b 
theorem S_X1_has {d : Nat} {h : AH} {K : Int → Prop} {a : Int} {b : Int} (H : C_X1_has a b K) : Sp mm_X1_has (d + 0) 0 0 [aI a, aI b] h (cQ h K) :=
 ew_sp rfl (Nat.le_of_ble_eq_true rfl) (T_X1_has_E d h K a b (H ))
abbrev mm_J3_coder : EM := (yJ3_coder, cJ3_coder, 1, (Option.some .byte), [])
theorem me_J3_coder : e_mth mm_J3_coder 0 := ⟨rfl, q486, q119, by decide +kernel, by decide⟩
def B_J3_coder_E (K : Int → Prop) (a : Nat) : Prop :=
  ((a < 5) ∧ K 0)
set_option maxHeartbeats 4000000 in
theorem T_J3_coder_E (d : Nat) (h : AH) (K : Int → Prop) (a : Nat) (H : B_J3_coder_E K a ) : EW mm_J3_coder (d + 0) 0 0 (cQ h K) 0 [(0, aR (some (9, 13, a)))] [] h := by
  refine ew_gets dJ3_coder_0 lm2 q477 ?_
  refine ew_if_eq (tgt := 13) dJ3_coder_3 (by decide) (fun c => False.elim (by revert c; decide)) (fun _ => ?_)
  refine ew_aload_n dJ3_coder_6 rfl lm0 ?_
  obtain ⟨v2, H⟩ := H
  refine ew_kcoder v2 dJ3_coder_7 q2015 ?_
  refine ew_goto (tgt := 14) dJ3_coder_10 (by decide) ?_
  exact ew_ret (o := some (aI 0)) rfl ⟨_, rfl, rfl, H⟩ ⟨dJ3_coder_14, .byte, rfl, Or.inr (Or.inr (Or.inr rfl)), by decide⟩
def C_J3_coder (a : Nat) (K : Int → Prop) : Prop := B_J3_coder_E K a 
theorem S_J3_coder {d : Nat} {h : AH} {K : Int → Prop} {a : Nat} (H : C_J3_coder a K) : Sp mm_J3_coder (d + 0) 0 0 [aR (some (9, 13, a))] h (cQ h K) :=
 ew_sp rfl (Nat.le_of_ble_eq_true rfl) (T_J3_coder_E d h K a (H ))
abbrev mm_J3_isLatin1 : EM := (yJ3_isLatin1, cJ3_isLatin1, 1, (Option.some .boolean), [])
theorem me_J3_isLatin1 : e_mth mm_J3_isLatin1 0 := ⟨rfl, q476, q119, by decide +kernel, by decide⟩
def B_J3_isLatin1_E (K : Int → Prop) (a : Nat) : Prop :=
  ((a < 5) ∧ K 1)
set_option maxHeartbeats 4000000 in
theorem T_J3_isLatin1_E (d : Nat) (h : AH) (K : Int → Prop) (a : Nat) (H : B_J3_isLatin1_E K a ) : EW mm_J3_isLatin1 (d + 0) 0 0 (cQ h K) 0 [(0, aR (some (9, 13, a)))] [] h := by
  refine ew_gets dJ3_isLatin1_0 lm2 q477 ?_
  refine ew_if_eq (tgt := 17) dJ3_isLatin1_3 (by decide) (fun c => False.elim (by revert c; decide)) (fun _ => ?_)
  refine ew_aload_n dJ3_isLatin1_6 rfl lm0 ?_
  obtain ⟨v2, H⟩ := H
  refine ew_kcoder v2 dJ3_isLatin1_7 q2015 ?_
  refine ew_if_ne (tgt := 17) dJ3_isLatin1_10 (by decide) (fun c => False.elim (by revert c; decide)) (fun _ => ?_)
  refine ew_iconst dJ3_isLatin1_13 (inI_of rfl) ?_
  refine ew_goto (tgt := 18) dJ3_isLatin1_14 (by decide) ?_
  exact ew_ret (o := some (aI 1)) rfl ⟨_, rfl, rfl, H⟩ ⟨dJ3_isLatin1_18, .boolean, rfl, Or.inr (Or.inl rfl), by decide⟩
def C_J3_isLatin1 (a : Nat) (K : Int → Prop) : Prop := B_J3_isLatin1_E K a 
theorem S_J3_isLatin1 {d : Nat} {h : AH} {K : Int → Prop} {a : Nat} (H : C_J3_isLatin1 a K) : Sp mm_J3_isLatin1 (d + 0) 0 0 [aR (some (9, 13, a))] h (cQ h K) :=
 ew_sp rfl (Nat.le_of_ble_eq_true rfl) (T_J3_isLatin1_E d h K a (H ))
abbrev mm_J3_length : EM := (yJ3_length, cJ3_length, 1, (Option.some .int), [])
theorem me_J3_length : e_mth mm_J3_length 0 := ⟨rfl, q482, q119, by decide +kernel, by decide⟩
def B_J3_length_E (K : Int → Prop) (a : Nat) : Prop :=
  ((a < 5) ∧ ((a < 5) ∧ (a < 5 ∧ (C_J3_coder a (fun r3 => K (jshr ((e_len.getD a 0 : Nat) : Int) r3))))))
set_option maxHeartbeats 4000000 in
theorem T_J3_length_E (d : Nat) (h : AH) (K : Int → Prop) (a : Nat) (H : B_J3_length_E K a ) : EW mm_J3_length (d + 1) 0 0 (cQ h K) 0 [(0, aR (some (9, 13, a)))] [] h := by
  refine ew_aload_n dJ3_length_0 rfl lm0 ?_
  obtain ⟨v1, H⟩ := H
  refine ew_kval v1 dJ3_length_1 q2016 ?_
  obtain ⟨v2, H⟩ := H
  refine ew_kalen v2 dJ3_length_4 ?_
  refine ew_aload_n dJ3_length_5 rfl lm0 ?_
  obtain ⟨hx6, H⟩ := H
  refine ew_callVk hx6 (d := d + 0) (as := []) rfl dJ3_length_6 me_J3_coder rfl rfl q483 q484 q485 (Nat.le_of_ble_eq_true rfl) (Nat.zero_le _) (Nat.zero_le _) (S_J3_coder (d := d + 0) H) (fun o h' hq4 _ => ?_) (fun E i h' q _ => (cQ_no q).elim)
  obtain ⟨r3, E5, rfl, H⟩ := hq4
  cases E5
  refine ew_ishr dJ3_length_9 ?_
  exact ew_ret (o := some (aI (jshr ((e_len.getD a 0 : Nat) : Int) r3))) rfl ⟨_, rfl, rfl, H⟩ ⟨dJ3_length_10, .int, rfl, Or.inl rfl, rfl⟩
def C_J3_length (a : Nat) (K : Int → Prop) : Prop := B_J3_length_E K a 
theorem S_J3_length {d : Nat} {h : AH} {K : Int → Prop} {a : Nat} (H : C_J3_length a K) : Sp mm_J3_length (d + 1) 0 0 [aR (some (9, 13, a))] h (cQ h K) :=
 ew_sp rfl (Nat.le_of_ble_eq_true rfl) (T_J3_length_E d h K a (H ))
abbrev mm_J7_checkIndex : EM := (yJ7_checkIndex, cJ7_checkIndex, 3, (Option.some .int), [])
theorem me_J7_checkIndex : e_mth mm_J7_checkIndex 3 := ⟨rfl, q578, q123, by decide +kernel, by decide⟩
def B_J7_checkIndex_E (K : Int → Prop) (a : Int) (b : Int) (z : Option EId) : Prop :=
  ((a < 0 → False) ∧ (¬ a < 0 → ((a < b → K a) ∧ (¬ a < b → False))))
set_option maxHeartbeats 4000000 in
theorem T_J7_checkIndex_E (d : Nat) (h : AH) (K : Int → Prop) (a : Int) (b : Int) (z : Option EId) (H : B_J7_checkIndex_E K a b z ) : EW mm_J7_checkIndex (d + 0) 0 0 (cQ h K) 0 [(0, aI a), (1, aI b), (2, aR z)] [] h := by
  refine ew_iload_n dJ7_checkIndex_0 rfl lm0 ?_
  refine ew_if_lt (tgt := 9) dJ7_checkIndex_1 (by decide) (fun c1 => ?_) (fun c1 => ?_)
  · replace H := H.1 c1
    exact H.elim
  · replace H := H.2 c1
    refine ew_iload_n dJ7_checkIndex_4 rfl lm0 ?_
    refine ew_iload_n dJ7_checkIndex_5 rfl lm1 ?_
    refine ew_icmp_lt (tgt := 16) dJ7_checkIndex_6 (by decide) (fun c2 => ?_) (fun c2 => ?_)
    · replace H := H.1 c2
      refine ew_iload_n dJ7_checkIndex_16 rfl lm0 ?_
      exact ew_ret (o := some (aI a)) rfl ⟨_, rfl, rfl, H⟩ ⟨dJ7_checkIndex_17, .int, rfl, Or.inl rfl, rfl⟩
    · replace H := H.2 c2
      exact H.elim
def C_J7_checkIndex (a : Int) (b : Int) (z : Option EId) (K : Int → Prop) : Prop := B_J7_checkIndex_E K a b z 
theorem S_J7_checkIndex {d : Nat} {h : AH} {K : Int → Prop} {a : Int} {b : Int} {z : Option EId} (H : C_J7_checkIndex a b z K) : Sp mm_J7_checkIndex (d + 0) 0 0 [aI a, aI b, aR z] h (cQ h K) :=
 ew_sp rfl (Nat.le_of_ble_eq_true rfl) (T_J7_checkIndex_E d h K a b z (H ))
abbrev mm_J11_checkIndex : EM := (yJ11_checkIndex, cJ11_checkIndex, 2, (Option.some .int), [])
theorem me_J11_checkIndex : e_mth mm_J11_checkIndex 2 := ⟨rfl, q698, q128, by decide +kernel, by decide⟩
def B_J11_checkIndex_E (K : Int → Prop) (a : Int) (b : Int) : Prop :=
  (C_J7_checkIndex a b none (fun r1 => K r1))
set_option maxHeartbeats 4000000 in
theorem T_J11_checkIndex_E (d : Nat) (h : AH) (K : Int → Prop) (a : Int) (b : Int) (H : B_J11_checkIndex_E K a b ) : EW mm_J11_checkIndex (d + 1) 0 0 (cQ h K) 0 [(0, aI a), (1, aI b)] [] h := by
  refine ew_iload_n dJ11_checkIndex_0 rfl lm0 ?_
  refine ew_iload_n dJ11_checkIndex_1 rfl lm1 ?_
  refine ew_null dJ11_checkIndex_2 ?_
  refine ew_callS (d := d + 0) (as := [aI a, aI b, aR none]) rfl dJ11_checkIndex_3 me_J7_checkIndex rfl (Or.inl q699) q577 (Nat.le_of_ble_eq_true rfl) (Nat.zero_le _) (Nat.zero_le _) (S_J7_checkIndex (d := d + 0) H) (fun o h' hq2 _ => ?_) (fun E i h' q _ => (cQ_no q).elim)
  obtain ⟨r1, E3, rfl, H⟩ := hq2
  cases E3
  exact ew_ret (o := some (aI r1)) rfl ⟨_, rfl, rfl, H⟩ ⟨dJ11_checkIndex_6, .int, rfl, Or.inl rfl, rfl⟩
def C_J11_checkIndex (a : Int) (b : Int) (K : Int → Prop) : Prop := B_J11_checkIndex_E K a b 
theorem S_J11_checkIndex {d : Nat} {h : AH} {K : Int → Prop} {a : Int} {b : Int} (H : C_J11_checkIndex a b K) : Sp mm_J11_checkIndex (d + 1) 0 0 [aI a, aI b] h (cQ h K) :=
 ew_sp rfl (Nat.le_of_ble_eq_true rfl) (T_J11_checkIndex_E d h K a b (H ))
abbrev mm_J3_checkIndex : EM := (yJ3_checkIndex, cJ3_checkIndex, 2, (Option.none : Option Jvm.ClassFile.FieldType), [])
theorem me_J3_checkIndex : e_mth mm_J3_checkIndex 2 := ⟨rfl, q575, q119, by decide +kernel, by decide⟩
def B_J3_checkIndex_E (K : Prop) (a : Int) (b : Int) : Prop :=
  (∀ z1 : Option EId, (C_J7_checkIndex a b z1 (fun r3 => K)))
set_option maxHeartbeats 4000000 in
theorem T_J3_checkIndex_E (d : Nat) (h : AH) (K : Prop) (a : Int) (b : Int) (H : B_J3_checkIndex_E K a b ) : EW mm_J3_checkIndex (d + 1) 0 0 (cQv h K) 0 [(0, aI a), (1, aI b)] [] h := by
  refine ew_iload_n dJ3_checkIndex_0 rfl lm0 ?_
  refine ew_iload_n dJ3_checkIndex_1 rfl lm1 ?_
  refine ew_getsQ (k := 0) dJ3_checkIndex_2 rfl q520 (fun z1 ez2 => ?_)
  replace H := H z1
  refine ew_callS (d := d + 0) (as := [aI a, aI b, aR z1]) rfl dJ3_checkIndex_5 me_J7_checkIndex rfl (Or.inl q576) q577 (Nat.le_of_ble_eq_true rfl) (Nat.zero_le _) (Nat.zero_le _) (S_J7_checkIndex (d := d + 0) H) (fun o h' hq4 _ => ?_) (fun E i h' q _ => (cQ_no q).elim)
  obtain ⟨r3, E5, rfl, H⟩ := hq4
  cases E5
  refine ew_pop dJ3_checkIndex_8 rfl ?_
  exact ew_ret (o := none) rfl ⟨rfl, rfl, H⟩ ⟨rfl, dJ3_checkIndex_9⟩
def C_J3_checkIndex (a : Int) (b : Int) (K : Prop) : Prop := B_J3_checkIndex_E K a b 
theorem S_J3_checkIndex {d : Nat} {h : AH} {K : Prop} {a : Int} {b : Int} (H : C_J3_checkIndex a b K) : Sp mm_J3_checkIndex (d + 1) 0 0 [aI a, aI b] h (cQv h K) :=
 ew_sp rfl (Nat.le_of_ble_eq_true rfl) (T_J3_checkIndex_E d h K a b (H ))
abbrev mm_J4_charAt : EM := (yJ4_charAt, cJ4_charAt, 2, (Option.some .char), [])
theorem me_J4_charAt : e_mth mm_J4_charAt 2 := ⟨rfl, q572, q120, by decide +kernel, by decide⟩
def B_J4_charAt_E (K : Int → Prop) (a : Nat) (b : Int) : Prop :=
  ((a < 5) ∧ (C_J3_checkIndex b ((e_len.getD a 0 : Nat) : Int) (((a < 5 ∧ 0 ≤ b ∧ b < ((e_len.getD a 0 : Nat) : Int)) ∧ ((0 ≤ (jand (((e_byt.getD a []).getD (b).toNat 0).toInt) 255) ∧ (jand (((e_byt.getD a []).getD (b).toNat 0).toInt) 255) < 65536) ∧ ((0 ≤ (jand (((e_byt.getD a []).getD (b).toNat 0).toInt) 255) ∧ (jand (((e_byt.getD a []).getD (b).toNat 0).toInt) 255) < 65536) ∧ K (jand (((e_byt.getD a []).getD (b).toNat 0).toInt) 255)))))))
set_option maxHeartbeats 4000000 in
theorem T_J4_charAt_E (d : Nat) (h : AH) (K : Int → Prop) (a : Nat) (b : Int) (H : B_J4_charAt_E K a b ) : EW mm_J4_charAt (d + 2) 0 0 (cQ h K) 0 [(0, aR (some (9, 14, a))), (1, aI b)] [] h := by
  refine ew_iload_n dJ4_charAt_0 rfl lm1 ?_
  refine ew_aload_n dJ4_charAt_1 rfl lm0 ?_
  obtain ⟨v1, H⟩ := H
  refine ew_kalen v1 dJ4_charAt_2 ?_
  refine ew_callS (d := d + 1) (as := [aI b, aI ((e_len.getD a 0 : Nat) : Int)]) rfl dJ4_charAt_3 me_J3_checkIndex rfl (Or.inl q573) q574 (Nat.le_of_ble_eq_true rfl) (Nat.zero_le _) (Nat.zero_le _) (S_J3_checkIndex (d := d + 0) H) (fun o h' hq3 _ => ?_) (fun E i h' q _ => (cQv_no q).elim)
  obtain ⟨E4, rfl, H⟩ := hq3
  cases E4
  refine ew_aload_n dJ4_charAt_6 rfl lm0 ?_
  refine ew_iload_n dJ4_charAt_7 rfl lm1 ?_
  obtain ⟨v5, H⟩ := H
  refine ew_kbald v5.1 dJ4_charAt_8 v5.2.1 v5.2.2 ?_
  refine ew_sipush dJ4_charAt_9 (inI_of rfl) (by decide) ?_
  refine ew_iand dJ4_charAt_12 ?_
  obtain ⟨v6, H⟩ := H
  refine ew_i2c dJ4_charAt_13 v6.1 v6.2 ?_
  obtain ⟨v7, H⟩ := H
  exact ew_ret (o := some (aI (jand (((e_byt.getD a []).getD (b).toNat 0).toInt) 255))) rfl ⟨_, rfl, rfl, H⟩ ⟨dJ4_charAt_14, .char, rfl, Or.inr (Or.inr (Or.inl rfl)), e_narC v7.1 v7.2⟩
def C_J4_charAt (a : Nat) (b : Int) (K : Int → Prop) : Prop := B_J4_charAt_E K a b 
theorem S_J4_charAt {d : Nat} {h : AH} {K : Int → Prop} {a : Nat} {b : Int} (H : C_J4_charAt a b K) : Sp mm_J4_charAt (d + 2) 0 0 [aR (some (9, 14, a)), aI b] h (cQ h K) :=
 ew_sp rfl (Nat.le_of_ble_eq_true rfl) (T_J4_charAt_E d h K a b (H ))
abbrev mm_J3_charAt : EM := (yJ3_charAt, cJ3_charAt, 2, (Option.some .char), [])
theorem me_J3_charAt : e_mth mm_J3_charAt 1 := ⟨rfl, q569, q119, by decide +kernel, by decide⟩
def B_J3_charAt_E (K : Int → Prop) (a : Nat) (b : Int) : Prop :=
  (a < 5 ∧ (C_J3_isLatin1 a (fun r1 => ((r1 = 0 → False) ∧ (¬ r1 = 0 → ((a < 5) ∧ (C_J4_charAt a b (fun r6 => ((0 ≤ r6 ∧ r6 < 65536) ∧ K r6)))))))))
set_option maxHeartbeats 4000000 in
theorem T_J3_charAt_E (d : Nat) (h : AH) (K : Int → Prop) (a : Nat) (b : Int) (H : B_J3_charAt_E K a b ) : EW mm_J3_charAt (d + 3) 0 0 (cQ h K) 0 [(0, aR (some (9, 13, a))), (1, aI b)] [] h := by
  refine ew_aload_n dJ3_charAt_0 rfl lm0 ?_
  obtain ⟨hx10, H⟩ := H
  refine ew_callVk hx10 (d := d + 2) (as := []) rfl dJ3_charAt_1 me_J3_isLatin1 rfl rfl q473 q474 q475 (Nat.le_of_ble_eq_true rfl) (Nat.zero_le _) (Nat.zero_le _) (S_J3_isLatin1 (d := d + 2) H) (fun o h' hq2 _ => ?_) (fun E i h' q _ => (cQ_no q).elim)
  obtain ⟨r1, E3, rfl, H⟩ := hq2
  cases E3
  refine ew_if_eq (tgt := 16) dJ3_charAt_4 (by decide) (fun c4 => ?_) (fun c4 => ?_)
  · replace H := H.1 c4
    exact H.elim
  · replace H := H.2 c4
    refine ew_aload_n dJ3_charAt_7 rfl lm0 ?_
    obtain ⟨v5, H⟩ := H
    refine ew_kval v5 dJ3_charAt_8 q2016 ?_
    refine ew_iload_n dJ3_charAt_11 rfl lm1 ?_
    refine ew_callS (d := d + 2) (as := [aR (some (9, 14, a)), aI b]) rfl dJ3_charAt_12 me_J4_charAt rfl (Or.inl q570) q571 (Nat.le_of_ble_eq_true rfl) (Nat.zero_le _) (Nat.zero_le _) (S_J4_charAt (d := d + 0) H) (fun o h' hq7 _ => ?_) (fun E i h' q _ => (cQ_no q).elim)
    obtain ⟨r6, E8, rfl, H⟩ := hq7
    cases E8
    obtain ⟨v9, H⟩ := H
    exact ew_ret (o := some (aI r6)) rfl ⟨_, rfl, rfl, H⟩ ⟨dJ3_charAt_15, .char, rfl, Or.inr (Or.inr (Or.inl rfl)), e_narC v9.1 v9.2⟩
def C_J3_charAt (a : Nat) (b : Int) (K : Int → Prop) : Prop := B_J3_charAt_E K a b 
theorem S_J3_charAt {d : Nat} {h : AH} {K : Int → Prop} {a : Nat} {b : Int} (H : C_J3_charAt a b K) : Sp mm_J3_charAt (d + 3) 0 0 [aR (some (9, 13, a)), aI b] h (cQ h K) :=
 ew_sp rfl (Nat.le_of_ble_eq_true rfl) (T_J3_charAt_E d h K a b (H ))
abbrev mm_J4_canEncode : EM := (yJ4_canEncode, cJ4_canEncode, 1, (Option.some .boolean), [])
theorem me_J4_canEncode : e_mth mm_J4_canEncode 1 := ⟨rfl, q492, q120, by decide +kernel, by decide⟩
def B_J4_canEncode_E (K : Int → Prop) (a : Int) : Prop :=
  ((a < 0 → K 0) ∧ (¬ a < 0 → ((255 < a → K 0) ∧ (¬ 255 < a → K 1))))
set_option maxHeartbeats 4000000 in
theorem T_J4_canEncode_E (d : Nat) (h : AH) (K : Int → Prop) (a : Int) (H : B_J4_canEncode_E K a ) : EW mm_J4_canEncode (d + 0) 0 0 (cQ h K) 0 [(0, aI a)] [] h := by
  refine ew_iload_n dJ4_canEncode_0 rfl lm0 ?_
  refine ew_if_lt (tgt := 15) dJ4_canEncode_1 (by decide) (fun c1 => ?_) (fun c1 => ?_)
  · replace H := H.1 c1
    refine ew_iconst dJ4_canEncode_15 (inI_of rfl) ?_
    exact ew_ret (o := some (aI 0)) rfl ⟨_, rfl, rfl, H⟩ ⟨dJ4_canEncode_16, .boolean, rfl, Or.inr (Or.inl rfl), by decide⟩
  · replace H := H.2 c1
    refine ew_iload_n dJ4_canEncode_4 rfl lm0 ?_
    refine ew_sipush dJ4_canEncode_5 (inI_of rfl) (by decide) ?_
    refine ew_icmp_gt (tgt := 15) dJ4_canEncode_8 (by decide) (fun c2 => ?_) (fun c2 => ?_)
    · replace H := H.1 c2
      refine ew_iconst dJ4_canEncode_15 (inI_of rfl) ?_
      exact ew_ret (o := some (aI 0)) rfl ⟨_, rfl, rfl, H⟩ ⟨dJ4_canEncode_16, .boolean, rfl, Or.inr (Or.inl rfl), by decide⟩
    · replace H := H.2 c2
      refine ew_iconst dJ4_canEncode_11 (inI_of rfl) ?_
      refine ew_goto (tgt := 16) dJ4_canEncode_12 (by decide) ?_
      exact ew_ret (o := some (aI 1)) rfl ⟨_, rfl, rfl, H⟩ ⟨dJ4_canEncode_16, .boolean, rfl, Or.inr (Or.inl rfl), by decide⟩
def C_J4_canEncode (a : Int) (K : Int → Prop) : Prop := B_J4_canEncode_E K a 
theorem S_J4_canEncode {d : Nat} {h : AH} {K : Int → Prop} {a : Int} (H : C_J4_canEncode a K) : Sp mm_J4_canEncode (d + 0) 0 0 [aI a] h (cQ h K) :=
 ew_sp rfl (Nat.le_of_ble_eq_true rfl) (T_J4_canEncode_E d h K a (H ))
abbrev mm_J4_indexOfChar : EM := (yJ4_indexOfChar, cJ4_indexOfChar, 6, (Option.some .int), [])
theorem me_J4_indexOfChar : e_mth mm_J4_indexOfChar 4 := ⟨rfl, q501, q120, by decide +kernel, by decide⟩
def B_J4_indexOfChar_7 (X7 : Nat → Int → Int → Int → Prop) (K : Int → Prop) (x0 : Nat) (x3 : Int) (x4 : Int) (x5 : Int) : Prop :=
  ((x3 ≤ x5 → K (-1)) ∧ (¬ x3 ≤ x5 → ((x0 < 5 ∧ 0 ≤ x5 ∧ x5 < ((e_len.getD x0 0 : Nat) : Int)) ∧ ((((e_byt.getD x0 []).getD (x5).toNat 0).toInt = x4 → K x5) ∧ (¬ ((e_byt.getD x0 []).getD (x5).toNat 0).toInt = x4 → (inI (x5 + 1) ∧ X7 x0 x3 x4 (x5 + 1)))))))
def B_J4_indexOfChar_E (X7 : Nat → Int → Int → Int → Prop) (K : Int → Prop) (a : Nat) (b : Int) (c : Int) (e : Int) : Prop :=
  X7 a e (jb b) c
def W_J4_indexOfChar_7 (d : Nat) (h : AH) (K : Int → Prop) (x0 : Nat) (x3 : Int) (x4 : Int) (x5 : Int) : Prop := EW mm_J4_indexOfChar (d + 0) 0 0 (cQ h K) 7 [(0, aR (some (9, 14, x0))), (3, aI x3), (4, aI x4), (5, aI x5)] [] h
set_option maxHeartbeats 4000000 in
theorem T_J4_indexOfChar_7 (d : Nat) (h : AH) (K : Int → Prop) (x0 : Nat) (x3 : Int) (x4 : Int) (x5 : Int) (H : B_J4_indexOfChar_7 (W_J4_indexOfChar_7 d h K) K x0 x3 x4 x5 ) : EW mm_J4_indexOfChar (d + 0) 0 0 (cQ h K) 7 [(0, aR (some (9, 14, x0))), (3, aI x3), (4, aI x4), (5, aI x5)] [] h := by
  refine ew_iload dJ4_indexOfChar_7 lm3 ?_
  refine ew_iload_n dJ4_indexOfChar_9 rfl lm1 ?_
  refine ew_icmp_ge (tgt := 31) dJ4_indexOfChar_10 (by decide) (fun c1 => ?_) (fun c1 => ?_)
  · replace H := H.1 c1
    refine ew_iconst dJ4_indexOfChar_31 (inI_of rfl) ?_
    exact ew_ret (o := some (aI (-1))) rfl ⟨_, rfl, rfl, H⟩ ⟨dJ4_indexOfChar_32, .int, rfl, Or.inl rfl, rfl⟩
  · replace H := H.2 c1
    refine ew_aload_n dJ4_indexOfChar_13 rfl lm0 ?_
    refine ew_iload dJ4_indexOfChar_14 lm3 ?_
    obtain ⟨v2, H⟩ := H
    refine ew_kbald v2.1 dJ4_indexOfChar_16 v2.2.1 v2.2.2 ?_
    refine ew_iload dJ4_indexOfChar_17 lm2 ?_
    refine ew_icmp_ne (tgt := 25) dJ4_indexOfChar_19 (by decide) (fun c3 => ?_) (fun c3 => ?_)
    · replace H := H.2 c3
      obtain ⟨v4, H⟩ := H
      refine ew_iinc dJ4_indexOfChar_25 lm3 (by decide) v4 (lv' := [(5, aI (x5 + 1)), (0, aR (some (9, 14, x0))), (3, aI x3), (4, aI x4)]) rfl ?_
      refine ew_sub (List.forall_mem_cons.mpr ⟨lm1, (List.forall_mem_cons.mpr ⟨lm2, (List.forall_mem_cons.mpr ⟨lm3, (List.forall_mem_cons.mpr ⟨lm0, e_nm⟩)⟩)⟩)⟩) ?_
      refine ew_goto (tgt := 7) dJ4_indexOfChar_28 (by decide) ?_
      exact ew_sub (List.forall_mem_cons.mpr ⟨lm0, (List.forall_mem_cons.mpr ⟨lm1, (List.forall_mem_cons.mpr ⟨lm2, (List.forall_mem_cons.mpr ⟨lm3, e_nm⟩)⟩)⟩)⟩) H
    · replace H := H.1 c3
      refine ew_iload dJ4_indexOfChar_22 lm3 ?_
      exact ew_ret (o := some (aI x5)) rfl ⟨_, rfl, rfl, H⟩ ⟨dJ4_indexOfChar_24, .int, rfl, Or.inl rfl, rfl⟩
set_option maxHeartbeats 4000000 in
theorem T_J4_indexOfChar_E (d : Nat) (h : AH) (K : Int → Prop) (a : Nat) (b : Int) (c : Int) (e : Int) (H : B_J4_indexOfChar_E (W_J4_indexOfChar_7 d h K) K a b c e ) : EW mm_J4_indexOfChar (d + 0) 0 0 (cQ h K) 0 [(0, aR (some (9, 14, a))), (1, aI b), (2, aI c), (3, aI e)] [] h := by
  refine ew_iload_n dJ4_indexOfChar_0 rfl lm1 ?_
  refine ew_i2b dJ4_indexOfChar_1 ?_
  refine ew_istore dJ4_indexOfChar_2 (by decide) (lv' := [(4, aI (jb b)), (0, aR (some (9, 14, a))), (1, aI b), (2, aI c), (3, aI e)]) rfl ?_
  refine ew_sub (List.forall_mem_cons.mpr ⟨lm1, (List.forall_mem_cons.mpr ⟨lm2, (List.forall_mem_cons.mpr ⟨lm3, (List.forall_mem_cons.mpr ⟨lm4, (List.forall_mem_cons.mpr ⟨lm0, e_nm⟩)⟩)⟩)⟩)⟩) ?_
  refine ew_iload_n dJ4_indexOfChar_4 rfl lm2 ?_
  refine ew_istore dJ4_indexOfChar_5 (by decide) (lv' := [(5, aI c), (0, aR (some (9, 14, a))), (1, aI b), (2, aI c), (3, aI e), (4, aI (jb b))]) rfl ?_
  refine ew_sub (List.forall_mem_cons.mpr ⟨lm1, (List.forall_mem_cons.mpr ⟨lm2, (List.forall_mem_cons.mpr ⟨lm3, (List.forall_mem_cons.mpr ⟨lm4, (List.forall_mem_cons.mpr ⟨lm5, (List.forall_mem_cons.mpr ⟨lm0, e_nm⟩)⟩)⟩)⟩)⟩)⟩) ?_
  exact ew_sub (List.forall_mem_cons.mpr ⟨lm0, (List.forall_mem_cons.mpr ⟨lm3, (List.forall_mem_cons.mpr ⟨lm4, (List.forall_mem_cons.mpr ⟨lm5, e_nm⟩)⟩)⟩)⟩) H
def C_J4_indexOfChar (a : Nat) (b : Int) (c : Int) (e : Int) (K : Int → Prop) : Prop := ∀ (X7 : Nat → Int → Int → Int → Prop), (∀ (x0 : Nat) (x3 : Int) (x4 : Int) (x5 : Int) , B_J4_indexOfChar_7 X7 K x0 x3 x4 x5 → X7 x0 x3 x4 x5 ) → B_J4_indexOfChar_E X7 K a b c e 
theorem S_J4_indexOfChar {d : Nat} {h : AH} {K : Int → Prop} {a : Nat} {b : Int} {c : Int} {e : Int} (H : C_J4_indexOfChar a b c e K) : Sp mm_J4_indexOfChar (d + 0) 0 0 [aR (some (9, 14, a)), aI b, aI c, aI e] h (cQ h K) :=
 ew_sp rfl (Nat.le_of_ble_eq_true rfl) (T_J4_indexOfChar_E d h K a b c e (H _ (fun x0 x3 x4 x5 H => T_J4_indexOfChar_7 d h K x0 x3 x4 x5 H)))
abbrev mm_J4_indexOf : EM := (yJ4_indexOf, cJ4_indexOf, 4, (Option.some .int), [])
theorem me_J4_indexOf : e_mth mm_J4_indexOf 4 := ⟨rfl, q489, q120, by decide +kernel, by decide⟩
def B_J4_indexOf_E (K : Int → Prop) (a : Nat) (b : Int) (c : Int) (e : Int) : Prop :=
  (C_J4_canEncode b (fun r1 => ((r1 = 0 → K (-1)) ∧ (¬ r1 = 0 → ((a < 5) ∧ (((jmax c 0) < (jmin e ((e_len.getD a 0 : Nat) : Int)) → (C_J4_indexOfChar a b (jmax c 0) (jmin e ((e_len.getD a 0 : Nat) : Int)) (fun r7 => K r7))) ∧ (¬ (jmax c 0) < (jmin e ((e_len.getD a 0 : Nat) : Int)) → K (-1))))))))
set_option maxHeartbeats 4000000 in
theorem T_J4_indexOf_E (d : Nat) (h : AH) (K : Int → Prop) (a : Nat) (b : Int) (c : Int) (e : Int) (H : B_J4_indexOf_E K a b c e ) : EW mm_J4_indexOf (d + 1) 0 0 (cQ h K) 0 [(0, aR (some (9, 14, a))), (1, aI b), (2, aI c), (3, aI e)] [] h := by
  refine ew_iload_n dJ4_indexOf_0 rfl lm1 ?_
  refine ew_callS (d := d + 0) (as := [aI b]) rfl dJ4_indexOf_1 me_J4_canEncode rfl (Or.inl q490) q491 (Nat.le_of_ble_eq_true rfl) (Nat.zero_le _) (Nat.zero_le _) (S_J4_canEncode (d := d + 0) H) (fun o h' hq2 _ => ?_) (fun E i h' q _ => (cQ_no q).elim)
  obtain ⟨r1, E3, rfl, H⟩ := hq2
  cases E3
  refine ew_if_ne (tgt := 9) dJ4_indexOf_4 (by decide) (fun c4 => ?_) (fun c4 => ?_)
  · replace H := H.2 c4
    refine ew_iload_n dJ4_indexOf_9 rfl lm2 ?_
    refine ew_iconst dJ4_indexOf_10 (inI_of rfl) ?_
    refine ew_max (d := d + 0) dJ4_indexOf_11 q493 (Nat.le_of_ble_eq_true rfl) ?_
    refine ew_istore_n dJ4_indexOf_14 rfl (by decide) (lv' := [(2, aI (jmax c 0)), (0, aR (some (9, 14, a))), (1, aI b), (3, aI e)]) rfl ?_
    refine ew_sub (List.forall_mem_cons.mpr ⟨lm1, (List.forall_mem_cons.mpr ⟨lm2, (List.forall_mem_cons.mpr ⟨lm0, (List.forall_mem_cons.mpr ⟨lm3, e_nm⟩)⟩)⟩)⟩) ?_
    refine ew_iload_n dJ4_indexOf_15 rfl lm3 ?_
    refine ew_aload_n dJ4_indexOf_16 rfl lm0 ?_
    obtain ⟨v5, H⟩ := H
    refine ew_kalen v5 dJ4_indexOf_17 ?_
    refine ew_min (d := d + 0) dJ4_indexOf_18 q496 (Nat.le_of_ble_eq_true rfl) ?_
    refine ew_istore_n dJ4_indexOf_21 rfl (by decide) (lv' := [(3, aI (jmin e ((e_len.getD a 0 : Nat) : Int))), (0, aR (some (9, 14, a))), (1, aI b), (2, aI (jmax c 0))]) rfl ?_
    refine ew_sub (List.forall_mem_cons.mpr ⟨lm1, (List.forall_mem_cons.mpr ⟨lm2, (List.forall_mem_cons.mpr ⟨lm3, (List.forall_mem_cons.mpr ⟨lm0, e_nm⟩)⟩)⟩)⟩) ?_
    refine ew_iload_n dJ4_indexOf_22 rfl lm2 ?_
    refine ew_iload_n dJ4_indexOf_23 rfl lm3 ?_
    refine ew_icmp_lt (tgt := 29) dJ4_indexOf_24 (by decide) (fun c6 => ?_) (fun c6 => ?_)
    · replace H := H.1 c6
      refine ew_aload_n dJ4_indexOf_29 rfl lm0 ?_
      refine ew_iload_n dJ4_indexOf_30 rfl lm1 ?_
      refine ew_iload_n dJ4_indexOf_31 rfl lm2 ?_
      refine ew_iload_n dJ4_indexOf_32 rfl lm3 ?_
      refine ew_callS (d := d + 0) (as := [aR (some (9, 14, a)), aI b, aI (jmax c 0), aI (jmin e ((e_len.getD a 0 : Nat) : Int))]) rfl dJ4_indexOf_33 me_J4_indexOfChar rfl (Or.inl q499) q500 (Nat.le_of_ble_eq_true rfl) (Nat.zero_le _) (Nat.zero_le _) (S_J4_indexOfChar (d := d + 0) H) (fun o h' hq8 _ => ?_) (fun E i h' q _ => (cQ_no q).elim)
      obtain ⟨r7, E9, rfl, H⟩ := hq8
      cases E9
      exact ew_ret (o := some (aI r7)) rfl ⟨_, rfl, rfl, H⟩ ⟨dJ4_indexOf_36, .int, rfl, Or.inl rfl, rfl⟩
    · replace H := H.2 c6
      refine ew_iconst dJ4_indexOf_27 (inI_of rfl) ?_
      exact ew_ret (o := some (aI (-1))) rfl ⟨_, rfl, rfl, H⟩ ⟨dJ4_indexOf_28, .int, rfl, Or.inl rfl, rfl⟩
  · replace H := H.1 c4
    refine ew_iconst dJ4_indexOf_7 (inI_of rfl) ?_
    exact ew_ret (o := some (aI (-1))) rfl ⟨_, rfl, rfl, H⟩ ⟨dJ4_indexOf_8, .int, rfl, Or.inl rfl, rfl⟩
def C_J4_indexOf (a : Nat) (b : Int) (c : Int) (e : Int) (K : Int → Prop) : Prop := B_J4_indexOf_E K a b c e 
theorem S_J4_indexOf {d : Nat} {h : AH} {K : Int → Prop} {a : Nat} {b : Int} {c : Int} {e : Int} (H : C_J4_indexOf a b c e K) : Sp mm_J4_indexOf (d + 1) 0 0 [aR (some (9, 14, a)), aI b, aI c, aI e] h (cQ h K) :=
 ew_sp rfl (Nat.le_of_ble_eq_true rfl) (T_J4_indexOf_E d h K a b c e (H ))
abbrev mm_J3_indexOf_2 : EM := (yJ3_indexOf_2, cJ3_indexOf_2, 3, (Option.some .int), [])
theorem me_J3_indexOf_2 : e_mth mm_J3_indexOf_2 2 := ⟨rfl, q472, q119, by decide +kernel, by decide⟩
def B_J3_indexOf_2_E (K : Int → Prop) (a : Nat) (b : Int) (c : Int) : Prop :=
  (a < 5 ∧ (C_J3_isLatin1 a (fun r1 => ((r1 = 0 → False) ∧ (¬ r1 = 0 → ((a < 5) ∧ (a < 5 ∧ (C_J3_length a (fun r6 => (C_J4_indexOf a b c r6 (fun r9 => K r9)))))))))))
set_option maxHeartbeats 4000000 in
theorem T_J3_indexOf_2_E (d : Nat) (h : AH) (K : Int → Prop) (a : Nat) (b : Int) (c : Int) (H : B_J3_indexOf_2_E K a b c ) : EW mm_J3_indexOf_2 (d + 2) 0 0 (cQ h K) 0 [(0, aR (some (9, 13, a))), (1, aI b), (2, aI c)] [] h := by
  refine ew_aload_n dJ3_indexOf_2_0 rfl lm0 ?_
  obtain ⟨hx13, H⟩ := H
  refine ew_callVk hx13 (d := d + 1) (as := []) rfl dJ3_indexOf_2_1 me_J3_isLatin1 rfl rfl q473 q474 q475 (Nat.le_of_ble_eq_true rfl) (Nat.zero_le _) (Nat.zero_le _) (S_J3_isLatin1 (d := d + 1) H) (fun o h' hq2 _ => ?_) (fun E i h' q _ => (cQ_no q).elim)
  obtain ⟨r1, E3, rfl, H⟩ := hq2
  cases E3
  refine ew_if_eq (tgt := 23) dJ3_indexOf_2_4 (by decide) (fun c4 => ?_) (fun c4 => ?_)
  · replace H := H.1 c4
    exact H.elim
  · replace H := H.2 c4
    refine ew_aload_n dJ3_indexOf_2_7 rfl lm0 ?_
    obtain ⟨v5, H⟩ := H
    refine ew_kval v5 dJ3_indexOf_2_8 q2016 ?_
    refine ew_iload_n dJ3_indexOf_2_11 rfl lm1 ?_
    refine ew_iload_n dJ3_indexOf_2_12 rfl lm2 ?_
    refine ew_aload_n dJ3_indexOf_2_13 rfl lm0 ?_
    obtain ⟨hx12, H⟩ := H
    refine ew_callVk hx12 (d := d + 1) (as := []) rfl dJ3_indexOf_2_14 me_J3_length rfl rfl q479 q480 q481 (Nat.le_of_ble_eq_true rfl) (Nat.zero_le _) (Nat.zero_le _) (S_J3_length (d := d + 0) H) (fun o h' hq7 _ => ?_) (fun E i h' q _ => (cQ_no q).elim)
    obtain ⟨r6, E8, rfl, H⟩ := hq7
    cases E8
    refine ew_callS (d := d + 1) (as := [aR (some (9, 14, a)), aI b, aI c, aI r6]) rfl dJ3_indexOf_2_17 me_J4_indexOf rfl (Or.inl q487) q488 (Nat.le_of_ble_eq_true rfl) (Nat.zero_le _) (Nat.zero_le _) (S_J4_indexOf (d := d + 0) H) (fun o h' hq10 _ => ?_) (fun E i h' q _ => (cQ_no q).elim)
    obtain ⟨r9, E11, rfl, H⟩ := hq10
    cases E11
    refine ew_goto (tgt := 36) dJ3_indexOf_2_20 (by decide) ?_
    exact ew_ret (o := some (aI r9)) rfl ⟨_, rfl, rfl, H⟩ ⟨dJ3_indexOf_2_36, .int, rfl, Or.inl rfl, rfl⟩
def C_J3_indexOf_2 (a : Nat) (b : Int) (c : Int) (K : Int → Prop) : Prop := B_J3_indexOf_2_E K a b c 
theorem S_J3_indexOf_2 {d : Nat} {h : AH} {K : Int → Prop} {a : Nat} {b : Int} {c : Int} (H : C_J3_indexOf_2 a b c K) : Sp mm_J3_indexOf_2 (d + 2) 0 0 [aR (some (9, 13, a)), aI b, aI c] h (cQ h K) :=
 ew_sp rfl (Nat.le_of_ble_eq_true rfl) (T_J3_indexOf_2_E d h K a b c (H ))
abbrev mm_J3_indexOf : EM := (yJ3_indexOf, cJ3_indexOf, 2, (Option.some .int), [])
theorem me_J3_indexOf : e_mth mm_J3_indexOf 1 := ⟨rfl, q468, q119, by decide +kernel, by decide⟩
def B_J3_indexOf_E (K : Int → Prop) (a : Nat) (b : Int) : Prop :=
  (a < 5 ∧ (C_J3_indexOf_2 a b 0 (fun r1 => K r1)))
set_option maxHeartbeats 4000000 in
theorem T_J3_indexOf_E (d : Nat) (h : AH) (K : Int → Prop) (a : Nat) (b : Int) (H : B_J3_indexOf_E K a b ) : EW mm_J3_indexOf (d + 3) 0 0 (cQ h K) 0 [(0, aR (some (9, 13, a))), (1, aI b)] [] h := by
  refine ew_aload_n dJ3_indexOf_0 rfl lm0 ?_
  refine ew_iload_n dJ3_indexOf_1 rfl lm1 ?_
  refine ew_iconst dJ3_indexOf_2 (inI_of rfl) ?_
  obtain ⟨hx4, H⟩ := H
  refine ew_callVk hx4 (d := d + 2) (as := [aI b, aI 0]) rfl dJ3_indexOf_3 me_J3_indexOf_2 rfl rfl q469 q470 q471 (Nat.le_of_ble_eq_true rfl) (Nat.zero_le _) (Nat.zero_le _) (S_J3_indexOf_2 (d := d + 0) H) (fun o h' hq2 _ => ?_) (fun E i h' q _ => (cQ_no q).elim)
  obtain ⟨r1, E3, rfl, H⟩ := hq2
  cases E3
  exact ew_ret (o := some (aI r1)) rfl ⟨_, rfl, rfl, H⟩ ⟨dJ3_indexOf_6, .int, rfl, Or.inl rfl, rfl⟩
def C_J3_indexOf (a : Nat) (b : Int) (K : Int → Prop) : Prop := B_J3_indexOf_E K a b 
theorem S_J3_indexOf {d : Nat} {h : AH} {K : Int → Prop} {a : Nat} {b : Int} (H : C_J3_indexOf a b K) : Sp mm_J3_indexOf (d + 3) 0 0 [aR (some (9, 13, a)), aI b] h (cQ h K) :=
 ew_sp rfl (Nat.le_of_ble_eq_true rfl) (T_J3_indexOf_E d h K a b (H ))
abbrev mm_J12_newLength : EM := (yJ12_newLength, cJ12_newLength, 4, (Option.some .int), [])
theorem me_J12_newLength : e_mth mm_J12_newLength 3 := ⟨rfl, q751, q130, by decide +kernel, by decide⟩
def B_J12_newLength_E (K : Int → Prop) (a : Int) (b : Int) (c : Int) : Prop :=
  ((inI (a + (jmax b c))) ∧ (((a + (jmax b c)) ≤ 0 → False) ∧ (¬ (a + (jmax b c)) ≤ 0 → ((2147483639 < (a + (jmax b c)) → False) ∧ (¬ 2147483639 < (a + (jmax b c)) → K (a + (jmax b c)))))))
set_option maxHeartbeats 4000000 in
theorem T_J12_newLength_E (d : Nat) (h : AH) (K : Int → Prop) (a : Int) (b : Int) (c : Int) (H : B_J12_newLength_E K a b c ) : EW mm_J12_newLength (d + 1) 0 0 (cQ h K) 0 [(0, aI a), (1, aI b), (2, aI c)] [] h := by
  refine ew_iload_n dJ12_newLength_0 rfl lm0 ?_
  refine ew_iload_n dJ12_newLength_1 rfl lm1 ?_
  refine ew_iload_n dJ12_newLength_2 rfl lm2 ?_
  refine ew_max (d := d + 0) dJ12_newLength_3 q752 (Nat.le_of_ble_eq_true rfl) ?_
  obtain ⟨v1, H⟩ := H
  refine ew_iadd dJ12_newLength_6 v1 ?_
  refine ew_istore_n dJ12_newLength_7 rfl (by decide) (lv' := [(3, aI (a + (jmax b c))), (0, aI a), (1, aI b), (2, aI c)]) rfl ?_
  refine ew_sub (List.forall_mem_cons.mpr ⟨lm1, (List.forall_mem_cons.mpr ⟨lm2, (List.forall_mem_cons.mpr ⟨lm3, (List.forall_mem_cons.mpr ⟨lm0, e_nm⟩)⟩)⟩)⟩) ?_
  refine ew_iconst dJ12_newLength_8 (inI_of rfl) ?_
  refine ew_iload_n dJ12_newLength_9 rfl lm3 ?_
  refine ew_icmp_ge (tgt := 21) dJ12_newLength_10 (by decide) (fun c2 => ?_) (fun c2 => ?_)
  · replace H := H.1 c2
    exact H.elim
  · replace H := H.2 c2
    refine ew_iload_n dJ12_newLength_13 rfl lm3 ?_
    refine ew_ldc (n := 2147483639) dJ12_newLength_14 (inI_of rfl) q753 ?_
    refine ew_icmp_gt (tgt := 21) dJ12_newLength_16 (by decide) (fun c3 => ?_) (fun c3 => ?_)
    · replace H := H.1 c3
      exact H.elim
    · replace H := H.2 c3
      refine ew_iload_n dJ12_newLength_19 rfl lm3 ?_
      exact ew_ret (o := some (aI (a + (jmax b c)))) rfl ⟨_, rfl, rfl, H⟩ ⟨dJ12_newLength_20, .int, rfl, Or.inl rfl, rfl⟩
def C_J12_newLength (a : Int) (b : Int) (c : Int) (K : Int → Prop) : Prop := B_J12_newLength_E K a b c 
theorem S_J12_newLength {d : Nat} {h : AH} {K : Int → Prop} {a : Int} {b : Int} {c : Int} (H : C_J12_newLength a b c K) : Sp mm_J12_newLength (d + 1) 0 0 [aI a, aI b, aI c] h (cQ h K) :=
 ew_sp rfl (Nat.le_of_ble_eq_true rfl) (T_J12_newLength_E d h K a b c (H ))
