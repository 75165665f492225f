/-! ReasonCloserModel: its methods as predicates, by program (gen/gmodel.py) -/
set_option maxRecDepth 100000
theorem mf_0 : e_fd [1] 0 "ReasonCloserModel" "thrown" "I" false := e_fd1 (r := (RX7, TX7, 56)) rfl (by decide) rfl
theorem mf_1 : e_fd [1] 1 "ReasonCloserModel" "trouble" "I" false := e_fd1 (r := (RX7, TX7, 56)) rfl (by decide) rfl
theorem mf_2 : e_fd [1] 2 "ReasonCloserModel" "fault" "I" false := e_fd1 (r := (RX7, TX7, 56)) rfl (by decide) rfl
theorem mf_3 : e_fd [1] 3 "ReasonCloserModel" "where" "I" false := e_fd1 (r := (RX7, TX7, 56)) rfl (by decide) rfl
theorem mf_4 : e_fd [1] 4 "ReasonCloserModel" "tape" "[I" true := e_fd1 (r := (RX7, TX7, 56)) rfl (by decide) rfl
theorem mf_5 : e_fd [1] 5 "ReasonCloserModel" "taped" "I" false := e_fd1 (r := (RX7, TX7, 56)) rfl (by decide) rfl
theorem mf_6 : e_fd [1] 6 "ReasonCloserModel" "funs" "I" false := e_fd1 (r := (RX7, TX7, 56)) rfl (by decide) rfl
theorem mf_7 : e_fd [1] 7 "ReasonCloserModel" "takes" "[I" true := e_fd1 (r := (RX7, TX7, 56)) rfl (by decide) rfl
theorem mf_8 : e_fd [1] 8 "ReasonCloserModel" "rows" "I" false := e_fd1 (r := (RX7, TX7, 56)) rfl (by decide) rfl
theorem mf_9 : e_fd [1] 9 "ReasonCloserModel" "textRows" "I" false := e_fd1 (r := (RX7, TX7, 56)) rfl (by decide) rfl
theorem mf_10 : e_fd [1] 10 "ReasonCloserModel" "sort" "[I" true := e_fd1 (r := (RX7, TX7, 56)) rfl (by decide) rfl
theorem mf_11 : e_fd [1] 11 "ReasonCloserModel" "told" "[I" true := e_fd1 (r := (RX7, TX7, 56)) rfl (by decide) rfl
theorem mf_12 : e_fd [1] 12 "ReasonCloserModel" "name" "[I" true := e_fd1 (r := (RX7, TX7, 56)) rfl (by decide) rfl
theorem mf_13 : e_fd [1] 13 "ReasonCloserModel" "textLong" "I" false := e_fd1 (r := (RX7, TX7, 56)) rfl (by decide) rfl
theorem mf_14 : e_fd [1] 14 "ReasonCloserModel" "place" "I" false := e_fd1 (r := (RX7, TX7, 56)) rfl (by decide) rfl
theorem mf_15 : e_fd [1] 15 "ReasonCloserModel" "spot" "I" false := e_fd1 (r := (RX7, TX7, 56)) rfl (by decide) rfl
theorem mf_16 : e_fd [1] 16 "ReasonCloserModel" "token" "I" false := e_fd1 (r := (RX7, TX7, 56)) rfl (by decide) rfl
theorem mf_17 : e_fd [1] 17 "ReasonCloserModel" "whole" "I" false := e_fd1 (r := (RX7, TX7, 56)) rfl (by decide) rfl
theorem mf_18 : e_fd [1] 18 "ReasonCloserModel" "readFault" "I" false := e_fd1 (r := (RX7, TX7, 56)) rfl (by decide) rfl
theorem mf_19 : e_fd [1] 19 "ReasonCloserModel" "readPlace" "I" false := e_fd1 (r := (RX7, TX7, 56)) rfl (by decide) rfl
theorem mf_20 : e_fd [1] 20 "ReasonCloserModel" "readFuns" "I" false := e_fd1 (r := (RX7, TX7, 56)) rfl (by decide) rfl
theorem mf_21 : e_fd [1] 21 "ReasonCloserModel" "readTerms" "I" false := e_fd1 (r := (RX7, TX7, 56)) rfl (by decide) rfl
theorem mf_22 : e_fd [1] 22 "ReasonCloserModel" "readSames" "I" false := e_fd1 (r := (RX7, TX7, 56)) rfl (by decide) rfl
theorem mf_23 : e_fd [1] 23 "ReasonCloserModel" "readDiffs" "I" false := e_fd1 (r := (RX7, TX7, 56)) rfl (by decide) rfl
theorem mf_24 : e_fd [1] 24 "ReasonCloserModel" "readRows" "I" false := e_fd1 (r := (RX7, TX7, 56)) rfl (by decide) rfl
theorem mf_25 : e_fd [1] 25 "ReasonCloserModel" "funName" "[I" true := e_fd1 (r := (RX7, TX7, 56)) rfl (by decide) rfl
theorem mf_26 : e_fd [1] 26 "ReasonCloserModel" "named" "I" false := e_fd1 (r := (RX7, TX7, 56)) rfl (by decide) rfl
theorem mf_27 : e_fd [1] 27 "ReasonCloserModel" "terms" "I" false := e_fd1 (r := (RX7, TX7, 56)) rfl (by decide) rfl
theorem mf_28 : e_fd [1] 28 "ReasonCloserModel" "fun" "[I" true := e_fd1 (r := (RX7, TX7, 56)) rfl (by decide) rfl
theorem mf_29 : e_fd [1] 29 "ReasonCloserModel" "part" "[I" true := e_fd1 (r := (RX7, TX7, 56)) rfl (by decide) rfl
theorem mf_30 : e_fd [1] 30 "ReasonCloserModel" "sames" "I" false := e_fd1 (r := (RX7, TX7, 56)) rfl (by decide) rfl
theorem mf_31 : e_fd [1] 31 "ReasonCloserModel" "sameA" "[I" true := e_fd1 (r := (RX7, TX7, 56)) rfl (by decide) rfl
theorem mf_32 : e_fd [1] 32 "ReasonCloserModel" "sameB" "[I" true := e_fd1 (r := (RX7, TX7, 56)) rfl (by decide) rfl
theorem mf_33 : e_fd [1] 33 "ReasonCloserModel" "diffs" "I" false := e_fd1 (r := (RX7, TX7, 56)) rfl (by decide) rfl
theorem mf_34 : e_fd [1] 34 "ReasonCloserModel" "diffA" "[I" true := e_fd1 (r := (RX7, TX7, 56)) rfl (by decide) rfl
theorem mf_35 : e_fd [1] 35 "ReasonCloserModel" "diffB" "[I" true := e_fd1 (r := (RX7, TX7, 56)) rfl (by decide) rfl
theorem mf_36 : e_fd [1] 36 "ReasonCloserModel" "lead" "[I" true := e_fd1 (r := (RX7, TX7, 56)) rfl (by decide) rfl
theorem mf_37 : e_fd [1] 37 "ReasonCloserModel" "hangsOn" "[I" true := e_fd1 (r := (RX7, TX7, 56)) rfl (by decide) rfl
theorem mf_38 : e_fd [1] 38 "ReasonCloserModel" "hangsBy" "[I" true := e_fd1 (r := (RX7, TX7, 56)) rfl (by decide) rfl
theorem mf_39 : e_fd [1] 39 "ReasonCloserModel" "joins" "I" false := e_fd1 (r := (RX7, TX7, 56)) rfl (by decide) rfl
theorem mf_40 : e_fd [1] 40 "ReasonCloserModel" "joinA" "[I" true := e_fd1 (r := (RX7, TX7, 56)) rfl (by decide) rfl
theorem mf_41 : e_fd [1] 41 "ReasonCloserModel" "joinB" "[I" true := e_fd1 (r := (RX7, TX7, 56)) rfl (by decide) rfl
theorem mf_42 : e_fd [1] 42 "ReasonCloserModel" "joinSame" "[I" true := e_fd1 (r := (RX7, TX7, 56)) rfl (by decide) rfl
theorem mf_43 : e_fd [1] 43 "ReasonCloserModel" "joinBits" "[I" true := e_fd1 (r := (RX7, TX7, 56)) rfl (by decide) rfl
theorem mf_44 : e_fd [1] 44 "ReasonCloserModel" "by" "[I" true := e_fd1 (r := (RX7, TX7, 56)) rfl (by decide) rfl
theorem mf_45 : e_fd [1] 45 "ReasonCloserModel" "deep" "[I" true := e_fd1 (r := (RX7, TX7, 56)) rfl (by decide) rfl
theorem mf_46 : e_fd [1] 46 "ReasonCloserModel" "proving" "[Z" true := e_fd1 (r := (RX7, TX7, 56)) rfl (by decide) rfl
theorem mf_47 : e_fd [1] 47 "ReasonCloserModel" "leveled" "[I" true := e_fd1 (r := (RX7, TX7, 56)) rfl (by decide) rfl
theorem mf_48 : e_fd [1] 48 "ReasonCloserModel" "ahead" "[I" true := e_fd1 (r := (RX7, TX7, 56)) rfl (by decide) rfl
theorem mf_49 : e_fd [1] 49 "ReasonCloserModel" "cost" "[J" true := e_fd1 (r := (RX7, TX7, 56)) rfl (by decide) rfl
theorem mf_50 : e_fd [1] 50 "ReasonCloserModel" "side" "[J" true := e_fd1 (r := (RX7, TX7, 56)) rfl (by decide) rfl
theorem mf_51 : e_fd [1] 51 "ReasonCloserModel" "hops" "[I" true := e_fd1 (r := (RX7, TX7, 56)) rfl (by decide) rfl
theorem mf_52 : e_fd [1] 52 "ReasonCloserModel" "isHeld" "Z" false := e_fd1 (r := (RX7, TX7, 56)) rfl (by decide) rfl
theorem mf_53 : e_fd [1] 53 "ReasonCloserModel" "nextA" "[I" true := e_fd1 (r := (RX7, TX7, 56)) rfl (by decide) rfl
theorem mf_54 : e_fd [1] 54 "ReasonCloserModel" "nextB" "[I" true := e_fd1 (r := (RX7, TX7, 56)) rfl (by decide) rfl
theorem mf_55 : e_fd [1] 55 "ReasonCloserModel" "nexts" "I" false := e_fd1 (r := (RX7, TX7, 56)) rfl (by decide) rfl
abbrev mm_thrown : EM := (yX7_thrown, cX7_thrown, 1, some .int, [])
theorem me_thrown : e_mth mm_thrown 0 := ⟨rfl, q1578, q117, by decide +kernel, by decide⟩
def B_thrown_E  (K : Int → MS → Prop)  (s0 : MS) : Prop :=
  K (s0.1 0) s0
set_option maxHeartbeats 4000000 in
theorem T_thrown_E (d : Nat) (g : AH) (K : Int → MS → Prop)  (s0 : MS) (H : B_thrown_E  K  s0) : EW mm_thrown (d + 0) 0 0 (mQi g K) 0 [(0, aR (some mT))] [] (mh s0 g) := by
  refine ew_aload_n dX7_thrown_0 rfl lm0 ?_
  refine mw_gI dX7_thrown_1 (e_fl.a q1406) mf_0 rfl ?_
  exact ew_ret (o := some (aI (s0.1 0))) rfl ⟨_, _, rfl, rfl, H⟩ ⟨dX7_thrown_4, .int, rfl, Or.inl rfl, rfl⟩
def C_thrown  (s0 : MS) (K : Int → MS → Prop) : Prop := B_thrown_E  K  s0
theorem S_thrown {d : Nat} {g : AH} {K : Int → MS → Prop}  {s0 : MS} (H : C_thrown  s0 K) : Sp mm_thrown (d + 0) 0 0 [aR (some mT)] (mh s0 g) (mQi g K) :=
  ew_sp rfl (Nat.le_of_ble_eq_true rfl) (T_thrown_E d g K  s0 (H  ))
abbrev mm_laysWord : EM := (yX7_laysWord, cX7_laysWord, 3, none, [])
theorem me_laysWord : e_mth mm_laysWord 1 := ⟨rfl, q1586, q117, by decide +kernel, by decide⟩
def B_laysWord_2 (X2 : Int → Int → MS → Prop) (K : MS → Prop) (x1 : Int) (x2 : Int) (s0 : MS) : Prop :=
  ((4 ≤ x2 → ((inI ((s0.1 5) + 4)) ∧ (∀ s3 : MS, s3 = ms s0 5 ((s0.1 5) + 4) → K s3))) ∧ (¬ 4 ≤ x2 → ((inI ((s0.1 5) + x2)) ∧ ((inI (8 * x2)) ∧ ((inI (24 - (8 * x2))) ∧ ((0 ≤ ((s0.1 5) + x2) ∧ ((s0.1 5) + x2) < 500) ∧ ∀ s8 : MS, s8 = ma s0 4 ((s0.1 5) + x2) (jand (jshr x1 (24 - (8 * x2))) 255) → (inI (x2 + 1) ∧ X2 x1 (x2 + 1) s8)))))))
def B_laysWord_E (X2 : Int → Int → MS → Prop) (K : MS → Prop) (a : Int) (s0 : MS) : Prop :=
  X2 a 0 s0
def W_laysWord_2 (d : Nat) (g : AH) (K : MS → Prop) (x1 : Int) (x2 : Int) (s0 : MS) : Prop := EW mm_laysWord (d + 0) 0 0 (mQ g K) 2 [(0, aR (some mT)), (1, aI x1), (2, aI x2)] [] (mh s0 g)
set_option maxHeartbeats 4000000 in
theorem T_laysWord_2 (d : Nat) (g : AH) (K : MS → Prop) (x1 : Int) (x2 : Int) (s0 : MS) (H : B_laysWord_2 (W_laysWord_2 d g K) K x1 x2 s0) : EW mm_laysWord (d + 0) 0 0 (mQ g K) 2 [(0, aR (some mT)), (1, aI x1), (2, aI x2)] [] (mh s0 g) := by
  refine ew_iload_n dX7_laysWord_2 rfl lm2 ?_
  refine ew_iconst dX7_laysWord_3 (inI_of rfl) ?_
  refine ew_icmp_ge (tgt := 37) dX7_laysWord_4 (by decide) (fun c1 => ?_) (fun c1 => ?_)
  · replace H := H.1 c1
    refine ew_aload_n dX7_laysWord_37 rfl lm0 ?_
    refine ew_dup dX7_laysWord_38 rfl ?_
    refine mw_gI dX7_laysWord_39 (e_fl.a q1411) mf_5 rfl ?_
    refine ew_iconst dX7_laysWord_42 (inI_of rfl) ?_
    obtain ⟨v2, H⟩ := H
    refine ew_iadd dX7_laysWord_43 v2 ?_
    refine mw_pI dX7_laysWord_44 (e_fl.a q1411) mf_5 (Or.inl rfl) (ty := .int) (by decide +kernel) trivial (fun s3 e4 => ?_)
    replace H := H s3 e4
    exact ew_ret (o := none) rfl ⟨_, rfl, rfl, H⟩ ⟨rfl, dX7_laysWord_47⟩
  · replace H := H.2 c1
    refine ew_aload_n dX7_laysWord_7 rfl lm0 ?_
    refine mw_gA dX7_laysWord_8 (e_fl.a q1410) mf_4 rfl ?_
    refine ew_aload_n dX7_laysWord_11 rfl lm0 ?_
    refine mw_gI dX7_laysWord_12 (e_fl.a q1411) mf_5 rfl ?_
    refine ew_iload_n dX7_laysWord_15 rfl lm2 ?_
    obtain ⟨v5, H⟩ := H
    refine ew_iadd dX7_laysWord_16 v5 ?_
    refine ew_iload_n dX7_laysWord_17 rfl lm1 ?_
    refine ew_bipush dX7_laysWord_18 (inI_of rfl) (by decide) ?_
    refine ew_bipush dX7_laysWord_20 (inI_of rfl) (by decide) ?_
    refine ew_iload_n dX7_laysWord_22 rfl lm2 ?_
    obtain ⟨v6, H⟩ := H
    refine ew_imul dX7_laysWord_23 v6 ?_
    obtain ⟨v7, H⟩ := H
    refine ew_isub dX7_laysWord_24 v7 ?_
    refine ew_ishr dX7_laysWord_25 ?_
    refine ew_sipush dX7_laysWord_26 (inI_of rfl) (by decide) ?_
    refine ew_iand dX7_laysWord_29 ?_
    obtain ⟨v10, H⟩ := H
    refine mw_iast dX7_laysWord_30 rfl v10.1 v10.2 (fun s8 e9 => ?_)
    replace H := H s8 e9
    obtain ⟨v11, H⟩ := H
    refine ew_iinc dX7_laysWord_31 lm2 (by decide) v11 (lv' := [(2, aI (x2 + 1)), (0, aR (some mT)), (1, aI x1)]) rfl ?_
    refine ew_sub (List.forall_mem_cons.mpr ⟨lm1, (List.forall_mem_cons.mpr ⟨lm2, (List.forall_mem_cons.mpr ⟨lm0, e_nm⟩)⟩)⟩) ?_
    refine ew_goto (tgt := 2) dX7_laysWord_34 (by decide) ?_
    exact ew_sub (List.forall_mem_cons.mpr ⟨lm0, (List.forall_mem_cons.mpr ⟨lm1, (List.forall_mem_cons.mpr ⟨lm2, e_nm⟩)⟩)⟩) H
set_option maxHeartbeats 4000000 in
theorem T_laysWord_E (d : Nat) (g : AH) (K : MS → Prop) (a : Int) (s0 : MS) (H : B_laysWord_E (W_laysWord_2 d g K) K a s0) : EW mm_laysWord (d + 0) 0 0 (mQ g K) 0 [(0, aR (some mT)), (1, aI a)] [] (mh s0 g) := by
  refine ew_iconst dX7_laysWord_0 (inI_of rfl) ?_
  refine ew_istore_n dX7_laysWord_1 rfl (by decide) (lv' := [(2, aI 0), (0, aR (some mT)), (1, aI a)]) rfl ?_
  refine ew_sub (List.forall_mem_cons.mpr ⟨lm1, (List.forall_mem_cons.mpr ⟨lm2, (List.forall_mem_cons.mpr ⟨lm0, e_nm⟩)⟩)⟩) ?_
  exact ew_sub (List.forall_mem_cons.mpr ⟨lm0, (List.forall_mem_cons.mpr ⟨lm1, (List.forall_mem_cons.mpr ⟨lm2, e_nm⟩)⟩)⟩) H
def C_laysWord (a : Int) (s0 : MS) (K : MS → Prop) : Prop := ∀ (X2 : Int → Int → MS → Prop), (∀ (x1 : Int) (x2 : Int) (s0 : MS), B_laysWord_2 X2 K x1 x2 s0 → X2 x1 x2 s0) → B_laysWord_E X2 K a s0
theorem S_laysWord {d : Nat} {g : AH} {K : MS → Prop} {a : Int} {s0 : MS} (H : C_laysWord a s0 K) : Sp mm_laysWord (d + 0) 0 0 [aR (some mT), aI a] (mh s0 g) (mQ g K) :=
  ew_sp rfl (Nat.le_of_ble_eq_true rfl) (T_laysWord_E d g K a s0 (H _ (fun x1 x2 s0 H => T_laysWord_2 d g K x1 x2 s0 H)))
abbrev mm_feed : EM := (yX7_feed, cX7_feed, 6, some .int, [])
theorem me_feed : e_mth mm_feed 5 := ⟨rfl, q1582, q117, by decide +kernel, by decide⟩
def B_feed_E  (K : Int → MS → Prop) (a : Int) (b : Int) (c : Int) (e : Int) (f : Int) (s0 : MS) : Prop :=
  (∀ s1 : MS, s1 = ms s0 0 0 → (((s1.1 5) ≤ 480 → (C_laysWord a s1 (fun s4 => (C_laysWord b s4 (fun s7 => (C_laysWord c s7 (fun s10 => (C_laysWord e s10 (fun s13 => (C_laysWord f s13 (fun s16 => K (s16.1 5) s16))))))))))) ∧ (¬ (s1.1 5) ≤ 480 → K (-1) s1)))
set_option maxHeartbeats 4000000 in
theorem T_feed_E (d : Nat) (g : AH) (K : Int → MS → Prop) (a : Int) (b : Int) (c : Int) (e : Int) (f : Int) (s0 : MS) (H : B_feed_E  K a b c e f s0) : EW mm_feed (d + 1) 0 0 (mQi g K) 0 [(0, aR (some mT)), (1, aI a), (2, aI b), (3, aI c), (4, aI e), (5, aI f)] [] (mh s0 g) := by
  refine ew_aload_n dX7_feed_0 rfl lm0 ?_
  refine ew_iconst dX7_feed_1 (inI_of rfl) ?_
  refine mw_pI dX7_feed_2 (e_fl.a q1406) mf_0 (Or.inl rfl) (ty := .int) (by decide +kernel) trivial (fun s1 e2 => ?_)
  replace H := H s1 e2
  refine ew_aload_n dX7_feed_5 rfl lm0 ?_
  refine mw_gI dX7_feed_6 (e_fl.a q1411) mf_5 rfl ?_
  refine ew_sipush dX7_feed_9 (inI_of rfl) (by decide) ?_
  refine ew_icmp_le (tgt := 17) dX7_feed_12 (by decide) (fun c3 => ?_) (fun c3 => ?_)
  · replace H := H.1 c3
    refine ew_aload_n dX7_feed_17 rfl lm0 ?_
    refine ew_iload_n dX7_feed_18 rfl lm1 ?_
    refine ew_callV (d := d + 0) (as := [aI a]) rfl dX7_feed_19 me_laysWord rfl (ci := 1) rfl rfl (mh_o _ _) (Or.inl q1583) q1585 qs55 (Nat.le_of_ble_eq_true rfl) (Nat.le_refl 0) (Nat.le_refl 0) (S_laysWord (d := d + 0) H) (fun o h' hq5 _ => ?_) (fun E i h' q _ => (mQ_no q).elim)
    obtain ⟨s4, E6, rfl, H⟩ := hq5
    cases E6
    refine ew_aload_n dX7_feed_22 rfl lm0 ?_
    refine ew_iload_n dX7_feed_23 rfl lm2 ?_
    refine ew_callV (d := d + 0) (as := [aI b]) rfl dX7_feed_24 me_laysWord rfl (ci := 1) rfl rfl (mh_o _ _) (Or.inl q1583) q1585 qs55 (Nat.le_of_ble_eq_true rfl) (Nat.le_refl 0) (Nat.le_refl 0) (S_laysWord (d := d + 0) H) (fun o h' hq8 _ => ?_) (fun E i h' q _ => (mQ_no q).elim)
    obtain ⟨s7, E9, rfl, H⟩ := hq8
    cases E9
    refine ew_aload_n dX7_feed_27 rfl lm0 ?_
    refine ew_iload_n dX7_feed_28 rfl lm3 ?_
    refine ew_callV (d := d + 0) (as := [aI c]) rfl dX7_feed_29 me_laysWord rfl (ci := 1) rfl rfl (mh_o _ _) (Or.inl q1583) q1585 qs55 (Nat.le_of_ble_eq_true rfl) (Nat.le_refl 0) (Nat.le_refl 0) (S_laysWord (d := d + 0) H) (fun o h' hq11 _ => ?_) (fun E i h' q _ => (mQ_no q).elim)
    obtain ⟨s10, E12, rfl, H⟩ := hq11
    cases E12
    refine ew_aload_n dX7_feed_32 rfl lm0 ?_
    refine ew_iload dX7_feed_33 lm4 ?_
    refine ew_callV (d := d + 0) (as := [aI e]) rfl dX7_feed_35 me_laysWord rfl (ci := 1) rfl rfl (mh_o _ _) (Or.inl q1583) q1585 qs55 (Nat.le_of_ble_eq_true rfl) (Nat.le_refl 0) (Nat.le_refl 0) (S_laysWord (d := d + 0) H) (fun o h' hq14 _ => ?_) (fun E i h' q _ => (mQ_no q).elim)
    obtain ⟨s13, E15, rfl, H⟩ := hq14
    cases E15
    refine ew_aload_n dX7_feed_38 rfl lm0 ?_
    refine ew_iload dX7_feed_39 lm5 ?_
    refine ew_callV (d := d + 0) (as := [aI f]) rfl dX7_feed_41 me_laysWord rfl (ci := 1) rfl rfl (mh_o _ _) (Or.inl q1583) q1585 qs55 (Nat.le_of_ble_eq_true rfl) (Nat.le_refl 0) (Nat.le_refl 0) (S_laysWord (d := d + 0) H) (fun o h' hq17 _ => ?_) (fun E i h' q _ => (mQ_no q).elim)
    obtain ⟨s16, E18, rfl, H⟩ := hq17
    cases E18
    refine ew_aload_n dX7_feed_44 rfl lm0 ?_
    refine mw_gI dX7_feed_45 (e_fl.a q1411) mf_5 rfl ?_
    exact ew_ret (o := some (aI (s16.1 5))) rfl ⟨_, _, rfl, rfl, H⟩ ⟨dX7_feed_48, .int, rfl, Or.inl rfl, rfl⟩
  · replace H := H.2 c3
    refine ew_iconst dX7_feed_15 (inI_of rfl) ?_
    exact ew_ret (o := some (aI (-1))) rfl ⟨_, _, rfl, rfl, H⟩ ⟨dX7_feed_16, .int, rfl, Or.inl rfl, rfl⟩
def C_feed (a : Int) (b : Int) (c : Int) (e : Int) (f : Int) (s0 : MS) (K : Int → MS → Prop) : Prop := B_feed_E  K a b c e f s0
theorem S_feed {d : Nat} {g : AH} {K : Int → MS → Prop} {a : Int} {b : Int} {c : Int} {e : Int} {f : Int} {s0 : MS} (H : C_feed a b c e f s0 K) : Sp mm_feed (d + 1) 0 0 [aR (some mT), aI a, aI b, aI c, aI e, aI f] (mh s0 g) (mQi g K) :=
  ew_sp rfl (Nat.le_of_ble_eq_true rfl) (T_feed_E d g K a b c e f s0 (H  ))
abbrev mm_in : EM := (yX7_in, cX7_in, 3, some .boolean, [])
theorem me_in : e_mth mm_in 3 := ⟨rfl, q1593, q117, by decide +kernel, by decide⟩
def B_in_E  (K : Int → MS → Prop) (a : Int) (b : Int) (c : Int) (s0 : MS) : Prop :=
  ((a < b → K 0 s0) ∧ (¬ a < b → ((c < a → K 0 s0) ∧ (¬ c < a → K 1 s0))))
set_option maxHeartbeats 4000000 in
theorem T_in_E (d : Nat) (g : AH) (K : Int → MS → Prop) (a : Int) (b : Int) (c : Int) (s0 : MS) (H : B_in_E  K a b c s0) : EW mm_in (d + 0) 0 0 (mQi g K) 0 [(0, aI a), (1, aI b), (2, aI c)] [] (mh s0 g) := by
  refine ew_iload_n dX7_in_0 rfl lm0 ?_
  refine ew_iload_n dX7_in_1 rfl lm1 ?_
  refine ew_icmp_lt (tgt := 14) dX7_in_2 (by decide) (fun c1 => ?_) (fun c1 => ?_)
  · replace H := H.1 c1
    refine ew_iconst dX7_in_14 (inI_of rfl) ?_
    exact ew_ret (o := some (aI 0)) rfl ⟨_, _, rfl, rfl, H⟩ ⟨dX7_in_15, .boolean, rfl, Or.inr (Or.inl rfl), by decide⟩
  · replace H := H.2 c1
    refine ew_iload_n dX7_in_5 rfl lm0 ?_
    refine ew_iload_n dX7_in_6 rfl lm2 ?_
    refine ew_icmp_gt (tgt := 14) dX7_in_7 (by decide) (fun c2 => ?_) (fun c2 => ?_)
    · replace H := H.1 c2
      refine ew_iconst dX7_in_14 (inI_of rfl) ?_
      exact ew_ret (o := some (aI 0)) rfl ⟨_, _, rfl, rfl, H⟩ ⟨dX7_in_15, .boolean, rfl, Or.inr (Or.inl rfl), by decide⟩
    · replace H := H.2 c2
      refine ew_iconst dX7_in_10 (inI_of rfl) ?_
      refine ew_goto (tgt := 15) dX7_in_11 (by decide) ?_
      exact ew_ret (o := some (aI 1)) rfl ⟨_, _, rfl, rfl, H⟩ ⟨dX7_in_15, .boolean, rfl, Or.inr (Or.inl rfl), by decide⟩
def C_in (a : Int) (b : Int) (c : Int) (s0 : MS) (K : Int → MS → Prop) : Prop := B_in_E  K a b c s0
theorem S_in {d : Nat} {g : AH} {K : Int → MS → Prop} {a : Int} {b : Int} {c : Int} {s0 : MS} (H : C_in a b c s0 K) : Sp mm_in (d + 0) 0 0 [aI a, aI b, aI c] (mh s0 g) (mQi g K) :=
  ew_sp rfl (Nat.le_of_ble_eq_true rfl) (T_in_E d g K a b c s0 (H  ))
abbrev mm_isRefused : EM := (yX7_isRefused, cX7_isRefused, 2, some .boolean, [])
theorem me_isRefused : e_mth mm_isRefused 1 := ⟨rfl, q1597, q117, by decide +kernel, by decide⟩
def B_isRefused_E  (K : Int → MS → Prop) (a : Int) (s0 : MS) : Prop :=
  (∀ s1 : MS, s1 = ms s0 0 0 → (∀ s3 : MS, s3 = ms s1 3 (-1) → (∀ s5 : MS, s5 = ms s3 1 a → ((a = 0 → K 0 s5) ∧ (¬ a = 0 → K 1 s5)))))
set_option maxHeartbeats 4000000 in
theorem T_isRefused_E (d : Nat) (g : AH) (K : Int → MS → Prop) (a : Int) (s0 : MS) (H : B_isRefused_E  K a s0) : EW mm_isRefused (d + 0) 0 0 (mQi g K) 0 [(0, aR (some mT)), (1, aI a)] [] (mh s0 g) := by
  refine ew_aload_n dX7_isRefused_0 rfl lm0 ?_
  refine ew_iconst dX7_isRefused_1 (inI_of rfl) ?_
  refine mw_pI dX7_isRefused_2 (e_fl.a q1406) mf_0 (Or.inl rfl) (ty := .int) (by decide +kernel) trivial (fun s1 e2 => ?_)
  replace H := H s1 e2
  refine ew_aload_n dX7_isRefused_5 rfl lm0 ?_
  refine ew_iconst dX7_isRefused_6 (inI_of rfl) ?_
  refine mw_pI dX7_isRefused_7 (e_fl.a q1409) mf_3 (Or.inl rfl) (ty := .int) (by decide +kernel) trivial (fun s3 e4 => ?_)
  replace H := H s3 e4
  refine ew_aload_n dX7_isRefused_10 rfl lm0 ?_
  refine ew_iload_n dX7_isRefused_11 rfl lm1 ?_
  refine mw_pI dX7_isRefused_12 (e_fl.a q1407) mf_1 (Or.inl rfl) (ty := .int) (by decide +kernel) trivial (fun s5 e6 => ?_)
  replace H := H s5 e6
  refine ew_iload_n dX7_isRefused_15 rfl lm1 ?_
  refine ew_if_eq (tgt := 23) dX7_isRefused_16 (by decide) (fun c7 => ?_) (fun c7 => ?_)
  · replace H := H.1 c7
    refine ew_iconst dX7_isRefused_23 (inI_of rfl) ?_
    exact ew_ret (o := some (aI 0)) rfl ⟨_, _, rfl, rfl, H⟩ ⟨dX7_isRefused_24, .boolean, rfl, Or.inr (Or.inl rfl), by decide⟩
  · replace H := H.2 c7
    refine ew_iconst dX7_isRefused_19 (inI_of rfl) ?_
    refine ew_goto (tgt := 24) dX7_isRefused_20 (by decide) ?_
    exact ew_ret (o := some (aI 1)) rfl ⟨_, _, rfl, rfl, H⟩ ⟨dX7_isRefused_24, .boolean, rfl, Or.inr (Or.inl rfl), by decide⟩
def C_isRefused (a : Int) (s0 : MS) (K : Int → MS → Prop) : Prop := B_isRefused_E  K a s0
theorem S_isRefused {d : Nat} {g : AH} {K : Int → MS → Prop} {a : Int} {s0 : MS} (H : C_isRefused a s0 K) : Sp mm_isRefused (d + 0) 0 0 [aR (some mT), aI a] (mh s0 g) (mQi g K) :=
  ew_sp rfl (Nat.le_of_ble_eq_true rfl) (T_isRefused_E d g K a s0 (H  ))
abbrev mm_see : EM := (yX7_see, cX7_see, 2, some .int, [])
theorem me_see : e_mth mm_see 1 := ⟨rfl, q1609, q117, by decide +kernel, by decide⟩
def B_see_E  (K : Int → MS → Prop) (a : Int) (s0 : MS) : Prop :=
  (((s0.1 13) ≤ a → K (-1) s0) ∧ (¬ (s0.1 13) ≤ a → ((0 ≤ a ∧ a < 500) ∧ K (s0.2 4 a) s0)))
set_option maxHeartbeats 4000000 in
theorem T_see_E (d : Nat) (g : AH) (K : Int → MS → Prop) (a : Int) (s0 : MS) (H : B_see_E  K a s0) : EW mm_see (d + 0) 0 0 (mQi g K) 0 [(0, aR (some mT)), (1, aI a)] [] (mh s0 g) := by
  refine ew_iload_n dX7_see_0 rfl lm1 ?_
  refine ew_aload_n dX7_see_1 rfl lm0 ?_
  refine mw_gI dX7_see_2 (e_fl.a q1419) mf_13 rfl ?_
  refine ew_icmp_ge (tgt := 17) dX7_see_5 (by decide) (fun c1 => ?_) (fun c1 => ?_)
  · replace H := H.1 c1
    refine ew_iconst dX7_see_17 (inI_of rfl) ?_
    exact ew_ret (o := some (aI (-1))) rfl ⟨_, _, rfl, rfl, H⟩ ⟨dX7_see_18, .int, rfl, Or.inl rfl, rfl⟩
  · replace H := H.2 c1
    refine ew_aload_n dX7_see_8 rfl lm0 ?_
    refine mw_gA dX7_see_9 (e_fl.a q1410) mf_4 rfl ?_
    refine ew_iload_n dX7_see_12 rfl lm1 ?_
    obtain ⟨v2, H⟩ := H
    refine mw_iald dX7_see_13 rfl v2.1 v2.2 ?_
    refine ew_goto (tgt := 18) dX7_see_14 (by decide) ?_
    exact ew_ret (o := some (aI (s0.2 4 a))) rfl ⟨_, _, rfl, rfl, H⟩ ⟨dX7_see_18, .int, rfl, Or.inl rfl, rfl⟩
def C_see (a : Int) (s0 : MS) (K : Int → MS → Prop) : Prop := B_see_E  K a s0
theorem S_see {d : Nat} {g : AH} {K : Int → MS → Prop} {a : Int} {s0 : MS} (H : C_see a s0 K) : Sp mm_see (d + 0) 0 0 [aR (some mT), aI a] (mh s0 g) (mQi g K) :=
  ew_sp rfl (Nat.le_of_ble_eq_true rfl) (T_see_E d g K a s0 (H  ))
abbrev mm_goesOn : EM := (yX7_goesOn, cX7_goesOn, 2, none, [])
theorem me_goesOn : e_mth mm_goesOn 0 := ⟨rfl, q1605, q117, by decide +kernel, by decide⟩
def B_goesOn_0 (X0 : MS → Prop) (X65 : MS → Prop) (X139 : MS → Prop) (K : MS → Prop)  (s0 : MS) : Prop :=
  (C_see (s0.1 15) s0 (fun r4 s1 => ((r4 = 32 → ((inI ((s1.1 15) + 1)) ∧ (∀ s49 : MS, s49 = ms s1 15 ((s1.1 15) + 1) → X0 s49))) ∧ (¬ r4 = 32 → (∀ s6 : MS, s6 = ms s1 14 (s1.1 15) → (C_see (s6.1 15) s6 (fun r11 s8 => ((r11 = (-1) → (∀ s46 : MS, s46 = ms s8 16 0 → K s46)) ∧ (¬ r11 = (-1) → (C_in r11 97 122 s8 (fun r16 s13 => ((r16 = 0 → (C_in r11 48 57 s13 (fun r21 s18 => ((r21 = 0 → ((inI ((s18.1 15) + 1)) ∧ (∀ s24 : MS, s24 = ms s18 15 ((s18.1 15) + 1) → ((r11 = 59 → (∀ s27 : MS, s27 = ms s24 16 r11 → K s27)) ∧ (¬ r11 = 59 → ((r11 = 44 → (∀ s30 : MS, s30 = ms s24 16 r11 → K s30)) ∧ (¬ r11 = 44 → ((r11 = 61 → (∀ s33 : MS, s33 = ms s24 16 r11 → K s33)) ∧ (¬ r11 = 61 → ((r11 = 40 → (∀ s36 : MS, s36 = ms s24 16 r11 → K s36)) ∧ (¬ r11 = 40 → ((r11 = 41 → (∀ s41 : MS, s41 = ms s24 16 r11 → K s41)) ∧ (¬ r11 = 41 → (∀ s39 : MS, s39 = ms s24 16 1 → K s39)))))))))))))) ∧ (¬ r21 = 0 → ((inI (r11 - 48)) ∧ (∀ s44 : MS, s44 = ms s18 17 (r11 - 48) → X139 s44))))))) ∧ (¬ r16 = 0 → X65 s13)))))))))))))
def B_goesOn_65 (X0 : MS → Prop) (X65 : MS → Prop) (X139 : MS → Prop) (K : MS → Prop)  (s0 : MS) : Prop :=
  (C_see (s0.1 15) s0 (fun r4 s1 => (C_in r4 97 122 s1 (fun r8 s5 => ((r8 = 0 → ((inI ((s5.1 15) - (s5.1 14))) ∧ ((((s5.1 15) - (s5.1 14)) ≤ 6 → (∀ s12 : MS, s12 = ms s5 16 2 → K s12)) ∧ (¬ ((s5.1 15) - (s5.1 14)) ≤ 6 → (∀ s14 : MS, s14 = ms s5 16 1 → K s14))))) ∧ (¬ r8 = 0 → ((inI ((s5.1 15) + 1)) ∧ (∀ s17 : MS, s17 = ms s5 15 ((s5.1 15) + 1) → X65 s17))))))))
def B_goesOn_139 (X0 : MS → Prop) (X65 : MS → Prop) (X139 : MS → Prop) (K : MS → Prop)  (s0 : MS) : Prop :=
  (C_see (s0.1 15) s0 (fun r4 s1 => (C_in r4 48 57 s1 (fun r8 s5 => ((r8 = 0 → ((inI ((s5.1 15) - (s5.1 14))) ∧ ((((s5.1 15) - (s5.1 14)) ≤ 1 → (∀ s12 : MS, s12 = ms s5 16 3 → K s12)) ∧ (¬ ((s5.1 15) - (s5.1 14)) ≤ 1 → (∀ s14 : MS, s14 = ms s5 16 1 → K s14))))) ∧ (¬ r8 = 0 → ((inI ((s5.1 15) + 1)) ∧ (∀ s17 : MS, s17 = ms s5 15 ((s5.1 15) + 1) → X139 s17))))))))
def B_goesOn_E (X0 : MS → Prop) (X65 : MS → Prop) (X139 : MS → Prop) (K : MS → Prop)  (s0 : MS) : Prop :=
  (C_see (s0.1 15) s0 (fun r4 s1 => ((r4 = 32 → ((inI ((s1.1 15) + 1)) ∧ (∀ s49 : MS, s49 = ms s1 15 ((s1.1 15) + 1) → X0 s49))) ∧ (¬ r4 = 32 → (∀ s6 : MS, s6 = ms s1 14 (s1.1 15) → (C_see (s6.1 15) s6 (fun r11 s8 => ((r11 = (-1) → (∀ s46 : MS, s46 = ms s8 16 0 → K s46)) ∧ (¬ r11 = (-1) → (C_in r11 97 122 s8 (fun r16 s13 => ((r16 = 0 → (C_in r11 48 57 s13 (fun r21 s18 => ((r21 = 0 → ((inI ((s18.1 15) + 1)) ∧ (∀ s24 : MS, s24 = ms s18 15 ((s18.1 15) + 1) → ((r11 = 59 → (∀ s27 : MS, s27 = ms s24 16 r11 → K s27)) ∧ (¬ r11 = 59 → ((r11 = 44 → (∀ s30 : MS, s30 = ms s24 16 r11 → K s30)) ∧ (¬ r11 = 44 → ((r11 = 61 → (∀ s33 : MS, s33 = ms s24 16 r11 → K s33)) ∧ (¬ r11 = 61 → ((r11 = 40 → (∀ s36 : MS, s36 = ms s24 16 r11 → K s36)) ∧ (¬ r11 = 40 → ((r11 = 41 → (∀ s41 : MS, s41 = ms s24 16 r11 → K s41)) ∧ (¬ r11 = 41 → (∀ s39 : MS, s39 = ms s24 16 1 → K s39)))))))))))))) ∧ (¬ r21 = 0 → ((inI (r11 - 48)) ∧ (∀ s44 : MS, s44 = ms s18 17 (r11 - 48) → X139 s44))))))) ∧ (¬ r16 = 0 → X65 s13)))))))))))))
def W_goesOn_0 (d : Nat) (g : AH) (K : MS → Prop)  (s0 : MS) : Prop := EW mm_goesOn (d + 1) 0 0 (mQ g K) 0 [(0, aR (some mT))] [] (mh s0 g)
def W_goesOn_65 (d : Nat) (g : AH) (K : MS → Prop)  (s0 : MS) : Prop := EW mm_goesOn (d + 1) 0 0 (mQ g K) 65 [(0, aR (some mT))] [] (mh s0 g)
def W_goesOn_139 (d : Nat) (g : AH) (K : MS → Prop)  (s0 : MS) : Prop := EW mm_goesOn (d + 1) 0 0 (mQ g K) 139 [(0, aR (some mT))] [] (mh s0 g)
set_option maxHeartbeats 4000000 in
theorem T_goesOn_0 (d : Nat) (g : AH) (K : MS → Prop)  (s0 : MS) (H : B_goesOn_0 (W_goesOn_0 d g K) (W_goesOn_65 d g K) (W_goesOn_139 d g K) K  s0) : EW mm_goesOn (d + 1) 0 0 (mQ g K) 0 [(0, aR (some mT))] [] (mh s0 g) := by
  refine ew_aload_n dX7_goesOn_0 rfl lm0 ?_
  refine ew_aload_n dX7_goesOn_1 rfl lm0 ?_
  refine mw_gI dX7_goesOn_2 (e_fl.a q1421) mf_15 rfl ?_
  refine ew_callV (d := d + 0) (as := [aI (s0.1 15)]) rfl dX7_goesOn_5 me_see rfl (ci := 1) rfl rfl (mh_o _ _) (Or.inl q1606) q1608 qs59 (Nat.le_of_ble_eq_true rfl) (Nat.le_refl 0) (Nat.le_refl 0) (S_see (d := d + 0) H) (fun o h' hq2 _ => ?_) (fun E i h' q _ => (mQi_no q).elim)
  obtain ⟨r4, s1, E3, rfl, H⟩ := hq2
  cases E3
  refine ew_bipush dX7_goesOn_8 (inI_of rfl) (by decide) ?_
  refine ew_icmp_ne (tgt := 26) dX7_goesOn_10 (by decide) (fun c5 => ?_) (fun c5 => ?_)
  · replace H := H.2 c5
    refine ew_aload_n dX7_goesOn_26 rfl lm0 ?_
    refine ew_aload_n dX7_goesOn_27 rfl lm0 ?_
    refine mw_gI dX7_goesOn_28 (e_fl.a q1421) mf_15 rfl ?_
    refine mw_pI dX7_goesOn_31 (e_fl.a q1420) mf_14 (Or.inl rfl) (ty := .int) (by decide +kernel) trivial (fun s6 e7 => ?_)
    replace H := H s6 e7
    refine ew_aload_n dX7_goesOn_34 rfl lm0 ?_
    refine ew_aload_n dX7_goesOn_35 rfl lm0 ?_
    refine mw_gI dX7_goesOn_36 (e_fl.a q1421) mf_15 rfl ?_
    refine ew_callV (d := d + 0) (as := [aI (s6.1 15)]) rfl dX7_goesOn_39 me_see rfl (ci := 1) rfl rfl (mh_o _ _) (Or.inl q1606) q1608 qs59 (Nat.le_of_ble_eq_true rfl) (Nat.le_refl 0) (Nat.le_refl 0) (S_see (d := d + 0) H) (fun o h' hq9 _ => ?_) (fun E i h' q _ => (mQi_no q).elim)
    obtain ⟨r11, s8, E10, rfl, H⟩ := hq9
    cases E10
    refine ew_istore_n dX7_goesOn_42 rfl (by decide) (lv' := [(1, aI r11), (0, aR (some mT))]) rfl ?_
    refine ew_sub (List.forall_mem_cons.mpr ⟨lm1, (List.forall_mem_cons.mpr ⟨lm0, e_nm⟩)⟩) ?_
    refine ew_iload_n dX7_goesOn_43 rfl lm1 ?_
    refine ew_iconst dX7_goesOn_44 (inI_of rfl) ?_
    refine ew_icmp_ne (tgt := 54) dX7_goesOn_45 (by decide) (fun c12 => ?_) (fun c12 => ?_)
    · replace H := H.2 c12
      refine ew_iload_n dX7_goesOn_54 rfl lm1 ?_
      refine ew_bipush dX7_goesOn_55 (inI_of rfl) (by decide) ?_
      refine ew_bipush dX7_goesOn_57 (inI_of rfl) (by decide) ?_
      refine ew_callS (d := d + 0) (as := [aI r11, aI 97, aI 122]) rfl dX7_goesOn_59 me_in rfl (Or.inl q1591) q1592 (Nat.le_of_ble_eq_true rfl) (Nat.le_refl 0) (Nat.le_refl 0) (S_in (d := d + 0) H) (fun o h' hq14 _ => ?_) (fun E i h' q _ => (mQi_no q).elim)
      obtain ⟨r16, s13, E15, rfl, H⟩ := hq14
      cases E15
      refine ew_if_eq (tgt := 120) dX7_goesOn_62 (by decide) (fun c17 => ?_) (fun c17 => ?_)
      · replace H := H.1 c17
        refine ew_iload_n dX7_goesOn_120 rfl lm1 ?_
        refine ew_bipush dX7_goesOn_121 (inI_of rfl) (by decide) ?_
        refine ew_bipush dX7_goesOn_123 (inI_of rfl) (by decide) ?_
        refine ew_callS (d := d + 0) (as := [aI r11, aI 48, aI 57]) rfl dX7_goesOn_125 me_in rfl (Or.inl q1591) q1592 (Nat.le_of_ble_eq_true rfl) (Nat.le_refl 0) (Nat.le_refl 0) (S_in (d := d + 0) H) (fun o h' hq19 _ => ?_) (fun E i h' q _ => (mQi_no q).elim)
        obtain ⟨r21, s18, E20, rfl, H⟩ := hq19
        cases E20
        refine ew_if_eq (tgt := 193) dX7_goesOn_128 (by decide) (fun c22 => ?_) (fun c22 => ?_)
        · replace H := H.1 c22
          refine ew_aload_n dX7_goesOn_193 rfl lm0 ?_
          refine ew_dup dX7_goesOn_194 rfl ?_
          refine mw_gI dX7_goesOn_195 (e_fl.a q1421) mf_15 rfl ?_
          refine ew_iconst dX7_goesOn_198 (inI_of rfl) ?_
          obtain ⟨v23, H⟩ := H
          refine ew_iadd dX7_goesOn_199 v23 ?_
          refine mw_pI dX7_goesOn_200 (e_fl.a q1421) mf_15 (Or.inl rfl) (ty := .int) (by decide +kernel) trivial (fun s24 e25 => ?_)
          replace H := H s24 e25
          refine ew_aload_n dX7_goesOn_203 rfl lm0 ?_
          refine ew_iload_n dX7_goesOn_204 rfl lm1 ?_
          refine ew_bipush dX7_goesOn_205 (inI_of rfl) (by decide) ?_
          refine ew_icmp_eq (tgt := 234) dX7_goesOn_207 (by decide) (fun c26 => ?_) (fun c26 => ?_)
          · replace H := H.1 c26
            refine ew_iload_n dX7_goesOn_234 rfl lm1 ?_
            refine ew_goto (tgt := 239) dX7_goesOn_235 (by decide) ?_
            refine mw_pI dX7_goesOn_239 (e_fl.a q1422) mf_16 (Or.inl rfl) (ty := .int) (by decide +kernel) trivial (fun s27 e28 => ?_)
            replace H := H s27 e28
            exact ew_ret (o := none) rfl ⟨_, rfl, rfl, H⟩ ⟨rfl, dX7_goesOn_242⟩
          · replace H := H.2 c26
            refine ew_iload_n dX7_goesOn_210 rfl lm1 ?_
            refine ew_bipush dX7_goesOn_211 (inI_of rfl) (by decide) ?_
            refine ew_icmp_eq (tgt := 234) dX7_goesOn_213 (by decide) (fun c29 => ?_) (fun c29 => ?_)
            · replace H := H.1 c29
              refine ew_iload_n dX7_goesOn_234 rfl lm1 ?_
              refine ew_goto (tgt := 239) dX7_goesOn_235 (by decide) ?_
              refine mw_pI dX7_goesOn_239 (e_fl.a q1422) mf_16 (Or.inl rfl) (ty := .int) (by decide +kernel) trivial (fun s30 e31 => ?_)
              replace H := H s30 e31
              exact ew_ret (o := none) rfl ⟨_, rfl, rfl, H⟩ ⟨rfl, dX7_goesOn_242⟩
            · replace H := H.2 c29
              refine ew_iload_n dX7_goesOn_216 rfl lm1 ?_
              refine ew_bipush dX7_goesOn_217 (inI_of rfl) (by decide) ?_
              refine ew_icmp_eq (tgt := 234) dX7_goesOn_219 (by decide) (fun c32 => ?_) (fun c32 => ?_)
              · replace H := H.1 c32
                refine ew_iload_n dX7_goesOn_234 rfl lm1 ?_
                refine ew_goto (tgt := 239) dX7_goesOn_235 (by decide) ?_
                refine mw_pI dX7_goesOn_239 (e_fl.a q1422) mf_16 (Or.inl rfl) (ty := .int) (by decide +kernel) trivial (fun s33 e34 => ?_)
                replace H := H s33 e34
                exact ew_ret (o := none) rfl ⟨_, rfl, rfl, H⟩ ⟨rfl, dX7_goesOn_242⟩
              · replace H := H.2 c32
                refine ew_iload_n dX7_goesOn_222 rfl lm1 ?_
                refine ew_bipush dX7_goesOn_223 (inI_of rfl) (by decide) ?_
                refine ew_icmp_eq (tgt := 234) dX7_goesOn_225 (by decide) (fun c35 => ?_) (fun c35 => ?_)
                · replace H := H.1 c35
                  refine ew_iload_n dX7_goesOn_234 rfl lm1 ?_
                  refine ew_goto (tgt := 239) dX7_goesOn_235 (by decide) ?_
                  refine mw_pI dX7_goesOn_239 (e_fl.a q1422) mf_16 (Or.inl rfl) (ty := .int) (by decide +kernel) trivial (fun s36 e37 => ?_)
                  replace H := H s36 e37
                  exact ew_ret (o := none) rfl ⟨_, rfl, rfl, H⟩ ⟨rfl, dX7_goesOn_242⟩
                · replace H := H.2 c35
                  refine ew_iload_n dX7_goesOn_228 rfl lm1 ?_
                  refine ew_bipush dX7_goesOn_229 (inI_of rfl) (by decide) ?_
                  refine ew_icmp_ne (tgt := 238) dX7_goesOn_231 (by decide) (fun c38 => ?_) (fun c38 => ?_)
                  · replace H := H.2 c38
                    refine ew_iconst dX7_goesOn_238 (inI_of rfl) ?_
                    refine mw_pI dX7_goesOn_239 (e_fl.a q1422) mf_16 (Or.inl rfl) (ty := .int) (by decide +kernel) trivial (fun s39 e40 => ?_)
                    replace H := H s39 e40
                    exact ew_ret (o := none) rfl ⟨_, rfl, rfl, H⟩ ⟨rfl, dX7_goesOn_242⟩
                  · replace H := H.1 c38
                    refine ew_iload_n dX7_goesOn_234 rfl lm1 ?_
                    refine ew_goto (tgt := 239) dX7_goesOn_235 (by decide) ?_
                    refine mw_pI dX7_goesOn_239 (e_fl.a q1422) mf_16 (Or.inl rfl) (ty := .int) (by decide +kernel) trivial (fun s41 e42 => ?_)
                    replace H := H s41 e42
                    exact ew_ret (o := none) rfl ⟨_, rfl, rfl, H⟩ ⟨rfl, dX7_goesOn_242⟩
        · replace H := H.2 c22
          refine ew_aload_n dX7_goesOn_131 rfl lm0 ?_
          refine ew_iload_n dX7_goesOn_132 rfl lm1 ?_
          refine ew_bipush dX7_goesOn_133 (inI_of rfl) (by decide) ?_
          obtain ⟨v43, H⟩ := H
          refine ew_isub dX7_goesOn_135 v43 ?_
          refine mw_pI dX7_goesOn_136 (e_fl.a q1423) mf_17 (Or.inl rfl) (ty := .int) (by decide +kernel) trivial (fun s44 e45 => ?_)
          replace H := H s44 e45
          exact ew_sub (List.forall_mem_cons.mpr ⟨lm0, e_nm⟩) H
      · replace H := H.2 c17
        exact ew_sub (List.forall_mem_cons.mpr ⟨lm0, e_nm⟩) H
    · replace H := H.1 c12
      refine ew_aload_n dX7_goesOn_48 rfl lm0 ?_
      refine ew_iconst dX7_goesOn_49 (inI_of rfl) ?_
      refine mw_pI dX7_goesOn_50 (e_fl.a q1422) mf_16 (Or.inl rfl) (ty := .int) (by decide +kernel) trivial (fun s46 e47 => ?_)
      replace H := H s46 e47
      exact ew_ret (o := none) rfl ⟨_, rfl, rfl, H⟩ ⟨rfl, dX7_goesOn_53⟩
  · replace H := H.1 c5
    refine ew_aload_n dX7_goesOn_13 rfl lm0 ?_
    refine ew_dup dX7_goesOn_14 rfl ?_
    refine mw_gI dX7_goesOn_15 (e_fl.a q1421) mf_15 rfl ?_
    refine ew_iconst dX7_goesOn_18 (inI_of rfl) ?_
    obtain ⟨v48, H⟩ := H
    refine ew_iadd dX7_goesOn_19 v48 ?_
    refine mw_pI dX7_goesOn_20 (e_fl.a q1421) mf_15 (Or.inl rfl) (ty := .int) (by decide +kernel) trivial (fun s49 e50 => ?_)
    replace H := H s49 e50
    refine ew_goto (tgt := 0) dX7_goesOn_23 (by decide) ?_
    exact ew_sub (List.forall_mem_cons.mpr ⟨lm0, e_nm⟩) H
set_option maxHeartbeats 4000000 in
theorem T_goesOn_65 (d : Nat) (g : AH) (K : MS → Prop)  (s0 : MS) (H : B_goesOn_65 (W_goesOn_0 d g K) (W_goesOn_65 d g K) (W_goesOn_139 d g K) K  s0) : EW mm_goesOn (d + 1) 0 0 (mQ g K) 65 [(0, aR (some mT))] [] (mh s0 g) := by
  refine ew_aload_n dX7_goesOn_65 rfl lm0 ?_
  refine ew_aload_n dX7_goesOn_66 rfl lm0 ?_
  refine mw_gI dX7_goesOn_67 (e_fl.a q1421) mf_15 rfl ?_
  refine ew_callV (d := d + 0) (as := [aI (s0.1 15)]) rfl dX7_goesOn_70 me_see rfl (ci := 1) rfl rfl (mh_o _ _) (Or.inl q1606) q1608 qs59 (Nat.le_of_ble_eq_true rfl) (Nat.le_refl 0) (Nat.le_refl 0) (S_see (d := d + 0) H) (fun o h' hq2 _ => ?_) (fun E i h' q _ => (mQi_no q).elim)
  obtain ⟨r4, s1, E3, rfl, H⟩ := hq2
  cases E3
  refine ew_bipush dX7_goesOn_73 (inI_of rfl) (by decide) ?_
  refine ew_bipush dX7_goesOn_75 (inI_of rfl) (by decide) ?_
  refine ew_callS (d := d + 0) (as := [aI r4, aI 97, aI 122]) rfl dX7_goesOn_77 me_in rfl (Or.inl q1591) q1592 (Nat.le_of_ble_eq_true rfl) (Nat.le_refl 0) (Nat.le_refl 0) (S_in (d := d + 0) H) (fun o h' hq6 _ => ?_) (fun E i h' q _ => (mQi_no q).elim)
  obtain ⟨r8, s5, E7, rfl, H⟩ := hq6
  cases E7
  refine ew_if_eq (tgt := 96) dX7_goesOn_80 (by decide) (fun c9 => ?_) (fun c9 => ?_)
  · replace H := H.1 c9
    refine ew_aload_n dX7_goesOn_96 rfl lm0 ?_
    refine ew_aload_n dX7_goesOn_97 rfl lm0 ?_
    refine mw_gI dX7_goesOn_98 (e_fl.a q1421) mf_15 rfl ?_
    refine ew_aload_n dX7_goesOn_101 rfl lm0 ?_
    refine mw_gI dX7_goesOn_102 (e_fl.a q1420) mf_14 rfl ?_
    obtain ⟨v10, H⟩ := H
    refine ew_isub dX7_goesOn_105 v10 ?_
    refine ew_bipush dX7_goesOn_106 (inI_of rfl) (by decide) ?_
    refine ew_icmp_le (tgt := 115) dX7_goesOn_108 (by decide) (fun c11 => ?_) (fun c11 => ?_)
    · replace H := H.1 c11
      refine ew_iconst dX7_goesOn_115 (inI_of rfl) ?_
      refine mw_pI dX7_goesOn_116 (e_fl.a q1422) mf_16 (Or.inl rfl) (ty := .int) (by decide +kernel) trivial (fun s12 e13 => ?_)
      replace H := H s12 e13
      exact ew_ret (o := none) rfl ⟨_, rfl, rfl, H⟩ ⟨rfl, dX7_goesOn_119⟩
    · replace H := H.2 c11
      refine ew_iconst dX7_goesOn_111 (inI_of rfl) ?_
      refine ew_goto (tgt := 116) dX7_goesOn_112 (by decide) ?_
      refine mw_pI dX7_goesOn_116 (e_fl.a q1422) mf_16 (Or.inl rfl) (ty := .int) (by decide +kernel) trivial (fun s14 e15 => ?_)
      replace H := H s14 e15
      exact ew_ret (o := none) rfl ⟨_, rfl, rfl, H⟩ ⟨rfl, dX7_goesOn_119⟩
  · replace H := H.2 c9
    refine ew_aload_n dX7_goesOn_83 rfl lm0 ?_
    refine ew_dup dX7_goesOn_84 rfl ?_
    refine mw_gI dX7_goesOn_85 (e_fl.a q1421) mf_15 rfl ?_
    refine ew_iconst dX7_goesOn_88 (inI_of rfl) ?_
    obtain ⟨v16, H⟩ := H
    refine ew_iadd dX7_goesOn_89 v16 ?_
    refine mw_pI dX7_goesOn_90 (e_fl.a q1421) mf_15 (Or.inl rfl) (ty := .int) (by decide +kernel) trivial (fun s17 e18 => ?_)
    replace H := H s17 e18
    refine ew_goto (tgt := 65) dX7_goesOn_93 (by decide) ?_
    exact ew_sub (List.forall_mem_cons.mpr ⟨lm0, e_nm⟩) H
set_option maxHeartbeats 4000000 in
theorem T_goesOn_139 (d : Nat) (g : AH) (K : MS → Prop)  (s0 : MS) (H : B_goesOn_139 (W_goesOn_0 d g K) (W_goesOn_65 d g K) (W_goesOn_139 d g K) K  s0) : EW mm_goesOn (d + 1) 0 0 (mQ g K) 139 [(0, aR (some mT))] [] (mh s0 g) := by
  refine ew_aload_n dX7_goesOn_139 rfl lm0 ?_
  refine ew_aload_n dX7_goesOn_140 rfl lm0 ?_
  refine mw_gI dX7_goesOn_141 (e_fl.a q1421) mf_15 rfl ?_
  refine ew_callV (d := d + 0) (as := [aI (s0.1 15)]) rfl dX7_goesOn_144 me_see rfl (ci := 1) rfl rfl (mh_o _ _) (Or.inl q1606) q1608 qs59 (Nat.le_of_ble_eq_true rfl) (Nat.le_refl 0) (Nat.le_refl 0) (S_see (d := d + 0) H) (fun o h' hq2 _ => ?_) (fun E i h' q _ => (mQi_no q).elim)
  obtain ⟨r4, s1, E3, rfl, H⟩ := hq2
  cases E3
  refine ew_bipush dX7_goesOn_147 (inI_of rfl) (by decide) ?_
  refine ew_bipush dX7_goesOn_149 (inI_of rfl) (by decide) ?_
  refine ew_callS (d := d + 0) (as := [aI r4, aI 48, aI 57]) rfl dX7_goesOn_151 me_in rfl (Or.inl q1591) q1592 (Nat.le_of_ble_eq_true rfl) (Nat.le_refl 0) (Nat.le_refl 0) (S_in (d := d + 0) H) (fun o h' hq6 _ => ?_) (fun E i h' q _ => (mQi_no q).elim)
  obtain ⟨r8, s5, E7, rfl, H⟩ := hq6
  cases E7
  refine ew_if_eq (tgt := 170) dX7_goesOn_154 (by decide) (fun c9 => ?_) (fun c9 => ?_)
  · replace H := H.1 c9
    refine ew_aload_n dX7_goesOn_170 rfl lm0 ?_
    refine ew_aload_n dX7_goesOn_171 rfl lm0 ?_
    refine mw_gI dX7_goesOn_172 (e_fl.a q1421) mf_15 rfl ?_
    refine ew_aload_n dX7_goesOn_175 rfl lm0 ?_
    refine mw_gI dX7_goesOn_176 (e_fl.a q1420) mf_14 rfl ?_
    obtain ⟨v10, H⟩ := H
    refine ew_isub dX7_goesOn_179 v10 ?_
    refine ew_iconst dX7_goesOn_180 (inI_of rfl) ?_
    refine ew_icmp_le (tgt := 188) dX7_goesOn_181 (by decide) (fun c11 => ?_) (fun c11 => ?_)
    · replace H := H.1 c11
      refine ew_iconst dX7_goesOn_188 (inI_of rfl) ?_
      refine mw_pI dX7_goesOn_189 (e_fl.a q1422) mf_16 (Or.inl rfl) (ty := .int) (by decide +kernel) trivial (fun s12 e13 => ?_)
      replace H := H s12 e13
      exact ew_ret (o := none) rfl ⟨_, rfl, rfl, H⟩ ⟨rfl, dX7_goesOn_192⟩
    · replace H := H.2 c11
      refine ew_iconst dX7_goesOn_184 (inI_of rfl) ?_
      refine ew_goto (tgt := 189) dX7_goesOn_185 (by decide) ?_
      refine mw_pI dX7_goesOn_189 (e_fl.a q1422) mf_16 (Or.inl rfl) (ty := .int) (by decide +kernel) trivial (fun s14 e15 => ?_)
      replace H := H s14 e15
      exact ew_ret (o := none) rfl ⟨_, rfl, rfl, H⟩ ⟨rfl, dX7_goesOn_192⟩
  · replace H := H.2 c9
    refine ew_aload_n dX7_goesOn_157 rfl lm0 ?_
    refine ew_dup dX7_goesOn_158 rfl ?_
    refine mw_gI dX7_goesOn_159 (e_fl.a q1421) mf_15 rfl ?_
    refine ew_iconst dX7_goesOn_162 (inI_of rfl) ?_
    obtain ⟨v16, H⟩ := H
    refine ew_iadd dX7_goesOn_163 v16 ?_
    refine mw_pI dX7_goesOn_164 (e_fl.a q1421) mf_15 (Or.inl rfl) (ty := .int) (by decide +kernel) trivial (fun s17 e18 => ?_)
    replace H := H s17 e18
    refine ew_goto (tgt := 139) dX7_goesOn_167 (by decide) ?_
    exact ew_sub (List.forall_mem_cons.mpr ⟨lm0, e_nm⟩) H
set_option maxHeartbeats 4000000 in
theorem T_goesOn_E (d : Nat) (g : AH) (K : MS → Prop)  (s0 : MS) (H : B_goesOn_E (W_goesOn_0 d g K) (W_goesOn_65 d g K) (W_goesOn_139 d g K) K  s0) : EW mm_goesOn (d + 1) 0 0 (mQ g K) 0 [(0, aR (some mT))] [] (mh s0 g) := by
  refine ew_aload_n dX7_goesOn_0 rfl lm0 ?_
  refine ew_aload_n dX7_goesOn_1 rfl lm0 ?_
  refine mw_gI dX7_goesOn_2 (e_fl.a q1421) mf_15 rfl ?_
  refine ew_callV (d := d + 0) (as := [aI (s0.1 15)]) rfl dX7_goesOn_5 me_see rfl (ci := 1) rfl rfl (mh_o _ _) (Or.inl q1606) q1608 qs59 (Nat.le_of_ble_eq_true rfl) (Nat.le_refl 0) (Nat.le_refl 0) (S_see (d := d + 0) H) (fun o h' hq2 _ => ?_) (fun E i h' q _ => (mQi_no q).elim)
  obtain ⟨r4, s1, E3, rfl, H⟩ := hq2
  cases E3
  refine ew_bipush dX7_goesOn_8 (inI_of rfl) (by decide) ?_
  refine ew_icmp_ne (tgt := 26) dX7_goesOn_10 (by decide) (fun c5 => ?_) (fun c5 => ?_)
  · replace H := H.2 c5
    refine ew_aload_n dX7_goesOn_26 rfl lm0 ?_
    refine ew_aload_n dX7_goesOn_27 rfl lm0 ?_
    refine mw_gI dX7_goesOn_28 (e_fl.a q1421) mf_15 rfl ?_
    refine mw_pI dX7_goesOn_31 (e_fl.a q1420) mf_14 (Or.inl rfl) (ty := .int) (by decide +kernel) trivial (fun s6 e7 => ?_)
    replace H := H s6 e7
    refine ew_aload_n dX7_goesOn_34 rfl lm0 ?_
    refine ew_aload_n dX7_goesOn_35 rfl lm0 ?_
    refine mw_gI dX7_goesOn_36 (e_fl.a q1421) mf_15 rfl ?_
    refine ew_callV (d := d + 0) (as := [aI (s6.1 15)]) rfl dX7_goesOn_39 me_see rfl (ci := 1) rfl rfl (mh_o _ _) (Or.inl q1606) q1608 qs59 (Nat.le_of_ble_eq_true rfl) (Nat.le_refl 0) (Nat.le_refl 0) (S_see (d := d + 0) H) (fun o h' hq9 _ => ?_) (fun E i h' q _ => (mQi_no q).elim)
    obtain ⟨r11, s8, E10, rfl, H⟩ := hq9
    cases E10
    refine ew_istore_n dX7_goesOn_42 rfl (by decide) (lv' := [(1, aI r11), (0, aR (some mT))]) rfl ?_
    refine ew_sub (List.forall_mem_cons.mpr ⟨lm1, (List.forall_mem_cons.mpr ⟨lm0, e_nm⟩)⟩) ?_
    refine ew_iload_n dX7_goesOn_43 rfl lm1 ?_
    refine ew_iconst dX7_goesOn_44 (inI_of rfl) ?_
    refine ew_icmp_ne (tgt := 54) dX7_goesOn_45 (by decide) (fun c12 => ?_) (fun c12 => ?_)
    · replace H := H.2 c12
      refine ew_iload_n dX7_goesOn_54 rfl lm1 ?_
      refine ew_bipush dX7_goesOn_55 (inI_of rfl) (by decide) ?_
      refine ew_bipush dX7_goesOn_57 (inI_of rfl) (by decide) ?_
      refine ew_callS (d := d + 0) (as := [aI r11, aI 97, aI 122]) rfl dX7_goesOn_59 me_in rfl (Or.inl q1591) q1592 (Nat.le_of_ble_eq_true rfl) (Nat.le_refl 0) (Nat.le_refl 0) (S_in (d := d + 0) H) (fun o h' hq14 _ => ?_) (fun E i h' q _ => (mQi_no q).elim)
      obtain ⟨r16, s13, E15, rfl, H⟩ := hq14
      cases E15
      refine ew_if_eq (tgt := 120) dX7_goesOn_62 (by decide) (fun c17 => ?_) (fun c17 => ?_)
      · replace H := H.1 c17
        refine ew_iload_n dX7_goesOn_120 rfl lm1 ?_
        refine ew_bipush dX7_goesOn_121 (inI_of rfl) (by decide) ?_
        refine ew_bipush dX7_goesOn_123 (inI_of rfl) (by decide) ?_
        refine ew_callS (d := d + 0) (as := [aI r11, aI 48, aI 57]) rfl dX7_goesOn_125 me_in rfl (Or.inl q1591) q1592 (Nat.le_of_ble_eq_true rfl) (Nat.le_refl 0) (Nat.le_refl 0) (S_in (d := d + 0) H) (fun o h' hq19 _ => ?_) (fun E i h' q _ => (mQi_no q).elim)
        obtain ⟨r21, s18, E20, rfl, H⟩ := hq19
        cases E20
        refine ew_if_eq (tgt := 193) dX7_goesOn_128 (by decide) (fun c22 => ?_) (fun c22 => ?_)
        · replace H := H.1 c22
          refine ew_aload_n dX7_goesOn_193 rfl lm0 ?_
          refine ew_dup dX7_goesOn_194 rfl ?_
          refine mw_gI dX7_goesOn_195 (e_fl.a q1421) mf_15 rfl ?_
          refine ew_iconst dX7_goesOn_198 (inI_of rfl) ?_
          obtain ⟨v23, H⟩ := H
          refine ew_iadd dX7_goesOn_199 v23 ?_
          refine mw_pI dX7_goesOn_200 (e_fl.a q1421) mf_15 (Or.inl rfl) (ty := .int) (by decide +kernel) trivial (fun s24 e25 => ?_)
          replace H := H s24 e25
          refine ew_aload_n dX7_goesOn_203 rfl lm0 ?_
          refine ew_iload_n dX7_goesOn_204 rfl lm1 ?_
          refine ew_bipush dX7_goesOn_205 (inI_of rfl) (by decide) ?_
          refine ew_icmp_eq (tgt := 234) dX7_goesOn_207 (by decide) (fun c26 => ?_) (fun c26 => ?_)
          · replace H := H.1 c26
            refine ew_iload_n dX7_goesOn_234 rfl lm1 ?_
            refine ew_goto (tgt := 239) dX7_goesOn_235 (by decide) ?_
            refine mw_pI dX7_goesOn_239 (e_fl.a q1422) mf_16 (Or.inl rfl) (ty := .int) (by decide +kernel) trivial (fun s27 e28 => ?_)
            replace H := H s27 e28
            exact ew_ret (o := none) rfl ⟨_, rfl, rfl, H⟩ ⟨rfl, dX7_goesOn_242⟩
          · replace H := H.2 c26
            refine ew_iload_n dX7_goesOn_210 rfl lm1 ?_
            refine ew_bipush dX7_goesOn_211 (inI_of rfl) (by decide) ?_
            refine ew_icmp_eq (tgt := 234) dX7_goesOn_213 (by decide) (fun c29 => ?_) (fun c29 => ?_)
            · replace H := H.1 c29
              refine ew_iload_n dX7_goesOn_234 rfl lm1 ?_
              refine ew_goto (tgt := 239) dX7_goesOn_235 (by decide) ?_
              refine mw_pI dX7_goesOn_239 (e_fl.a q1422) mf_16 (Or.inl rfl) (ty := .int) (by decide +kernel) trivial (fun s30 e31 => ?_)
              replace H := H s30 e31
              exact ew_ret (o := none) rfl ⟨_, rfl, rfl, H⟩ ⟨rfl, dX7_goesOn_242⟩
            · replace H := H.2 c29
              refine ew_iload_n dX7_goesOn_216 rfl lm1 ?_
              refine ew_bipush dX7_goesOn_217 (inI_of rfl) (by decide) ?_
              refine ew_icmp_eq (tgt := 234) dX7_goesOn_219 (by decide) (fun c32 => ?_) (fun c32 => ?_)
              · replace H := H.1 c32
                refine ew_iload_n dX7_goesOn_234 rfl lm1 ?_
                refine ew_goto (tgt := 239) dX7_goesOn_235 (by decide) ?_
                refine mw_pI dX7_goesOn_239 (e_fl.a q1422) mf_16 (Or.inl rfl) (ty := .int) (by decide +kernel) trivial (fun s33 e34 => ?_)
                replace H := H s33 e34
                exact ew_ret (o := none) rfl ⟨_, rfl, rfl, H⟩ ⟨rfl, dX7_goesOn_242⟩
              · replace H := H.2 c32
                refine ew_iload_n dX7_goesOn_222 rfl lm1 ?_
                refine ew_bipush dX7_goesOn_223 (inI_of rfl) (by decide) ?_
                refine ew_icmp_eq (tgt := 234) dX7_goesOn_225 (by decide) (fun c35 => ?_) (fun c35 => ?_)
                · replace H := H.1 c35
                  refine ew_iload_n dX7_goesOn_234 rfl lm1 ?_
                  refine ew_goto (tgt := 239) dX7_goesOn_235 (by decide) ?_
                  refine mw_pI dX7_goesOn_239 (e_fl.a q1422) mf_16 (Or.inl rfl) (ty := .int) (by decide +kernel) trivial (fun s36 e37 => ?_)
                  replace H := H s36 e37
                  exact ew_ret (o := none) rfl ⟨_, rfl, rfl, H⟩ ⟨rfl, dX7_goesOn_242⟩
                · replace H := H.2 c35
                  refine ew_iload_n dX7_goesOn_228 rfl lm1 ?_
                  refine ew_bipush dX7_goesOn_229 (inI_of rfl) (by decide) ?_
                  refine ew_icmp_ne (tgt := 238) dX7_goesOn_231 (by decide) (fun c38 => ?_) (fun c38 => ?_)
                  · replace H := H.2 c38
                    refine ew_iconst dX7_goesOn_238 (inI_of rfl) ?_
                    refine mw_pI dX7_goesOn_239 (e_fl.a q1422) mf_16 (Or.inl rfl) (ty := .int) (by decide +kernel) trivial (fun s39 e40 => ?_)
                    replace H := H s39 e40
                    exact ew_ret (o := none) rfl ⟨_, rfl, rfl, H⟩ ⟨rfl, dX7_goesOn_242⟩
                  · replace H := H.1 c38
                    refine ew_iload_n dX7_goesOn_234 rfl lm1 ?_
                    refine ew_goto (tgt := 239) dX7_goesOn_235 (by decide) ?_
                    refine mw_pI dX7_goesOn_239 (e_fl.a q1422) mf_16 (Or.inl rfl) (ty := .int) (by decide +kernel) trivial (fun s41 e42 => ?_)
                    replace H := H s41 e42
                    exact ew_ret (o := none) rfl ⟨_, rfl, rfl, H⟩ ⟨rfl, dX7_goesOn_242⟩
        · replace H := H.2 c22
          refine ew_aload_n dX7_goesOn_131 rfl lm0 ?_
          refine ew_iload_n dX7_goesOn_132 rfl lm1 ?_
          refine ew_bipush dX7_goesOn_133 (inI_of rfl) (by decide) ?_
          obtain ⟨v43, H⟩ := H
          refine ew_isub dX7_goesOn_135 v43 ?_
          refine mw_pI dX7_goesOn_136 (e_fl.a q1423) mf_17 (Or.inl rfl) (ty := .int) (by decide +kernel) trivial (fun s44 e45 => ?_)
          replace H := H s44 e45
          exact ew_sub (List.forall_mem_cons.mpr ⟨lm0, e_nm⟩) H
      · replace H := H.2 c17
        exact ew_sub (List.forall_mem_cons.mpr ⟨lm0, e_nm⟩) H
    · replace H := H.1 c12
      refine ew_aload_n dX7_goesOn_48 rfl lm0 ?_
      refine ew_iconst dX7_goesOn_49 (inI_of rfl) ?_
      refine mw_pI dX7_goesOn_50 (e_fl.a q1422) mf_16 (Or.inl rfl) (ty := .int) (by decide +kernel) trivial (fun s46 e47 => ?_)
      replace H := H s46 e47
      exact ew_ret (o := none) rfl ⟨_, rfl, rfl, H⟩ ⟨rfl, dX7_goesOn_53⟩
  · replace H := H.1 c5
    refine ew_aload_n dX7_goesOn_13 rfl lm0 ?_
    refine ew_dup dX7_goesOn_14 rfl ?_
    refine mw_gI dX7_goesOn_15 (e_fl.a q1421) mf_15 rfl ?_
    refine ew_iconst dX7_goesOn_18 (inI_of rfl) ?_
    obtain ⟨v48, H⟩ := H
    refine ew_iadd dX7_goesOn_19 v48 ?_
    refine mw_pI dX7_goesOn_20 (e_fl.a q1421) mf_15 (Or.inl rfl) (ty := .int) (by decide +kernel) trivial (fun s49 e50 => ?_)
    replace H := H s49 e50
    refine ew_goto (tgt := 0) dX7_goesOn_23 (by decide) ?_
    exact ew_sub (List.forall_mem_cons.mpr ⟨lm0, e_nm⟩) H
def C_goesOn  (s0 : MS) (K : MS → Prop) : Prop := ∀ (X0 : MS → Prop) (X65 : MS → Prop) (X139 : MS → Prop), (∀  (s0 : MS), B_goesOn_0 X0 X65 X139 K  s0 → X0  s0) → (∀  (s0 : MS), B_goesOn_65 X0 X65 X139 K  s0 → X65  s0) → (∀  (s0 : MS), B_goesOn_139 X0 X65 X139 K  s0 → X139  s0) → B_goesOn_E X0 X65 X139 K  s0
theorem S_goesOn {d : Nat} {g : AH} {K : MS → Prop}  {s0 : MS} (H : C_goesOn  s0 K) : Sp mm_goesOn (d + 1) 0 0 [aR (some mT)] (mh s0 g) (mQ g K) :=
  ew_sp rfl (Nat.le_of_ble_eq_true rfl) (T_goesOn_E d g K  s0 (H _ _ _ (fun  s0 H => T_goesOn_0 d g K  s0 H) (fun  s0 H => T_goesOn_65 d g K  s0 H) (fun  s0 H => T_goesOn_139 d g K  s0 H)))
