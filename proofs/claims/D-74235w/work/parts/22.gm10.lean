set_option maxRecDepth 100000
abbrev mm_isOneBy : EM := (yX7_isOneBy, cX7_isOneBy, 4, some .boolean, [])
theorem me_isOneBy : e_mth mm_isOneBy 3 := ⟨rfl, q1790, q117, by decide +kernel, by decide⟩
def B_isOneBy_E  (K : Int → MS → Prop) (a : Int) (b : Int) (c : Int) (s0 : MS) : Prop :=
  (C_closesBy a s0 (fun s1 => ((0 ≤ b ∧ b < 24) ∧ ((0 ≤ c ∧ c < 24) ∧ (((s1.2 44 b) = (s1.2 44 c) → K 1 s1) ∧ (¬ (s1.2 44 b) = (s1.2 44 c) → K 0 s1))))))
set_option maxHeartbeats 4000000 in
theorem T_isOneBy_E (d : Nat) (g : AH) (K : Int → MS → Prop) (a : Int) (b : Int) (c : Int) (s0 : MS) (H : B_isOneBy_E  K a b c s0) : EW mm_isOneBy (d + 3) 0 0 (mQi g K) 0 [(0, aR (some mT)), (1, aI a), (2, aI b), (3, aI c)] [] (mh s0 g) := by
  refine ew_aload_n dX7_isOneBy_0 rfl lm0 ?_
  refine ew_iload_n dX7_isOneBy_1 rfl lm1 ?_
  refine ew_callV (d := d + 2) (as := [aI a]) rfl dX7_isOneBy_2 me_closesBy rfl (ci := 1) rfl rfl (mh_o _ _) (Or.inl q1791) q1793 qs94 (Nat.le_of_ble_eq_true rfl) (Nat.le_refl 0) (Nat.le_refl 0) (S_closesBy (d := d + 0) H) (fun o h' hq2 _ => ?_) (fun E i h' q _ => (mQ_no q).elim)
  obtain ⟨s1, E3, rfl, H⟩ := hq2
  cases E3
  refine ew_aload_n dX7_isOneBy_5 rfl lm0 ?_
  refine mw_gA dX7_isOneBy_6 (e_fl.a q1450) mf_44 rfl ?_
  refine ew_iload_n dX7_isOneBy_9 rfl lm2 ?_
  obtain ⟨v4, H⟩ := H
  refine mw_iald dX7_isOneBy_10 rfl v4.1 v4.2 ?_
  refine ew_aload_n dX7_isOneBy_11 rfl lm0 ?_
  refine mw_gA dX7_isOneBy_12 (e_fl.a q1450) mf_44 rfl ?_
  refine ew_iload_n dX7_isOneBy_15 rfl lm3 ?_
  obtain ⟨v5, H⟩ := H
  refine mw_iald dX7_isOneBy_16 rfl v5.1 v5.2 ?_
  refine ew_icmp_ne (tgt := 24) dX7_isOneBy_17 (by decide) (fun c6 => ?_) (fun c6 => ?_)
  · replace H := H.2 c6
    refine ew_iconst dX7_isOneBy_24 (inI_of rfl) ?_
    exact ew_ret (o := some (aI 0)) rfl ⟨_, _, rfl, rfl, H⟩ ⟨dX7_isOneBy_25, .boolean, rfl, Or.inr (Or.inl rfl), by decide⟩
  · replace H := H.1 c6
    refine ew_iconst dX7_isOneBy_20 (inI_of rfl) ?_
    refine ew_goto (tgt := 25) dX7_isOneBy_21 (by decide) ?_
    exact ew_ret (o := some (aI 1)) rfl ⟨_, _, rfl, rfl, H⟩ ⟨dX7_isOneBy_25, .boolean, rfl, Or.inr (Or.inl rfl), by decide⟩
def C_isOneBy (a : Int) (b : Int) (c : Int) (s0 : MS) (K : Int → MS → Prop) : Prop := B_isOneBy_E  K a b c s0
theorem S_isOneBy {d : Nat} {g : AH} {K : Int → MS → Prop} {a : Int} {b : Int} {c : Int} {s0 : MS} (H : C_isOneBy a b c s0 K) : Sp mm_isOneBy (d + 3) 0 0 [aR (some mT), aI a, aI b, aI c] (mh s0 g) (mQi g K) :=
  ew_sp rfl (Nat.le_of_ble_eq_true rfl) (T_isOneBy_E d g K a b c s0 (H  ))
abbrev mm_sameOf : EM := (yX7_sameOf, cX7_sameOf, 3, some .int, [])
theorem me_sameOf : e_mth mm_sameOf 2 := ⟨rfl, q1782, q117, by decide +kernel, by decide⟩
def B_sameOf_E  (K : Int → MS → Prop) (a : Int) (b : Int) (s0 : MS) : Prop :=
  ((inI ((s0.1 30) - 1)) ∧ (C_in a 0 ((s0.1 30) - 1) s0 (fun r5 s2 => ((r5 = 0 → (C_unless 0 s2 (fun r10 s7 => (C_isRefused r10 s7 (fun r14 s11 => ((r14 = 0 → ((2 ≤ b → (C_allSames s11 (fun r20 s17 => ((0 ≤ a ∧ a < 13) ∧ ((0 ≤ a ∧ a < 13) ∧ (C_isOneBy (jand r20 (jxor (jshl 1 a) (-1))) (s17.2 31 a) (s17.2 32 a) s17 (fun r26 s23 => ((r26 = 0 → K 0 s23) ∧ (¬ r26 = 0 → K 1 s23))))))))) ∧ (¬ 2 ≤ b → ((b = 0 → ((0 ≤ a ∧ a < 13) ∧ K (s11.2 31 a) s11)) ∧ (¬ b = 0 → ((0 ≤ a ∧ a < 13) ∧ K (s11.2 32 a) s11)))))) ∧ (¬ r14 = 0 → K (-1) s11))))))) ∧ (¬ r5 = 0 → (C_in b 0 2 s2 (fun r34 s31 => ((r34 = 0 → (C_unless 0 s31 (fun r39 s36 => (C_isRefused r39 s36 (fun r43 s40 => ((r43 = 0 → ((2 ≤ b → (C_allSames s40 (fun r49 s46 => ((0 ≤ a ∧ a < 13) ∧ ((0 ≤ a ∧ a < 13) ∧ (C_isOneBy (jand r49 (jxor (jshl 1 a) (-1))) (s46.2 31 a) (s46.2 32 a) s46 (fun r55 s52 => ((r55 = 0 → K 0 s52) ∧ (¬ r55 = 0 → K 1 s52))))))))) ∧ (¬ 2 ≤ b → ((b = 0 → ((0 ≤ a ∧ a < 13) ∧ K (s40.2 31 a) s40)) ∧ (¬ b = 0 → ((0 ≤ a ∧ a < 13) ∧ K (s40.2 32 a) s40)))))) ∧ (¬ r43 = 0 → K (-1) s40))))))) ∧ (¬ r34 = 0 → (C_unless 1 s31 (fun r63 s60 => (C_isRefused r63 s60 (fun r67 s64 => ((r67 = 0 → ((2 ≤ b → (C_allSames s64 (fun r73 s70 => ((0 ≤ a ∧ a < 13) ∧ ((0 ≤ a ∧ a < 13) ∧ (C_isOneBy (jand r73 (jxor (jshl 1 a) (-1))) (s70.2 31 a) (s70.2 32 a) s70 (fun r79 s76 => ((r79 = 0 → K 0 s76) ∧ (¬ r79 = 0 → K 1 s76))))))))) ∧ (¬ 2 ≤ b → ((b = 0 → ((0 ≤ a ∧ a < 13) ∧ K (s64.2 31 a) s64)) ∧ (¬ b = 0 → ((0 ≤ a ∧ a < 13) ∧ K (s64.2 32 a) s64)))))) ∧ (¬ r67 = 0 → K (-1) s64)))))))))))))))
set_option maxHeartbeats 4000000 in
theorem T_sameOf_E (d : Nat) (g : AH) (K : Int → MS → Prop) (a : Int) (b : Int) (s0 : MS) (H : B_sameOf_E  K a b s0) : EW mm_sameOf (d + 4) 0 0 (mQi g K) 0 [(0, aR (some mT)), (1, aI a), (2, aI b)] [] (mh s0 g) := by
  refine ew_aload_n dX7_sameOf_0 rfl lm0 ?_
  refine ew_iload_n dX7_sameOf_1 rfl lm1 ?_
  refine ew_iconst dX7_sameOf_2 (inI_of rfl) ?_
  refine ew_aload_n dX7_sameOf_3 rfl lm0 ?_
  refine mw_gI dX7_sameOf_4 (e_fl.a q1436) mf_30 rfl ?_
  refine ew_iconst dX7_sameOf_7 (inI_of rfl) ?_
  obtain ⟨v1, H⟩ := H
  refine ew_isub dX7_sameOf_8 v1 ?_
  refine ew_callS (d := d + 3) (as := [aI a, aI 0, aI ((s0.1 30) - 1)]) rfl dX7_sameOf_9 me_in rfl (Or.inl q1591) q1592 (Nat.le_of_ble_eq_true rfl) (Nat.le_refl 0) (Nat.le_refl 0) (S_in (d := d + 3) H) (fun o h' hq3 _ => ?_) (fun E i h' q _ => (mQi_no q).elim)
  obtain ⟨r5, s2, E4, rfl, H⟩ := hq3
  cases E4
  refine ew_if_eq (tgt := 28) dX7_sameOf_12 (by decide) (fun c6 => ?_) (fun c6 => ?_)
  · replace H := H.1 c6
    refine ew_iconst dX7_sameOf_28 (inI_of rfl) ?_
    refine ew_callS (d := d + 3) (as := [aI 0]) rfl dX7_sameOf_29 me_unless rfl (Or.inl q1732) q1733 (Nat.le_of_ble_eq_true rfl) (Nat.le_refl 0) (Nat.le_refl 0) (S_unless (d := d + 3) H) (fun o h' hq8 _ => ?_) (fun E i h' q _ => (mQi_no q).elim)
    obtain ⟨r10, s7, E9, rfl, H⟩ := hq8
    cases E9
    refine ew_callV (d := d + 3) (as := [aI r10]) rfl dX7_sameOf_32 me_isRefused rfl (ci := 1) rfl rfl (mh_o _ _) (Or.inl q1594) q1596 qs56 (Nat.le_of_ble_eq_true rfl) (Nat.le_refl 0) (Nat.le_refl 0) (S_isRefused (d := d + 3) H) (fun o h' hq12 _ => ?_) (fun E i h' q _ => (mQi_no q).elim)
    obtain ⟨r14, s11, E13, rfl, H⟩ := hq12
    cases E13
    refine ew_if_eq (tgt := 40) dX7_sameOf_35 (by decide) (fun c15 => ?_) (fun c15 => ?_)
    · replace H := H.1 c15
      refine ew_iload_n dX7_sameOf_40 rfl lm2 ?_
      refine ew_iconst dX7_sameOf_41 (inI_of rfl) ?_
      refine ew_icmp_ge (tgt := 65) dX7_sameOf_42 (by decide) (fun c16 => ?_) (fun c16 => ?_)
      · replace H := H.1 c16
        refine ew_aload_n dX7_sameOf_65 rfl lm0 ?_
        refine ew_aload_n dX7_sameOf_66 rfl lm0 ?_
        refine ew_callV (d := d + 3) (as := []) rfl dX7_sameOf_67 me_allSames rfl (ci := 1) rfl rfl (mh_o _ _) (Or.inl q1783) q1785 qs92 (Nat.le_of_ble_eq_true rfl) (Nat.le_refl 0) (Nat.le_refl 0) (S_allSames (d := d + 3) H) (fun o h' hq18 _ => ?_) (fun E i h' q _ => (mQi_no q).elim)
        obtain ⟨r20, s17, E19, rfl, H⟩ := hq18
        cases E19
        refine ew_iconst dX7_sameOf_70 (inI_of rfl) ?_
        refine ew_iload_n dX7_sameOf_71 rfl lm1 ?_
        refine ew_ishl dX7_sameOf_72 ?_
        refine ew_iconst dX7_sameOf_73 (inI_of rfl) ?_
        refine ew_ixor dX7_sameOf_74 ?_
        refine ew_iand dX7_sameOf_75 ?_
        refine ew_aload_n dX7_sameOf_76 rfl lm0 ?_
        refine mw_gA dX7_sameOf_77 (e_fl.a q1437) mf_31 rfl ?_
        refine ew_iload_n dX7_sameOf_80 rfl lm1 ?_
        obtain ⟨v21, H⟩ := H
        refine mw_iald dX7_sameOf_81 rfl v21.1 v21.2 ?_
        refine ew_aload_n dX7_sameOf_82 rfl lm0 ?_
        refine mw_gA dX7_sameOf_83 (e_fl.a q1438) mf_32 rfl ?_
        refine ew_iload_n dX7_sameOf_86 rfl lm1 ?_
        obtain ⟨v22, H⟩ := H
        refine mw_iald dX7_sameOf_87 rfl v22.1 v22.2 ?_
        refine ew_callV (d := d + 3) (as := [aI (jand r20 (jxor (jshl 1 a) (-1))), aI (s17.2 31 a), aI (s17.2 32 a)]) rfl dX7_sameOf_88 me_isOneBy rfl (ci := 1) rfl rfl (mh_o _ _) (Or.inl q1787) q1789 qs93 (Nat.le_of_ble_eq_true rfl) (Nat.le_refl 0) (Nat.le_refl 0) (S_isOneBy (d := d + 0) H) (fun o h' hq24 _ => ?_) (fun E i h' q _ => (mQi_no q).elim)
        obtain ⟨r26, s23, E25, rfl, H⟩ := hq24
        cases E25
        refine ew_if_eq (tgt := 98) dX7_sameOf_91 (by decide) (fun c27 => ?_) (fun c27 => ?_)
        · replace H := H.1 c27
          refine ew_iconst dX7_sameOf_98 (inI_of rfl) ?_
          exact ew_ret (o := some (aI 0)) rfl ⟨_, _, rfl, rfl, H⟩ ⟨dX7_sameOf_99, .int, rfl, Or.inl rfl, rfl⟩
        · replace H := H.2 c27
          refine ew_iconst dX7_sameOf_94 (inI_of rfl) ?_
          refine ew_goto (tgt := 99) dX7_sameOf_95 (by decide) ?_
          exact ew_ret (o := some (aI 1)) rfl ⟨_, _, rfl, rfl, H⟩ ⟨dX7_sameOf_99, .int, rfl, Or.inl rfl, rfl⟩
      · replace H := H.2 c16
        refine ew_iload_n dX7_sameOf_45 rfl lm2 ?_
        refine ew_if_ne (tgt := 58) dX7_sameOf_46 (by decide) (fun c28 => ?_) (fun c28 => ?_)
        · replace H := H.2 c28
          refine ew_aload_n dX7_sameOf_58 rfl lm0 ?_
          refine mw_gA dX7_sameOf_59 (e_fl.a q1438) mf_32 rfl ?_
          refine ew_iload_n dX7_sameOf_62 rfl lm1 ?_
          obtain ⟨v29, H⟩ := H
          refine mw_iald dX7_sameOf_63 rfl v29.1 v29.2 ?_
          exact ew_ret (o := some (aI (s11.2 32 a))) rfl ⟨_, _, rfl, rfl, H⟩ ⟨dX7_sameOf_64, .int, rfl, Or.inl rfl, rfl⟩
        · replace H := H.1 c28
          refine ew_aload_n dX7_sameOf_49 rfl lm0 ?_
          refine mw_gA dX7_sameOf_50 (e_fl.a q1437) mf_31 rfl ?_
          refine ew_iload_n dX7_sameOf_53 rfl lm1 ?_
          obtain ⟨v30, H⟩ := H
          refine mw_iald dX7_sameOf_54 rfl v30.1 v30.2 ?_
          refine ew_goto (tgt := 64) dX7_sameOf_55 (by decide) ?_
          exact ew_ret (o := some (aI (s11.2 31 a))) rfl ⟨_, _, rfl, rfl, H⟩ ⟨dX7_sameOf_64, .int, rfl, Or.inl rfl, rfl⟩
    · replace H := H.2 c15
      refine ew_iconst dX7_sameOf_38 (inI_of rfl) ?_
      exact ew_ret (o := some (aI (-1))) rfl ⟨_, _, rfl, rfl, H⟩ ⟨dX7_sameOf_39, .int, rfl, Or.inl rfl, rfl⟩
  · replace H := H.2 c6
    refine ew_iload_n dX7_sameOf_15 rfl lm2 ?_
    refine ew_iconst dX7_sameOf_16 (inI_of rfl) ?_
    refine ew_iconst dX7_sameOf_17 (inI_of rfl) ?_
    refine ew_callS (d := d + 3) (as := [aI b, aI 0, aI 2]) rfl dX7_sameOf_18 me_in rfl (Or.inl q1591) q1592 (Nat.le_of_ble_eq_true rfl) (Nat.le_refl 0) (Nat.le_refl 0) (S_in (d := d + 3) H) (fun o h' hq32 _ => ?_) (fun E i h' q _ => (mQi_no q).elim)
    obtain ⟨r34, s31, E33, rfl, H⟩ := hq32
    cases E33
    refine ew_if_eq (tgt := 28) dX7_sameOf_21 (by decide) (fun c35 => ?_) (fun c35 => ?_)
    · replace H := H.1 c35
      refine ew_iconst dX7_sameOf_28 (inI_of rfl) ?_
      refine ew_callS (d := d + 3) (as := [aI 0]) rfl dX7_sameOf_29 me_unless rfl (Or.inl q1732) q1733 (Nat.le_of_ble_eq_true rfl) (Nat.le_refl 0) (Nat.le_refl 0) (S_unless (d := d + 3) H) (fun o h' hq37 _ => ?_) (fun E i h' q _ => (mQi_no q).elim)
      obtain ⟨r39, s36, E38, rfl, H⟩ := hq37
      cases E38
      refine ew_callV (d := d + 3) (as := [aI r39]) rfl dX7_sameOf_32 me_isRefused rfl (ci := 1) rfl rfl (mh_o _ _) (Or.inl q1594) q1596 qs56 (Nat.le_of_ble_eq_true rfl) (Nat.le_refl 0) (Nat.le_refl 0) (S_isRefused (d := d + 3) H) (fun o h' hq41 _ => ?_) (fun E i h' q _ => (mQi_no q).elim)
      obtain ⟨r43, s40, E42, rfl, H⟩ := hq41
      cases E42
      refine ew_if_eq (tgt := 40) dX7_sameOf_35 (by decide) (fun c44 => ?_) (fun c44 => ?_)
      · replace H := H.1 c44
        refine ew_iload_n dX7_sameOf_40 rfl lm2 ?_
        refine ew_iconst dX7_sameOf_41 (inI_of rfl) ?_
        refine ew_icmp_ge (tgt := 65) dX7_sameOf_42 (by decide) (fun c45 => ?_) (fun c45 => ?_)
        · replace H := H.1 c45
          refine ew_aload_n dX7_sameOf_65 rfl lm0 ?_
          refine ew_aload_n dX7_sameOf_66 rfl lm0 ?_
          refine ew_callV (d := d + 3) (as := []) rfl dX7_sameOf_67 me_allSames rfl (ci := 1) rfl rfl (mh_o _ _) (Or.inl q1783) q1785 qs92 (Nat.le_of_ble_eq_true rfl) (Nat.le_refl 0) (Nat.le_refl 0) (S_allSames (d := d + 3) H) (fun o h' hq47 _ => ?_) (fun E i h' q _ => (mQi_no q).elim)
          obtain ⟨r49, s46, E48, rfl, H⟩ := hq47
          cases E48
          refine ew_iconst dX7_sameOf_70 (inI_of rfl) ?_
          refine ew_iload_n dX7_sameOf_71 rfl lm1 ?_
          refine ew_ishl dX7_sameOf_72 ?_
          refine ew_iconst dX7_sameOf_73 (inI_of rfl) ?_
          refine ew_ixor dX7_sameOf_74 ?_
          refine ew_iand dX7_sameOf_75 ?_
          refine ew_aload_n dX7_sameOf_76 rfl lm0 ?_
          refine mw_gA dX7_sameOf_77 (e_fl.a q1437) mf_31 rfl ?_
          refine ew_iload_n dX7_sameOf_80 rfl lm1 ?_
          obtain ⟨v50, H⟩ := H
          refine mw_iald dX7_sameOf_81 rfl v50.1 v50.2 ?_
          refine ew_aload_n dX7_sameOf_82 rfl lm0 ?_
          refine mw_gA dX7_sameOf_83 (e_fl.a q1438) mf_32 rfl ?_
          refine ew_iload_n dX7_sameOf_86 rfl lm1 ?_
          obtain ⟨v51, H⟩ := H
          refine mw_iald dX7_sameOf_87 rfl v51.1 v51.2 ?_
          refine ew_callV (d := d + 3) (as := [aI (jand r49 (jxor (jshl 1 a) (-1))), aI (s46.2 31 a), aI (s46.2 32 a)]) rfl dX7_sameOf_88 me_isOneBy rfl (ci := 1) rfl rfl (mh_o _ _) (Or.inl q1787) q1789 qs93 (Nat.le_of_ble_eq_true rfl) (Nat.le_refl 0) (Nat.le_refl 0) (S_isOneBy (d := d + 0) H) (fun o h' hq53 _ => ?_) (fun E i h' q _ => (mQi_no q).elim)
          obtain ⟨r55, s52, E54, rfl, H⟩ := hq53
          cases E54
          refine ew_if_eq (tgt := 98) dX7_sameOf_91 (by decide) (fun c56 => ?_) (fun c56 => ?_)
          · replace H := H.1 c56
            refine ew_iconst dX7_sameOf_98 (inI_of rfl) ?_
            exact ew_ret (o := some (aI 0)) rfl ⟨_, _, rfl, rfl, H⟩ ⟨dX7_sameOf_99, .int, rfl, Or.inl rfl, rfl⟩
          · replace H := H.2 c56
            refine ew_iconst dX7_sameOf_94 (inI_of rfl) ?_
            refine ew_goto (tgt := 99) dX7_sameOf_95 (by decide) ?_
            exact ew_ret (o := some (aI 1)) rfl ⟨_, _, rfl, rfl, H⟩ ⟨dX7_sameOf_99, .int, rfl, Or.inl rfl, rfl⟩
        · replace H := H.2 c45
          refine ew_iload_n dX7_sameOf_45 rfl lm2 ?_
          refine ew_if_ne (tgt := 58) dX7_sameOf_46 (by decide) (fun c57 => ?_) (fun c57 => ?_)
          · replace H := H.2 c57
            refine ew_aload_n dX7_sameOf_58 rfl lm0 ?_
            refine mw_gA dX7_sameOf_59 (e_fl.a q1438) mf_32 rfl ?_
            refine ew_iload_n dX7_sameOf_62 rfl lm1 ?_
            obtain ⟨v58, H⟩ := H
            refine mw_iald dX7_sameOf_63 rfl v58.1 v58.2 ?_
            exact ew_ret (o := some (aI (s40.2 32 a))) rfl ⟨_, _, rfl, rfl, H⟩ ⟨dX7_sameOf_64, .int, rfl, Or.inl rfl, rfl⟩
          · replace H := H.1 c57
            refine ew_aload_n dX7_sameOf_49 rfl lm0 ?_
            refine mw_gA dX7_sameOf_50 (e_fl.a q1437) mf_31 rfl ?_
            refine ew_iload_n dX7_sameOf_53 rfl lm1 ?_
            obtain ⟨v59, H⟩ := H
            refine mw_iald dX7_sameOf_54 rfl v59.1 v59.2 ?_
            refine ew_goto (tgt := 64) dX7_sameOf_55 (by decide) ?_
            exact ew_ret (o := some (aI (s40.2 31 a))) rfl ⟨_, _, rfl, rfl, H⟩ ⟨dX7_sameOf_64, .int, rfl, Or.inl rfl, rfl⟩
      · replace H := H.2 c44
        refine ew_iconst dX7_sameOf_38 (inI_of rfl) ?_
        exact ew_ret (o := some (aI (-1))) rfl ⟨_, _, rfl, rfl, H⟩ ⟨dX7_sameOf_39, .int, rfl, Or.inl rfl, rfl⟩
    · replace H := H.2 c35
      refine ew_iconst dX7_sameOf_24 (inI_of rfl) ?_
      refine ew_goto (tgt := 29) dX7_sameOf_25 (by decide) ?_
      refine ew_callS (d := d + 3) (as := [aI 1]) rfl dX7_sameOf_29 me_unless rfl (Or.inl q1732) q1733 (Nat.le_of_ble_eq_true rfl) (Nat.le_refl 0) (Nat.le_refl 0) (S_unless (d := d + 3) H) (fun o h' hq61 _ => ?_) (fun E i h' q _ => (mQi_no q).elim)
      obtain ⟨r63, s60, E62, rfl, H⟩ := hq61
      cases E62
      refine ew_callV (d := d + 3) (as := [aI r63]) rfl dX7_sameOf_32 me_isRefused rfl (ci := 1) rfl rfl (mh_o _ _) (Or.inl q1594) q1596 qs56 (Nat.le_of_ble_eq_true rfl) (Nat.le_refl 0) (Nat.le_refl 0) (S_isRefused (d := d + 3) H) (fun o h' hq65 _ => ?_) (fun E i h' q _ => (mQi_no q).elim)
      obtain ⟨r67, s64, E66, rfl, H⟩ := hq65
      cases E66
      refine ew_if_eq (tgt := 40) dX7_sameOf_35 (by decide) (fun c68 => ?_) (fun c68 => ?_)
      · replace H := H.1 c68
        refine ew_iload_n dX7_sameOf_40 rfl lm2 ?_
        refine ew_iconst dX7_sameOf_41 (inI_of rfl) ?_
        refine ew_icmp_ge (tgt := 65) dX7_sameOf_42 (by decide) (fun c69 => ?_) (fun c69 => ?_)
        · replace H := H.1 c69
          refine ew_aload_n dX7_sameOf_65 rfl lm0 ?_
          refine ew_aload_n dX7_sameOf_66 rfl lm0 ?_
          refine ew_callV (d := d + 3) (as := []) rfl dX7_sameOf_67 me_allSames rfl (ci := 1) rfl rfl (mh_o _ _) (Or.inl q1783) q1785 qs92 (Nat.le_of_ble_eq_true rfl) (Nat.le_refl 0) (Nat.le_refl 0) (S_allSames (d := d + 3) H) (fun o h' hq71 _ => ?_) (fun E i h' q _ => (mQi_no q).elim)
          obtain ⟨r73, s70, E72, rfl, H⟩ := hq71
          cases E72
          refine ew_iconst dX7_sameOf_70 (inI_of rfl) ?_
          refine ew_iload_n dX7_sameOf_71 rfl lm1 ?_
          refine ew_ishl dX7_sameOf_72 ?_
          refine ew_iconst dX7_sameOf_73 (inI_of rfl) ?_
          refine ew_ixor dX7_sameOf_74 ?_
          refine ew_iand dX7_sameOf_75 ?_
          refine ew_aload_n dX7_sameOf_76 rfl lm0 ?_
          refine mw_gA dX7_sameOf_77 (e_fl.a q1437) mf_31 rfl ?_
          refine ew_iload_n dX7_sameOf_80 rfl lm1 ?_
          obtain ⟨v74, H⟩ := H
          refine mw_iald dX7_sameOf_81 rfl v74.1 v74.2 ?_
          refine ew_aload_n dX7_sameOf_82 rfl lm0 ?_
          refine mw_gA dX7_sameOf_83 (e_fl.a q1438) mf_32 rfl ?_
          refine ew_iload_n dX7_sameOf_86 rfl lm1 ?_
          obtain ⟨v75, H⟩ := H
          refine mw_iald dX7_sameOf_87 rfl v75.1 v75.2 ?_
          refine ew_callV (d := d + 3) (as := [aI (jand r73 (jxor (jshl 1 a) (-1))), aI (s70.2 31 a), aI (s70.2 32 a)]) rfl dX7_sameOf_88 me_isOneBy rfl (ci := 1) rfl rfl (mh_o _ _) (Or.inl q1787) q1789 qs93 (Nat.le_of_ble_eq_true rfl) (Nat.le_refl 0) (Nat.le_refl 0) (S_isOneBy (d := d + 0) H) (fun o h' hq77 _ => ?_) (fun E i h' q _ => (mQi_no q).elim)
          obtain ⟨r79, s76, E78, rfl, H⟩ := hq77
          cases E78
          refine ew_if_eq (tgt := 98) dX7_sameOf_91 (by decide) (fun c80 => ?_) (fun c80 => ?_)
          · replace H := H.1 c80
            refine ew_iconst dX7_sameOf_98 (inI_of rfl) ?_
            exact ew_ret (o := some (aI 0)) rfl ⟨_, _, rfl, rfl, H⟩ ⟨dX7_sameOf_99, .int, rfl, Or.inl rfl, rfl⟩
          · replace H := H.2 c80
            refine ew_iconst dX7_sameOf_94 (inI_of rfl) ?_
            refine ew_goto (tgt := 99) dX7_sameOf_95 (by decide) ?_
            exact ew_ret (o := some (aI 1)) rfl ⟨_, _, rfl, rfl, H⟩ ⟨dX7_sameOf_99, .int, rfl, Or.inl rfl, rfl⟩
        · replace H := H.2 c69
          refine ew_iload_n dX7_sameOf_45 rfl lm2 ?_
          refine ew_if_ne (tgt := 58) dX7_sameOf_46 (by decide) (fun c81 => ?_) (fun c81 => ?_)
          · replace H := H.2 c81
            refine ew_aload_n dX7_sameOf_58 rfl lm0 ?_
            refine mw_gA dX7_sameOf_59 (e_fl.a q1438) mf_32 rfl ?_
            refine ew_iload_n dX7_sameOf_62 rfl lm1 ?_
            obtain ⟨v82, H⟩ := H
            refine mw_iald dX7_sameOf_63 rfl v82.1 v82.2 ?_
            exact ew_ret (o := some (aI (s64.2 32 a))) rfl ⟨_, _, rfl, rfl, H⟩ ⟨dX7_sameOf_64, .int, rfl, Or.inl rfl, rfl⟩
          · replace H := H.1 c81
            refine ew_aload_n dX7_sameOf_49 rfl lm0 ?_
            refine mw_gA dX7_sameOf_50 (e_fl.a q1437) mf_31 rfl ?_
            refine ew_iload_n dX7_sameOf_53 rfl lm1 ?_
            obtain ⟨v83, H⟩ := H
            refine mw_iald dX7_sameOf_54 rfl v83.1 v83.2 ?_
            refine ew_goto (tgt := 64) dX7_sameOf_55 (by decide) ?_
            exact ew_ret (o := some (aI (s64.2 31 a))) rfl ⟨_, _, rfl, rfl, H⟩ ⟨dX7_sameOf_64, .int, rfl, Or.inl rfl, rfl⟩
      · replace H := H.2 c68
        refine ew_iconst dX7_sameOf_38 (inI_of rfl) ?_
        exact ew_ret (o := some (aI (-1))) rfl ⟨_, _, rfl, rfl, H⟩ ⟨dX7_sameOf_39, .int, rfl, Or.inl rfl, rfl⟩
def C_sameOf (a : Int) (b : Int) (s0 : MS) (K : Int → MS → Prop) : Prop := B_sameOf_E  K a b s0
theorem S_sameOf {d : Nat} {g : AH} {K : Int → MS → Prop} {a : Int} {b : Int} {s0 : MS} (H : C_sameOf a b s0 K) : Sp mm_sameOf (d + 4) 0 0 [aR (some mT), aI a, aI b] (mh s0 g) (mQi g K) :=
  ew_sp rfl (Nat.le_of_ble_eq_true rfl) (T_sameOf_E d g K a b s0 (H  ))
abbrev mm_diffOf : EM := (yX7_diffOf, cX7_diffOf, 3, some .int, [])
theorem me_diffOf : e_mth mm_diffOf 2 := ⟨rfl, q1798, q117, by decide +kernel, by decide⟩
def B_diffOf_E  (K : Int → MS → Prop) (a : Int) (b : Int) (s0 : MS) : Prop :=
  ((inI ((s0.1 33) - 1)) ∧ (C_in a 0 ((s0.1 33) - 1) s0 (fun r5 s2 => ((r5 = 0 → (C_unless 0 s2 (fun r10 s7 => (C_isRefused r10 s7 (fun r14 s11 => ((r14 = 0 → ((2 ≤ b → ((0 ≤ a ∧ a < 8) ∧ ((0 ≤ (s11.2 34 a) ∧ (s11.2 34 a) < 24) ∧ ((0 ≤ a ∧ a < 8) ∧ ((0 ≤ (s11.2 35 a) ∧ (s11.2 35 a) < 24) ∧ (((s11.2 36 (s11.2 34 a)) = (s11.2 36 (s11.2 35 a)) → K 1 s11) ∧ (¬ (s11.2 36 (s11.2 34 a)) = (s11.2 36 (s11.2 35 a)) → K 0 s11))))))) ∧ (¬ 2 ≤ b → ((b = 0 → ((0 ≤ a ∧ a < 8) ∧ K (s11.2 34 a) s11)) ∧ (¬ b = 0 → ((0 ≤ a ∧ a < 8) ∧ K (s11.2 35 a) s11)))))) ∧ (¬ r14 = 0 → K (-1) s11))))))) ∧ (¬ r5 = 0 → (C_in b 0 2 s2 (fun r28 s25 => ((r28 = 0 → (C_unless 0 s25 (fun r33 s30 => (C_isRefused r33 s30 (fun r37 s34 => ((r37 = 0 → ((2 ≤ b → ((0 ≤ a ∧ a < 8) ∧ ((0 ≤ (s34.2 34 a) ∧ (s34.2 34 a) < 24) ∧ ((0 ≤ a ∧ a < 8) ∧ ((0 ≤ (s34.2 35 a) ∧ (s34.2 35 a) < 24) ∧ (((s34.2 36 (s34.2 34 a)) = (s34.2 36 (s34.2 35 a)) → K 1 s34) ∧ (¬ (s34.2 36 (s34.2 34 a)) = (s34.2 36 (s34.2 35 a)) → K 0 s34))))))) ∧ (¬ 2 ≤ b → ((b = 0 → ((0 ≤ a ∧ a < 8) ∧ K (s34.2 34 a) s34)) ∧ (¬ b = 0 → ((0 ≤ a ∧ a < 8) ∧ K (s34.2 35 a) s34)))))) ∧ (¬ r37 = 0 → K (-1) s34))))))) ∧ (¬ r28 = 0 → (C_unless 1 s25 (fun r51 s48 => (C_isRefused r51 s48 (fun r55 s52 => ((r55 = 0 → ((2 ≤ b → ((0 ≤ a ∧ a < 8) ∧ ((0 ≤ (s52.2 34 a) ∧ (s52.2 34 a) < 24) ∧ ((0 ≤ a ∧ a < 8) ∧ ((0 ≤ (s52.2 35 a) ∧ (s52.2 35 a) < 24) ∧ (((s52.2 36 (s52.2 34 a)) = (s52.2 36 (s52.2 35 a)) → K 1 s52) ∧ (¬ (s52.2 36 (s52.2 34 a)) = (s52.2 36 (s52.2 35 a)) → K 0 s52))))))) ∧ (¬ 2 ≤ b → ((b = 0 → ((0 ≤ a ∧ a < 8) ∧ K (s52.2 34 a) s52)) ∧ (¬ b = 0 → ((0 ≤ a ∧ a < 8) ∧ K (s52.2 35 a) s52)))))) ∧ (¬ r55 = 0 → K (-1) s52)))))))))))))))
set_option maxHeartbeats 4000000 in
theorem T_diffOf_E (d : Nat) (g : AH) (K : Int → MS → Prop) (a : Int) (b : Int) (s0 : MS) (H : B_diffOf_E  K a b s0) : EW mm_diffOf (d + 1) 0 0 (mQi g K) 0 [(0, aR (some mT)), (1, aI a), (2, aI b)] [] (mh s0 g) := by
  refine ew_aload_n dX7_diffOf_0 rfl lm0 ?_
  refine ew_iload_n dX7_diffOf_1 rfl lm1 ?_
  refine ew_iconst dX7_diffOf_2 (inI_of rfl) ?_
  refine ew_aload_n dX7_diffOf_3 rfl lm0 ?_
  refine mw_gI dX7_diffOf_4 (e_fl.a q1439) mf_33 rfl ?_
  refine ew_iconst dX7_diffOf_7 (inI_of rfl) ?_
  obtain ⟨v1, H⟩ := H
  refine ew_isub dX7_diffOf_8 v1 ?_
  refine ew_callS (d := d + 0) (as := [aI a, aI 0, aI ((s0.1 33) - 1)]) rfl dX7_diffOf_9 me_in rfl (Or.inl q1591) q1592 (Nat.le_of_ble_eq_true rfl) (Nat.le_refl 0) (Nat.le_refl 0) (S_in (d := d + 0) H) (fun o h' hq3 _ => ?_) (fun E i h' q _ => (mQi_no q).elim)
  obtain ⟨r5, s2, E4, rfl, H⟩ := hq3
  cases E4
  refine ew_if_eq (tgt := 28) dX7_diffOf_12 (by decide) (fun c6 => ?_) (fun c6 => ?_)
  · replace H := H.1 c6
    refine ew_iconst dX7_diffOf_28 (inI_of rfl) ?_
    refine ew_callS (d := d + 0) (as := [aI 0]) rfl dX7_diffOf_29 me_unless rfl (Or.inl q1732) q1733 (Nat.le_of_ble_eq_true rfl) (Nat.le_refl 0) (Nat.le_refl 0) (S_unless (d := d + 0) H) (fun o h' hq8 _ => ?_) (fun E i h' q _ => (mQi_no q).elim)
    obtain ⟨r10, s7, E9, rfl, H⟩ := hq8
    cases E9
    refine ew_callV (d := d + 0) (as := [aI r10]) rfl dX7_diffOf_32 me_isRefused rfl (ci := 1) rfl rfl (mh_o _ _) (Or.inl q1594) q1596 qs56 (Nat.le_of_ble_eq_true rfl) (Nat.le_refl 0) (Nat.le_refl 0) (S_isRefused (d := d + 0) H) (fun o h' hq12 _ => ?_) (fun E i h' q _ => (mQi_no q).elim)
    obtain ⟨r14, s11, E13, rfl, H⟩ := hq12
    cases E13
    refine ew_if_eq (tgt := 40) dX7_diffOf_35 (by decide) (fun c15 => ?_) (fun c15 => ?_)
    · replace H := H.1 c15
      refine ew_iload_n dX7_diffOf_40 rfl lm2 ?_
      refine ew_iconst dX7_diffOf_41 (inI_of rfl) ?_
      refine ew_icmp_ge (tgt := 65) dX7_diffOf_42 (by decide) (fun c16 => ?_) (fun c16 => ?_)
      · replace H := H.1 c16
        refine ew_aload_n dX7_diffOf_65 rfl lm0 ?_
        refine mw_gA dX7_diffOf_66 (e_fl.a q1442) mf_36 rfl ?_
        refine ew_aload_n dX7_diffOf_69 rfl lm0 ?_
        refine mw_gA dX7_diffOf_70 (e_fl.a q1440) mf_34 rfl ?_
        refine ew_iload_n dX7_diffOf_73 rfl lm1 ?_
        obtain ⟨v17, H⟩ := H
        refine mw_iald dX7_diffOf_74 rfl v17.1 v17.2 ?_
        obtain ⟨v18, H⟩ := H
        refine mw_iald dX7_diffOf_75 rfl v18.1 v18.2 ?_
        refine ew_aload_n dX7_diffOf_76 rfl lm0 ?_
        refine mw_gA dX7_diffOf_77 (e_fl.a q1442) mf_36 rfl ?_
        refine ew_aload_n dX7_diffOf_80 rfl lm0 ?_
        refine mw_gA dX7_diffOf_81 (e_fl.a q1441) mf_35 rfl ?_
        refine ew_iload_n dX7_diffOf_84 rfl lm1 ?_
        obtain ⟨v19, H⟩ := H
        refine mw_iald dX7_diffOf_85 rfl v19.1 v19.2 ?_
        obtain ⟨v20, H⟩ := H
        refine mw_iald dX7_diffOf_86 rfl v20.1 v20.2 ?_
        refine ew_icmp_ne (tgt := 94) dX7_diffOf_87 (by decide) (fun c21 => ?_) (fun c21 => ?_)
        · replace H := H.2 c21
          refine ew_iconst dX7_diffOf_94 (inI_of rfl) ?_
          exact ew_ret (o := some (aI 0)) rfl ⟨_, _, rfl, rfl, H⟩ ⟨dX7_diffOf_95, .int, rfl, Or.inl rfl, rfl⟩
        · replace H := H.1 c21
          refine ew_iconst dX7_diffOf_90 (inI_of rfl) ?_
          refine ew_goto (tgt := 95) dX7_diffOf_91 (by decide) ?_
          exact ew_ret (o := some (aI 1)) rfl ⟨_, _, rfl, rfl, H⟩ ⟨dX7_diffOf_95, .int, rfl, Or.inl rfl, rfl⟩
      · replace H := H.2 c16
        refine ew_iload_n dX7_diffOf_45 rfl lm2 ?_
        refine ew_if_ne (tgt := 58) dX7_diffOf_46 (by decide) (fun c22 => ?_) (fun c22 => ?_)
        · replace H := H.2 c22
          refine ew_aload_n dX7_diffOf_58 rfl lm0 ?_
          refine mw_gA dX7_diffOf_59 (e_fl.a q1441) mf_35 rfl ?_
          refine ew_iload_n dX7_diffOf_62 rfl lm1 ?_
          obtain ⟨v23, H⟩ := H
          refine mw_iald dX7_diffOf_63 rfl v23.1 v23.2 ?_
          exact ew_ret (o := some (aI (s11.2 35 a))) rfl ⟨_, _, rfl, rfl, H⟩ ⟨dX7_diffOf_64, .int, rfl, Or.inl rfl, rfl⟩
        · replace H := H.1 c22
          refine ew_aload_n dX7_diffOf_49 rfl lm0 ?_
          refine mw_gA dX7_diffOf_50 (e_fl.a q1440) mf_34 rfl ?_
          refine ew_iload_n dX7_diffOf_53 rfl lm1 ?_
          obtain ⟨v24, H⟩ := H
          refine mw_iald dX7_diffOf_54 rfl v24.1 v24.2 ?_
          refine ew_goto (tgt := 64) dX7_diffOf_55 (by decide) ?_
          exact ew_ret (o := some (aI (s11.2 34 a))) rfl ⟨_, _, rfl, rfl, H⟩ ⟨dX7_diffOf_64, .int, rfl, Or.inl rfl, rfl⟩
    · replace H := H.2 c15
      refine ew_iconst dX7_diffOf_38 (inI_of rfl) ?_
      exact ew_ret (o := some (aI (-1))) rfl ⟨_, _, rfl, rfl, H⟩ ⟨dX7_diffOf_39, .int, rfl, Or.inl rfl, rfl⟩
  · replace H := H.2 c6
    refine ew_iload_n dX7_diffOf_15 rfl lm2 ?_
    refine ew_iconst dX7_diffOf_16 (inI_of rfl) ?_
    refine ew_iconst dX7_diffOf_17 (inI_of rfl) ?_
    refine ew_callS (d := d + 0) (as := [aI b, aI 0, aI 2]) rfl dX7_diffOf_18 me_in rfl (Or.inl q1591) q1592 (Nat.le_of_ble_eq_true rfl) (Nat.le_refl 0) (Nat.le_refl 0) (S_in (d := d + 0) H) (fun o h' hq26 _ => ?_) (fun E i h' q _ => (mQi_no q).elim)
    obtain ⟨r28, s25, E27, rfl, H⟩ := hq26
    cases E27
    refine ew_if_eq (tgt := 28) dX7_diffOf_21 (by decide) (fun c29 => ?_) (fun c29 => ?_)
    · replace H := H.1 c29
      refine ew_iconst dX7_diffOf_28 (inI_of rfl) ?_
      refine ew_callS (d := d + 0) (as := [aI 0]) rfl dX7_diffOf_29 me_unless rfl (Or.inl q1732) q1733 (Nat.le_of_ble_eq_true rfl) (Nat.le_refl 0) (Nat.le_refl 0) (S_unless (d := d + 0) H) (fun o h' hq31 _ => ?_) (fun E i h' q _ => (mQi_no q).elim)
      obtain ⟨r33, s30, E32, rfl, H⟩ := hq31
      cases E32
      refine ew_callV (d := d + 0) (as := [aI r33]) rfl dX7_diffOf_32 me_isRefused rfl (ci := 1) rfl rfl (mh_o _ _) (Or.inl q1594) q1596 qs56 (Nat.le_of_ble_eq_true rfl) (Nat.le_refl 0) (Nat.le_refl 0) (S_isRefused (d := d + 0) H) (fun o h' hq35 _ => ?_) (fun E i h' q _ => (mQi_no q).elim)
      obtain ⟨r37, s34, E36, rfl, H⟩ := hq35
      cases E36
      refine ew_if_eq (tgt := 40) dX7_diffOf_35 (by decide) (fun c38 => ?_) (fun c38 => ?_)
      · replace H := H.1 c38
        refine ew_iload_n dX7_diffOf_40 rfl lm2 ?_
        refine ew_iconst dX7_diffOf_41 (inI_of rfl) ?_
        refine ew_icmp_ge (tgt := 65) dX7_diffOf_42 (by decide) (fun c39 => ?_) (fun c39 => ?_)
        · replace H := H.1 c39
          refine ew_aload_n dX7_diffOf_65 rfl lm0 ?_
          refine mw_gA dX7_diffOf_66 (e_fl.a q1442) mf_36 rfl ?_
          refine ew_aload_n dX7_diffOf_69 rfl lm0 ?_
          refine mw_gA dX7_diffOf_70 (e_fl.a q1440) mf_34 rfl ?_
          refine ew_iload_n dX7_diffOf_73 rfl lm1 ?_
          obtain ⟨v40, H⟩ := H
          refine mw_iald dX7_diffOf_74 rfl v40.1 v40.2 ?_
          obtain ⟨v41, H⟩ := H
          refine mw_iald dX7_diffOf_75 rfl v41.1 v41.2 ?_
          refine ew_aload_n dX7_diffOf_76 rfl lm0 ?_
          refine mw_gA dX7_diffOf_77 (e_fl.a q1442) mf_36 rfl ?_
          refine ew_aload_n dX7_diffOf_80 rfl lm0 ?_
          refine mw_gA dX7_diffOf_81 (e_fl.a q1441) mf_35 rfl ?_
          refine ew_iload_n dX7_diffOf_84 rfl lm1 ?_
          obtain ⟨v42, H⟩ := H
          refine mw_iald dX7_diffOf_85 rfl v42.1 v42.2 ?_
          obtain ⟨v43, H⟩ := H
          refine mw_iald dX7_diffOf_86 rfl v43.1 v43.2 ?_
          refine ew_icmp_ne (tgt := 94) dX7_diffOf_87 (by decide) (fun c44 => ?_) (fun c44 => ?_)
          · replace H := H.2 c44
            refine ew_iconst dX7_diffOf_94 (inI_of rfl) ?_
            exact ew_ret (o := some (aI 0)) rfl ⟨_, _, rfl, rfl, H⟩ ⟨dX7_diffOf_95, .int, rfl, Or.inl rfl, rfl⟩
          · replace H := H.1 c44
            refine ew_iconst dX7_diffOf_90 (inI_of rfl) ?_
            refine ew_goto (tgt := 95) dX7_diffOf_91 (by decide) ?_
            exact ew_ret (o := some (aI 1)) rfl ⟨_, _, rfl, rfl, H⟩ ⟨dX7_diffOf_95, .int, rfl, Or.inl rfl, rfl⟩
        · replace H := H.2 c39
          refine ew_iload_n dX7_diffOf_45 rfl lm2 ?_
          refine ew_if_ne (tgt := 58) dX7_diffOf_46 (by decide) (fun c45 => ?_) (fun c45 => ?_)
          · replace H := H.2 c45
            refine ew_aload_n dX7_diffOf_58 rfl lm0 ?_
            refine mw_gA dX7_diffOf_59 (e_fl.a q1441) mf_35 rfl ?_
            refine ew_iload_n dX7_diffOf_62 rfl lm1 ?_
            obtain ⟨v46, H⟩ := H
            refine mw_iald dX7_diffOf_63 rfl v46.1 v46.2 ?_
            exact ew_ret (o := some (aI (s34.2 35 a))) rfl ⟨_, _, rfl, rfl, H⟩ ⟨dX7_diffOf_64, .int, rfl, Or.inl rfl, rfl⟩
          · replace H := H.1 c45
            refine ew_aload_n dX7_diffOf_49 rfl lm0 ?_
            refine mw_gA dX7_diffOf_50 (e_fl.a q1440) mf_34 rfl ?_
            refine ew_iload_n dX7_diffOf_53 rfl lm1 ?_
            obtain ⟨v47, H⟩ := H
            refine mw_iald dX7_diffOf_54 rfl v47.1 v47.2 ?_
            refine ew_goto (tgt := 64) dX7_diffOf_55 (by decide) ?_
            exact ew_ret (o := some (aI (s34.2 34 a))) rfl ⟨_, _, rfl, rfl, H⟩ ⟨dX7_diffOf_64, .int, rfl, Or.inl rfl, rfl⟩
      · replace H := H.2 c38
        refine ew_iconst dX7_diffOf_38 (inI_of rfl) ?_
        exact ew_ret (o := some (aI (-1))) rfl ⟨_, _, rfl, rfl, H⟩ ⟨dX7_diffOf_39, .int, rfl, Or.inl rfl, rfl⟩
    · replace H := H.2 c29
      refine ew_iconst dX7_diffOf_24 (inI_of rfl) ?_
      refine ew_goto (tgt := 29) dX7_diffOf_25 (by decide) ?_
      refine ew_callS (d := d + 0) (as := [aI 1]) rfl dX7_diffOf_29 me_unless rfl (Or.inl q1732) q1733 (Nat.le_of_ble_eq_true rfl) (Nat.le_refl 0) (Nat.le_refl 0) (S_unless (d := d + 0) H) (fun o h' hq49 _ => ?_) (fun E i h' q _ => (mQi_no q).elim)
      obtain ⟨r51, s48, E50, rfl, H⟩ := hq49
      cases E50
      refine ew_callV (d := d + 0) (as := [aI r51]) rfl dX7_diffOf_32 me_isRefused rfl (ci := 1) rfl rfl (mh_o _ _) (Or.inl q1594) q1596 qs56 (Nat.le_of_ble_eq_true rfl) (Nat.le_refl 0) (Nat.le_refl 0) (S_isRefused (d := d + 0) H) (fun o h' hq53 _ => ?_) (fun E i h' q _ => (mQi_no q).elim)
      obtain ⟨r55, s52, E54, rfl, H⟩ := hq53
      cases E54
      refine ew_if_eq (tgt := 40) dX7_diffOf_35 (by decide) (fun c56 => ?_) (fun c56 => ?_)
      · replace H := H.1 c56
        refine ew_iload_n dX7_diffOf_40 rfl lm2 ?_
        refine ew_iconst dX7_diffOf_41 (inI_of rfl) ?_
        refine ew_icmp_ge (tgt := 65) dX7_diffOf_42 (by decide) (fun c57 => ?_) (fun c57 => ?_)
        · replace H := H.1 c57
          refine ew_aload_n dX7_diffOf_65 rfl lm0 ?_
          refine mw_gA dX7_diffOf_66 (e_fl.a q1442) mf_36 rfl ?_
          refine ew_aload_n dX7_diffOf_69 rfl lm0 ?_
          refine mw_gA dX7_diffOf_70 (e_fl.a q1440) mf_34 rfl ?_
          refine ew_iload_n dX7_diffOf_73 rfl lm1 ?_
          obtain ⟨v58, H⟩ := H
          refine mw_iald dX7_diffOf_74 rfl v58.1 v58.2 ?_
          obtain ⟨v59, H⟩ := H
          refine mw_iald dX7_diffOf_75 rfl v59.1 v59.2 ?_
          refine ew_aload_n dX7_diffOf_76 rfl lm0 ?_
          refine mw_gA dX7_diffOf_77 (e_fl.a q1442) mf_36 rfl ?_
          refine ew_aload_n dX7_diffOf_80 rfl lm0 ?_
          refine mw_gA dX7_diffOf_81 (e_fl.a q1441) mf_35 rfl ?_
          refine ew_iload_n dX7_diffOf_84 rfl lm1 ?_
          obtain ⟨v60, H⟩ := H
          refine mw_iald dX7_diffOf_85 rfl v60.1 v60.2 ?_
          obtain ⟨v61, H⟩ := H
          refine mw_iald dX7_diffOf_86 rfl v61.1 v61.2 ?_
          refine ew_icmp_ne (tgt := 94) dX7_diffOf_87 (by decide) (fun c62 => ?_) (fun c62 => ?_)
          · replace H := H.2 c62
            refine ew_iconst dX7_diffOf_94 (inI_of rfl) ?_
            exact ew_ret (o := some (aI 0)) rfl ⟨_, _, rfl, rfl, H⟩ ⟨dX7_diffOf_95, .int, rfl, Or.inl rfl, rfl⟩
          · replace H := H.1 c62
            refine ew_iconst dX7_diffOf_90 (inI_of rfl) ?_
            refine ew_goto (tgt := 95) dX7_diffOf_91 (by decide) ?_
            exact ew_ret (o := some (aI 1)) rfl ⟨_, _, rfl, rfl, H⟩ ⟨dX7_diffOf_95, .int, rfl, Or.inl rfl, rfl⟩
        · replace H := H.2 c57
          refine ew_iload_n dX7_diffOf_45 rfl lm2 ?_
          refine ew_if_ne (tgt := 58) dX7_diffOf_46 (by decide) (fun c63 => ?_) (fun c63 => ?_)
          · replace H := H.2 c63
            refine ew_aload_n dX7_diffOf_58 rfl lm0 ?_
            refine mw_gA dX7_diffOf_59 (e_fl.a q1441) mf_35 rfl ?_
            refine ew_iload_n dX7_diffOf_62 rfl lm1 ?_
            obtain ⟨v64, H⟩ := H
            refine mw_iald dX7_diffOf_63 rfl v64.1 v64.2 ?_
            exact ew_ret (o := some (aI (s52.2 35 a))) rfl ⟨_, _, rfl, rfl, H⟩ ⟨dX7_diffOf_64, .int, rfl, Or.inl rfl, rfl⟩
          · replace H := H.1 c63
            refine ew_aload_n dX7_diffOf_49 rfl lm0 ?_
            refine mw_gA dX7_diffOf_50 (e_fl.a q1440) mf_34 rfl ?_
            refine ew_iload_n dX7_diffOf_53 rfl lm1 ?_
            obtain ⟨v65, H⟩ := H
            refine mw_iald dX7_diffOf_54 rfl v65.1 v65.2 ?_
            refine ew_goto (tgt := 64) dX7_diffOf_55 (by decide) ?_
            exact ew_ret (o := some (aI (s52.2 34 a))) rfl ⟨_, _, rfl, rfl, H⟩ ⟨dX7_diffOf_64, .int, rfl, Or.inl rfl, rfl⟩
      · replace H := H.2 c56
        refine ew_iconst dX7_diffOf_38 (inI_of rfl) ?_
        exact ew_ret (o := some (aI (-1))) rfl ⟨_, _, rfl, rfl, H⟩ ⟨dX7_diffOf_39, .int, rfl, Or.inl rfl, rfl⟩
def C_diffOf (a : Int) (b : Int) (s0 : MS) (K : Int → MS → Prop) : Prop := B_diffOf_E  K a b s0
theorem S_diffOf {d : Nat} {g : AH} {K : Int → MS → Prop} {a : Int} {b : Int} {s0 : MS} (H : C_diffOf a b s0 K) : Sp mm_diffOf (d + 1) 0 0 [aR (some mT), aI a, aI b] (mh s0 g) (mQi g K) :=
  ew_sp rfl (Nat.le_of_ble_eq_true rfl) (T_diffOf_E d g K a b s0 (H  ))
abbrev mm_joinOf : EM := (yX7_joinOf, cX7_joinOf, 3, some .int, [])
theorem me_joinOf : e_mth mm_joinOf 2 := ⟨rfl, q1802, q117, by decide +kernel, by decide⟩
def B_joinOf_E  (K : Int → MS → Prop) (a : Int) (b : Int) (s0 : MS) : Prop :=
  ((inI ((s0.1 39) - 1)) ∧ (C_in a 0 ((s0.1 39) - 1) s0 (fun r5 s2 => ((r5 = 0 → (C_unless 0 s2 (fun r10 s7 => (C_isRefused r10 s7 (fun r14 s11 => ((r14 = 0 → ((b = 0 → ((0 ≤ a ∧ a < 24) ∧ K (s11.2 40 a) s11)) ∧ (¬ b = 0 → ((b = 1 → ((0 ≤ a ∧ a < 24) ∧ K (s11.2 41 a) s11)) ∧ (¬ b = 1 → ((0 ≤ a ∧ a < 24) ∧ K (s11.2 42 a) s11)))))) ∧ (¬ r14 = 0 → K (-1) s11))))))) ∧ (¬ r5 = 0 → (C_in b 0 2 s2 (fun r24 s21 => ((r24 = 0 → (C_unless 0 s21 (fun r29 s26 => (C_isRefused r29 s26 (fun r33 s30 => ((r33 = 0 → ((b = 0 → ((0 ≤ a ∧ a < 24) ∧ K (s30.2 40 a) s30)) ∧ (¬ b = 0 → ((b = 1 → ((0 ≤ a ∧ a < 24) ∧ K (s30.2 41 a) s30)) ∧ (¬ b = 1 → ((0 ≤ a ∧ a < 24) ∧ K (s30.2 42 a) s30)))))) ∧ (¬ r33 = 0 → K (-1) s30))))))) ∧ (¬ r24 = 0 → (C_unless 1 s21 (fun r43 s40 => (C_isRefused r43 s40 (fun r47 s44 => ((r47 = 0 → ((b = 0 → ((0 ≤ a ∧ a < 24) ∧ K (s44.2 40 a) s44)) ∧ (¬ b = 0 → ((b = 1 → ((0 ≤ a ∧ a < 24) ∧ K (s44.2 41 a) s44)) ∧ (¬ b = 1 → ((0 ≤ a ∧ a < 24) ∧ K (s44.2 42 a) s44)))))) ∧ (¬ r47 = 0 → K (-1) s44)))))))))))))))
set_option maxHeartbeats 4000000 in
theorem T_joinOf_E (d : Nat) (g : AH) (K : Int → MS → Prop) (a : Int) (b : Int) (s0 : MS) (H : B_joinOf_E  K a b s0) : EW mm_joinOf (d + 1) 0 0 (mQi g K) 0 [(0, aR (some mT)), (1, aI a), (2, aI b)] [] (mh s0 g) := by
  refine ew_aload_n dX7_joinOf_0 rfl lm0 ?_
  refine ew_iload_n dX7_joinOf_1 rfl lm1 ?_
  refine ew_iconst dX7_joinOf_2 (inI_of rfl) ?_
  refine ew_aload_n dX7_joinOf_3 rfl lm0 ?_
  refine mw_gI dX7_joinOf_4 (e_fl.a q1445) mf_39 rfl ?_
  refine ew_iconst dX7_joinOf_7 (inI_of rfl) ?_
  obtain ⟨v1, H⟩ := H
  refine ew_isub dX7_joinOf_8 v1 ?_
  refine ew_callS (d := d + 0) (as := [aI a, aI 0, aI ((s0.1 39) - 1)]) rfl dX7_joinOf_9 me_in rfl (Or.inl q1591) q1592 (Nat.le_of_ble_eq_true rfl) (Nat.le_refl 0) (Nat.le_refl 0) (S_in (d := d + 0) H) (fun o h' hq3 _ => ?_) (fun E i h' q _ => (mQi_no q).elim)
  obtain ⟨r5, s2, E4, rfl, H⟩ := hq3
  cases E4
  refine ew_if_eq (tgt := 28) dX7_joinOf_12 (by decide) (fun c6 => ?_) (fun c6 => ?_)
  · replace H := H.1 c6
    refine ew_iconst dX7_joinOf_28 (inI_of rfl) ?_
    refine ew_callS (d := d + 0) (as := [aI 0]) rfl dX7_joinOf_29 me_unless rfl (Or.inl q1732) q1733 (Nat.le_of_ble_eq_true rfl) (Nat.le_refl 0) (Nat.le_refl 0) (S_unless (d := d + 0) H) (fun o h' hq8 _ => ?_) (fun E i h' q _ => (mQi_no q).elim)
    obtain ⟨r10, s7, E9, rfl, H⟩ := hq8
    cases E9
    refine ew_callV (d := d + 0) (as := [aI r10]) rfl dX7_joinOf_32 me_isRefused rfl (ci := 1) rfl rfl (mh_o _ _) (Or.inl q1594) q1596 qs56 (Nat.le_of_ble_eq_true rfl) (Nat.le_refl 0) (Nat.le_refl 0) (S_isRefused (d := d + 0) H) (fun o h' hq12 _ => ?_) (fun E i h' q _ => (mQi_no q).elim)
    obtain ⟨r14, s11, E13, rfl, H⟩ := hq12
    cases E13
    refine ew_if_eq (tgt := 40) dX7_joinOf_35 (by decide) (fun c15 => ?_) (fun c15 => ?_)
    · replace H := H.1 c15
      refine ew_iload_n dX7_joinOf_40 rfl lm2 ?_
      refine ew_if_ne (tgt := 53) dX7_joinOf_41 (by decide) (fun c16 => ?_) (fun c16 => ?_)
      · replace H := H.2 c16
        refine ew_iload_n dX7_joinOf_53 rfl lm2 ?_
        refine ew_iconst dX7_joinOf_54 (inI_of rfl) ?_
        refine ew_icmp_ne (tgt := 67) dX7_joinOf_55 (by decide) (fun c17 => ?_) (fun c17 => ?_)
        · replace H := H.2 c17
          refine ew_aload_n dX7_joinOf_67 rfl lm0 ?_
          refine mw_gA dX7_joinOf_68 (e_fl.a q1448) mf_42 rfl ?_
          refine ew_iload_n dX7_joinOf_71 rfl lm1 ?_
          obtain ⟨v18, H⟩ := H
          refine mw_iald dX7_joinOf_72 rfl v18.1 v18.2 ?_
          exact ew_ret (o := some (aI (s11.2 42 a))) rfl ⟨_, _, rfl, rfl, H⟩ ⟨dX7_joinOf_73, .int, rfl, Or.inl rfl, rfl⟩
        · replace H := H.1 c17
          refine ew_aload_n dX7_joinOf_58 rfl lm0 ?_
          refine mw_gA dX7_joinOf_59 (e_fl.a q1447) mf_41 rfl ?_
          refine ew_iload_n dX7_joinOf_62 rfl lm1 ?_
          obtain ⟨v19, H⟩ := H
          refine mw_iald dX7_joinOf_63 rfl v19.1 v19.2 ?_
          refine ew_goto (tgt := 73) dX7_joinOf_64 (by decide) ?_
          exact ew_ret (o := some (aI (s11.2 41 a))) rfl ⟨_, _, rfl, rfl, H⟩ ⟨dX7_joinOf_73, .int, rfl, Or.inl rfl, rfl⟩
      · replace H := H.1 c16
        refine ew_aload_n dX7_joinOf_44 rfl lm0 ?_
        refine mw_gA dX7_joinOf_45 (e_fl.a q1446) mf_40 rfl ?_
        refine ew_iload_n dX7_joinOf_48 rfl lm1 ?_
        obtain ⟨v20, H⟩ := H
        refine mw_iald dX7_joinOf_49 rfl v20.1 v20.2 ?_
        refine ew_goto (tgt := 73) dX7_joinOf_50 (by decide) ?_
        exact ew_ret (o := some (aI (s11.2 40 a))) rfl ⟨_, _, rfl, rfl, H⟩ ⟨dX7_joinOf_73, .int, rfl, Or.inl rfl, rfl⟩
    · replace H := H.2 c15
      refine ew_iconst dX7_joinOf_38 (inI_of rfl) ?_
      exact ew_ret (o := some (aI (-1))) rfl ⟨_, _, rfl, rfl, H⟩ ⟨dX7_joinOf_39, .int, rfl, Or.inl rfl, rfl⟩
  · replace H := H.2 c6
    refine ew_iload_n dX7_joinOf_15 rfl lm2 ?_
    refine ew_iconst dX7_joinOf_16 (inI_of rfl) ?_
    refine ew_iconst dX7_joinOf_17 (inI_of rfl) ?_
    refine ew_callS (d := d + 0) (as := [aI b, aI 0, aI 2]) rfl dX7_joinOf_18 me_in rfl (Or.inl q1591) q1592 (Nat.le_of_ble_eq_true rfl) (Nat.le_refl 0) (Nat.le_refl 0) (S_in (d := d + 0) H) (fun o h' hq22 _ => ?_) (fun E i h' q _ => (mQi_no q).elim)
    obtain ⟨r24, s21, E23, rfl, H⟩ := hq22
    cases E23
    refine ew_if_eq (tgt := 28) dX7_joinOf_21 (by decide) (fun c25 => ?_) (fun c25 => ?_)
    · replace H := H.1 c25
      refine ew_iconst dX7_joinOf_28 (inI_of rfl) ?_
      refine ew_callS (d := d + 0) (as := [aI 0]) rfl dX7_joinOf_29 me_unless rfl (Or.inl q1732) q1733 (Nat.le_of_ble_eq_true rfl) (Nat.le_refl 0) (Nat.le_refl 0) (S_unless (d := d + 0) H) (fun o h' hq27 _ => ?_) (fun E i h' q _ => (mQi_no q).elim)
      obtain ⟨r29, s26, E28, rfl, H⟩ := hq27
      cases E28
      refine ew_callV (d := d + 0) (as := [aI r29]) rfl dX7_joinOf_32 me_isRefused rfl (ci := 1) rfl rfl (mh_o _ _) (Or.inl q1594) q1596 qs56 (Nat.le_of_ble_eq_true rfl) (Nat.le_refl 0) (Nat.le_refl 0) (S_isRefused (d := d + 0) H) (fun o h' hq31 _ => ?_) (fun E i h' q _ => (mQi_no q).elim)
      obtain ⟨r33, s30, E32, rfl, H⟩ := hq31
      cases E32
      refine ew_if_eq (tgt := 40) dX7_joinOf_35 (by decide) (fun c34 => ?_) (fun c34 => ?_)
      · replace H := H.1 c34
        refine ew_iload_n dX7_joinOf_40 rfl lm2 ?_
        refine ew_if_ne (tgt := 53) dX7_joinOf_41 (by decide) (fun c35 => ?_) (fun c35 => ?_)
        · replace H := H.2 c35
          refine ew_iload_n dX7_joinOf_53 rfl lm2 ?_
          refine ew_iconst dX7_joinOf_54 (inI_of rfl) ?_
          refine ew_icmp_ne (tgt := 67) dX7_joinOf_55 (by decide) (fun c36 => ?_) (fun c36 => ?_)
          · replace H := H.2 c36
            refine ew_aload_n dX7_joinOf_67 rfl lm0 ?_
            refine mw_gA dX7_joinOf_68 (e_fl.a q1448) mf_42 rfl ?_
            refine ew_iload_n dX7_joinOf_71 rfl lm1 ?_
            obtain ⟨v37, H⟩ := H
            refine mw_iald dX7_joinOf_72 rfl v37.1 v37.2 ?_
            exact ew_ret (o := some (aI (s30.2 42 a))) rfl ⟨_, _, rfl, rfl, H⟩ ⟨dX7_joinOf_73, .int, rfl, Or.inl rfl, rfl⟩
          · replace H := H.1 c36
            refine ew_aload_n dX7_joinOf_58 rfl lm0 ?_
            refine mw_gA dX7_joinOf_59 (e_fl.a q1447) mf_41 rfl ?_
            refine ew_iload_n dX7_joinOf_62 rfl lm1 ?_
            obtain ⟨v38, H⟩ := H
            refine mw_iald dX7_joinOf_63 rfl v38.1 v38.2 ?_
            refine ew_goto (tgt := 73) dX7_joinOf_64 (by decide) ?_
            exact ew_ret (o := some (aI (s30.2 41 a))) rfl ⟨_, _, rfl, rfl, H⟩ ⟨dX7_joinOf_73, .int, rfl, Or.inl rfl, rfl⟩
        · replace H := H.1 c35
          refine ew_aload_n dX7_joinOf_44 rfl lm0 ?_
          refine mw_gA dX7_joinOf_45 (e_fl.a q1446) mf_40 rfl ?_
          refine ew_iload_n dX7_joinOf_48 rfl lm1 ?_
          obtain ⟨v39, H⟩ := H
          refine mw_iald dX7_joinOf_49 rfl v39.1 v39.2 ?_
          refine ew_goto (tgt := 73) dX7_joinOf_50 (by decide) ?_
          exact ew_ret (o := some (aI (s30.2 40 a))) rfl ⟨_, _, rfl, rfl, H⟩ ⟨dX7_joinOf_73, .int, rfl, Or.inl rfl, rfl⟩
      · replace H := H.2 c34
        refine ew_iconst dX7_joinOf_38 (inI_of rfl) ?_
        exact ew_ret (o := some (aI (-1))) rfl ⟨_, _, rfl, rfl, H⟩ ⟨dX7_joinOf_39, .int, rfl, Or.inl rfl, rfl⟩
    · replace H := H.2 c25
      refine ew_iconst dX7_joinOf_24 (inI_of rfl) ?_
      refine ew_goto (tgt := 29) dX7_joinOf_25 (by decide) ?_
      refine ew_callS (d := d + 0) (as := [aI 1]) rfl dX7_joinOf_29 me_unless rfl (Or.inl q1732) q1733 (Nat.le_of_ble_eq_true rfl) (Nat.le_refl 0) (Nat.le_refl 0) (S_unless (d := d + 0) H) (fun o h' hq41 _ => ?_) (fun E i h' q _ => (mQi_no q).elim)
      obtain ⟨r43, s40, E42, rfl, H⟩ := hq41
      cases E42
      refine ew_callV (d := d + 0) (as := [aI r43]) rfl dX7_joinOf_32 me_isRefused rfl (ci := 1) rfl rfl (mh_o _ _) (Or.inl q1594) q1596 qs56 (Nat.le_of_ble_eq_true rfl) (Nat.le_refl 0) (Nat.le_refl 0) (S_isRefused (d := d + 0) H) (fun o h' hq45 _ => ?_) (fun E i h' q _ => (mQi_no q).elim)
      obtain ⟨r47, s44, E46, rfl, H⟩ := hq45
      cases E46
      refine ew_if_eq (tgt := 40) dX7_joinOf_35 (by decide) (fun c48 => ?_) (fun c48 => ?_)
      · replace H := H.1 c48
        refine ew_iload_n dX7_joinOf_40 rfl lm2 ?_
        refine ew_if_ne (tgt := 53) dX7_joinOf_41 (by decide) (fun c49 => ?_) (fun c49 => ?_)
        · replace H := H.2 c49
          refine ew_iload_n dX7_joinOf_53 rfl lm2 ?_
          refine ew_iconst dX7_joinOf_54 (inI_of rfl) ?_
          refine ew_icmp_ne (tgt := 67) dX7_joinOf_55 (by decide) (fun c50 => ?_) (fun c50 => ?_)
          · replace H := H.2 c50
            refine ew_aload_n dX7_joinOf_67 rfl lm0 ?_
            refine mw_gA dX7_joinOf_68 (e_fl.a q1448) mf_42 rfl ?_
            refine ew_iload_n dX7_joinOf_71 rfl lm1 ?_
            obtain ⟨v51, H⟩ := H
            refine mw_iald dX7_joinOf_72 rfl v51.1 v51.2 ?_
            exact ew_ret (o := some (aI (s44.2 42 a))) rfl ⟨_, _, rfl, rfl, H⟩ ⟨dX7_joinOf_73, .int, rfl, Or.inl rfl, rfl⟩
          · replace H := H.1 c50
            refine ew_aload_n dX7_joinOf_58 rfl lm0 ?_
            refine mw_gA dX7_joinOf_59 (e_fl.a q1447) mf_41 rfl ?_
            refine ew_iload_n dX7_joinOf_62 rfl lm1 ?_
            obtain ⟨v52, H⟩ := H
            refine mw_iald dX7_joinOf_63 rfl v52.1 v52.2 ?_
            refine ew_goto (tgt := 73) dX7_joinOf_64 (by decide) ?_
            exact ew_ret (o := some (aI (s44.2 41 a))) rfl ⟨_, _, rfl, rfl, H⟩ ⟨dX7_joinOf_73, .int, rfl, Or.inl rfl, rfl⟩
        · replace H := H.1 c49
          refine ew_aload_n dX7_joinOf_44 rfl lm0 ?_
          refine mw_gA dX7_joinOf_45 (e_fl.a q1446) mf_40 rfl ?_
          refine ew_iload_n dX7_joinOf_48 rfl lm1 ?_
          obtain ⟨v53, H⟩ := H
          refine mw_iald dX7_joinOf_49 rfl v53.1 v53.2 ?_
          refine ew_goto (tgt := 73) dX7_joinOf_50 (by decide) ?_
          exact ew_ret (o := some (aI (s44.2 40 a))) rfl ⟨_, _, rfl, rfl, H⟩ ⟨dX7_joinOf_73, .int, rfl, Or.inl rfl, rfl⟩
      · replace H := H.2 c48
        refine ew_iconst dX7_joinOf_38 (inI_of rfl) ?_
        exact ew_ret (o := some (aI (-1))) rfl ⟨_, _, rfl, rfl, H⟩ ⟨dX7_joinOf_39, .int, rfl, Or.inl rfl, rfl⟩
def C_joinOf (a : Int) (b : Int) (s0 : MS) (K : Int → MS → Prop) : Prop := B_joinOf_E  K a b s0
theorem S_joinOf {d : Nat} {g : AH} {K : Int → MS → Prop} {a : Int} {b : Int} {s0 : MS} (H : C_joinOf a b s0 K) : Sp mm_joinOf (d + 1) 0 0 [aR (some mT), aI a, aI b] (mh s0 g) (mQi g K) :=
  ew_sp rfl (Nat.le_of_ble_eq_true rfl) (T_joinOf_E d g K a b s0 (H  ))
