set_option maxRecDepth 100000
abbrev mm_without : EM := (yX7_without, cX7_without, 3, some .int, [])
theorem me_without : e_mth mm_without 2 := ⟨rfl, q1921, q117, by decide +kernel, by decide⟩
def B_without_E  (K : Int → MS → Prop) (a : Int) (b : Int) (s0 : MS) : Prop :=
  ((inI ((s0.1 30) - 1)) ∧ (C_in a 0 ((s0.1 30) - 1) s0 (fun r5 s2 => ((r5 = 0 → (C_unless 0 s2 (fun r10 s7 => (C_isRefused r10 s7 (fun r14 s11 => ((r14 = 0 → (C_allSames s11 (fun r19 s16 => (C_closesBy (jand r19 (jxor (jshl 1 a) (-1))) s16 (fun s20 => ((b = 0 → (C_groupsIn 44 s20 (fun r31 s28 => K r31 s28))) ∧ (¬ b = 0 → (C_clashIn 44 s20 (fun r27 s24 => K r27 s24))))))))) ∧ (¬ r14 = 0 → K (-1) s11))))))) ∧ (¬ r5 = 0 → (C_in b 0 1 s2 (fun r35 s32 => ((r35 = 0 → (C_unless 0 s32 (fun r40 s37 => (C_isRefused r40 s37 (fun r44 s41 => ((r44 = 0 → (C_allSames s41 (fun r49 s46 => (C_closesBy (jand r49 (jxor (jshl 1 a) (-1))) s46 (fun s50 => ((b = 0 → (C_groupsIn 44 s50 (fun r61 s58 => K r61 s58))) ∧ (¬ b = 0 → (C_clashIn 44 s50 (fun r57 s54 => K r57 s54))))))))) ∧ (¬ r44 = 0 → K (-1) s41))))))) ∧ (¬ r35 = 0 → (C_unless 1 s32 (fun r65 s62 => (C_isRefused r65 s62 (fun r69 s66 => ((r69 = 0 → (C_allSames s66 (fun r74 s71 => (C_closesBy (jand r74 (jxor (jshl 1 a) (-1))) s71 (fun s75 => ((b = 0 → (C_groupsIn 44 s75 (fun r86 s83 => K r86 s83))) ∧ (¬ b = 0 → (C_clashIn 44 s75 (fun r82 s79 => K r82 s79))))))))) ∧ (¬ r69 = 0 → K (-1) s66)))))))))))))))
set_option maxHeartbeats 4000000 in
theorem T_without_E (d : Nat) (g : AH) (K : Int → MS → Prop) (a : Int) (b : Int) (s0 : MS) (H : B_without_E  K a b s0) : EW mm_without (d + 3) 0 0 (mQi g K) 0 [(0, aR (some mT)), (1, aI a), (2, aI b)] [] (mh s0 g) := by
  refine ew_aload_n dX7_without_0 rfl lm0 ?_
  refine ew_iload_n dX7_without_1 rfl lm1 ?_
  refine ew_iconst dX7_without_2 (inI_of rfl) ?_
  refine ew_aload_n dX7_without_3 rfl lm0 ?_
  refine mw_gI dX7_without_4 (e_fl.a q1436) mf_30 rfl ?_
  refine ew_iconst dX7_without_7 (inI_of rfl) ?_
  obtain ⟨v1, H⟩ := H
  refine ew_isub dX7_without_8 v1 ?_
  refine ew_callS (d := d + 2) (as := [aI a, aI 0, aI ((s0.1 30) - 1)]) rfl dX7_without_9 me_in rfl (Or.inl q1591) q1592 (Nat.le_of_ble_eq_true rfl) (Nat.le_refl 0) (Nat.le_refl 0) (S_in (d := d + 2) H) (fun o h' hq3 _ => ?_) (fun E i h' q _ => (mQi_no q).elim)
  obtain ⟨r5, s2, E4, rfl, H⟩ := hq3
  cases E4
  refine ew_if_eq (tgt := 28) dX7_without_12 (by decide) (fun c6 => ?_) (fun c6 => ?_)
  · replace H := H.1 c6
    refine ew_iconst dX7_without_28 (inI_of rfl) ?_
    refine ew_callS (d := d + 2) (as := [aI 0]) rfl dX7_without_29 me_unless rfl (Or.inl q1732) q1733 (Nat.le_of_ble_eq_true rfl) (Nat.le_refl 0) (Nat.le_refl 0) (S_unless (d := d + 2) H) (fun o h' hq8 _ => ?_) (fun E i h' q _ => (mQi_no q).elim)
    obtain ⟨r10, s7, E9, rfl, H⟩ := hq8
    cases E9
    refine ew_callV (d := d + 2) (as := [aI r10]) rfl dX7_without_32 me_isRefused rfl (ci := 1) rfl rfl (mh_o _ _) (Or.inl q1594) q1596 qs56 (Nat.le_of_ble_eq_true rfl) (Nat.le_refl 0) (Nat.le_refl 0) (S_isRefused (d := d + 2) H) (fun o h' hq12 _ => ?_) (fun E i h' q _ => (mQi_no q).elim)
    obtain ⟨r14, s11, E13, rfl, H⟩ := hq12
    cases E13
    refine ew_if_eq (tgt := 40) dX7_without_35 (by decide) (fun c15 => ?_) (fun c15 => ?_)
    · replace H := H.1 c15
      refine ew_aload_n dX7_without_40 rfl lm0 ?_
      refine ew_aload_n dX7_without_41 rfl lm0 ?_
      refine ew_callV (d := d + 2) (as := []) rfl dX7_without_42 me_allSames rfl (ci := 1) rfl rfl (mh_o _ _) (Or.inl q1783) q1785 qs92 (Nat.le_of_ble_eq_true rfl) (Nat.le_refl 0) (Nat.le_refl 0) (S_allSames (d := d + 2) H) (fun o h' hq17 _ => ?_) (fun E i h' q _ => (mQi_no q).elim)
      obtain ⟨r19, s16, E18, rfl, H⟩ := hq17
      cases E18
      refine ew_iconst dX7_without_45 (inI_of rfl) ?_
      refine ew_iload_n dX7_without_46 rfl lm1 ?_
      refine ew_ishl dX7_without_47 ?_
      refine ew_iconst dX7_without_48 (inI_of rfl) ?_
      refine ew_ixor dX7_without_49 ?_
      refine ew_iand dX7_without_50 ?_
      refine ew_callV (d := d + 2) (as := [aI (jand r19 (jxor (jshl 1 a) (-1)))]) rfl dX7_without_51 me_closesBy rfl (ci := 1) rfl rfl (mh_o _ _) (Or.inl q1791) q1793 qs94 (Nat.le_of_ble_eq_true rfl) (Nat.le_refl 0) (Nat.le_refl 0) (S_closesBy (d := d + 0) H) (fun o h' hq21 _ => ?_) (fun E i h' q _ => (mQ_no q).elim)
      obtain ⟨s20, E22, rfl, H⟩ := hq21
      cases E22
      refine ew_iload_n dX7_without_54 rfl lm2 ?_
      refine ew_if_ne (tgt := 69) dX7_without_55 (by decide) (fun c23 => ?_) (fun c23 => ?_)
      · replace H := H.2 c23
        refine ew_aload_n dX7_without_69 rfl lm0 ?_
        refine ew_aload_n dX7_without_70 rfl lm0 ?_
        refine mw_gA dX7_without_71 (e_fl.a q1450) mf_44 rfl ?_
        refine ew_callV (d := d + 2) (as := [aR (some (0, 1, 44))]) rfl dX7_without_74 me_clashIn rfl (ci := 1) rfl rfl (mh_o _ _) (Or.inl q1739) q1741 qs87 (Nat.le_of_ble_eq_true rfl) (Nat.le_refl 0) (Nat.le_refl 0) (S_clashIn (d := d + 2) H) (fun o h' hq25 _ => ?_) (fun E i h' q _ => (mQi_no q).elim)
        obtain ⟨r27, s24, E26, rfl, H⟩ := hq25
        cases E26
        exact ew_ret (o := some (aI r27)) rfl ⟨_, _, rfl, rfl, H⟩ ⟨dX7_without_77, .int, rfl, Or.inl rfl, rfl⟩
      · replace H := H.1 c23
        refine ew_aload_n dX7_without_58 rfl lm0 ?_
        refine ew_aload_n dX7_without_59 rfl lm0 ?_
        refine mw_gA dX7_without_60 (e_fl.a q1450) mf_44 rfl ?_
        refine ew_callV (d := d + 2) (as := [aR (some (0, 1, 44))]) rfl dX7_without_63 me_groupsIn rfl (ci := 1) rfl rfl (mh_o _ _) (Or.inl q1735) q1737 qs86 (Nat.le_of_ble_eq_true rfl) (Nat.le_refl 0) (Nat.le_refl 0) (S_groupsIn (d := d + 2) H) (fun o h' hq29 _ => ?_) (fun E i h' q _ => (mQi_no q).elim)
        obtain ⟨r31, s28, E30, rfl, H⟩ := hq29
        cases E30
        refine ew_goto (tgt := 77) dX7_without_66 (by decide) ?_
        exact ew_ret (o := some (aI r31)) rfl ⟨_, _, rfl, rfl, H⟩ ⟨dX7_without_77, .int, rfl, Or.inl rfl, rfl⟩
    · replace H := H.2 c15
      refine ew_iconst dX7_without_38 (inI_of rfl) ?_
      exact ew_ret (o := some (aI (-1))) rfl ⟨_, _, rfl, rfl, H⟩ ⟨dX7_without_39, .int, rfl, Or.inl rfl, rfl⟩
  · replace H := H.2 c6
    refine ew_iload_n dX7_without_15 rfl lm2 ?_
    refine ew_iconst dX7_without_16 (inI_of rfl) ?_
    refine ew_iconst dX7_without_17 (inI_of rfl) ?_
    refine ew_callS (d := d + 2) (as := [aI b, aI 0, aI 1]) rfl dX7_without_18 me_in rfl (Or.inl q1591) q1592 (Nat.le_of_ble_eq_true rfl) (Nat.le_refl 0) (Nat.le_refl 0) (S_in (d := d + 2) H) (fun o h' hq33 _ => ?_) (fun E i h' q _ => (mQi_no q).elim)
    obtain ⟨r35, s32, E34, rfl, H⟩ := hq33
    cases E34
    refine ew_if_eq (tgt := 28) dX7_without_21 (by decide) (fun c36 => ?_) (fun c36 => ?_)
    · replace H := H.1 c36
      refine ew_iconst dX7_without_28 (inI_of rfl) ?_
      refine ew_callS (d := d + 2) (as := [aI 0]) rfl dX7_without_29 me_unless rfl (Or.inl q1732) q1733 (Nat.le_of_ble_eq_true rfl) (Nat.le_refl 0) (Nat.le_refl 0) (S_unless (d := d + 2) H) (fun o h' hq38 _ => ?_) (fun E i h' q _ => (mQi_no q).elim)
      obtain ⟨r40, s37, E39, rfl, H⟩ := hq38
      cases E39
      refine ew_callV (d := d + 2) (as := [aI r40]) rfl dX7_without_32 me_isRefused rfl (ci := 1) rfl rfl (mh_o _ _) (Or.inl q1594) q1596 qs56 (Nat.le_of_ble_eq_true rfl) (Nat.le_refl 0) (Nat.le_refl 0) (S_isRefused (d := d + 2) H) (fun o h' hq42 _ => ?_) (fun E i h' q _ => (mQi_no q).elim)
      obtain ⟨r44, s41, E43, rfl, H⟩ := hq42
      cases E43
      refine ew_if_eq (tgt := 40) dX7_without_35 (by decide) (fun c45 => ?_) (fun c45 => ?_)
      · replace H := H.1 c45
        refine ew_aload_n dX7_without_40 rfl lm0 ?_
        refine ew_aload_n dX7_without_41 rfl lm0 ?_
        refine ew_callV (d := d + 2) (as := []) rfl dX7_without_42 me_allSames rfl (ci := 1) rfl rfl (mh_o _ _) (Or.inl q1783) q1785 qs92 (Nat.le_of_ble_eq_true rfl) (Nat.le_refl 0) (Nat.le_refl 0) (S_allSames (d := d + 2) H) (fun o h' hq47 _ => ?_) (fun E i h' q _ => (mQi_no q).elim)
        obtain ⟨r49, s46, E48, rfl, H⟩ := hq47
        cases E48
        refine ew_iconst dX7_without_45 (inI_of rfl) ?_
        refine ew_iload_n dX7_without_46 rfl lm1 ?_
        refine ew_ishl dX7_without_47 ?_
        refine ew_iconst dX7_without_48 (inI_of rfl) ?_
        refine ew_ixor dX7_without_49 ?_
        refine ew_iand dX7_without_50 ?_
        refine ew_callV (d := d + 2) (as := [aI (jand r49 (jxor (jshl 1 a) (-1)))]) rfl dX7_without_51 me_closesBy rfl (ci := 1) rfl rfl (mh_o _ _) (Or.inl q1791) q1793 qs94 (Nat.le_of_ble_eq_true rfl) (Nat.le_refl 0) (Nat.le_refl 0) (S_closesBy (d := d + 0) H) (fun o h' hq51 _ => ?_) (fun E i h' q _ => (mQ_no q).elim)
        obtain ⟨s50, E52, rfl, H⟩ := hq51
        cases E52
        refine ew_iload_n dX7_without_54 rfl lm2 ?_
        refine ew_if_ne (tgt := 69) dX7_without_55 (by decide) (fun c53 => ?_) (fun c53 => ?_)
        · replace H := H.2 c53
          refine ew_aload_n dX7_without_69 rfl lm0 ?_
          refine ew_aload_n dX7_without_70 rfl lm0 ?_
          refine mw_gA dX7_without_71 (e_fl.a q1450) mf_44 rfl ?_
          refine ew_callV (d := d + 2) (as := [aR (some (0, 1, 44))]) rfl dX7_without_74 me_clashIn rfl (ci := 1) rfl rfl (mh_o _ _) (Or.inl q1739) q1741 qs87 (Nat.le_of_ble_eq_true rfl) (Nat.le_refl 0) (Nat.le_refl 0) (S_clashIn (d := d + 2) H) (fun o h' hq55 _ => ?_) (fun E i h' q _ => (mQi_no q).elim)
          obtain ⟨r57, s54, E56, rfl, H⟩ := hq55
          cases E56
          exact ew_ret (o := some (aI r57)) rfl ⟨_, _, rfl, rfl, H⟩ ⟨dX7_without_77, .int, rfl, Or.inl rfl, rfl⟩
        · replace H := H.1 c53
          refine ew_aload_n dX7_without_58 rfl lm0 ?_
          refine ew_aload_n dX7_without_59 rfl lm0 ?_
          refine mw_gA dX7_without_60 (e_fl.a q1450) mf_44 rfl ?_
          refine ew_callV (d := d + 2) (as := [aR (some (0, 1, 44))]) rfl dX7_without_63 me_groupsIn rfl (ci := 1) rfl rfl (mh_o _ _) (Or.inl q1735) q1737 qs86 (Nat.le_of_ble_eq_true rfl) (Nat.le_refl 0) (Nat.le_refl 0) (S_groupsIn (d := d + 2) H) (fun o h' hq59 _ => ?_) (fun E i h' q _ => (mQi_no q).elim)
          obtain ⟨r61, s58, E60, rfl, H⟩ := hq59
          cases E60
          refine ew_goto (tgt := 77) dX7_without_66 (by decide) ?_
          exact ew_ret (o := some (aI r61)) rfl ⟨_, _, rfl, rfl, H⟩ ⟨dX7_without_77, .int, rfl, Or.inl rfl, rfl⟩
      · replace H := H.2 c45
        refine ew_iconst dX7_without_38 (inI_of rfl) ?_
        exact ew_ret (o := some (aI (-1))) rfl ⟨_, _, rfl, rfl, H⟩ ⟨dX7_without_39, .int, rfl, Or.inl rfl, rfl⟩
    · replace H := H.2 c36
      refine ew_iconst dX7_without_24 (inI_of rfl) ?_
      refine ew_goto (tgt := 29) dX7_without_25 (by decide) ?_
      refine ew_callS (d := d + 2) (as := [aI 1]) rfl dX7_without_29 me_unless rfl (Or.inl q1732) q1733 (Nat.le_of_ble_eq_true rfl) (Nat.le_refl 0) (Nat.le_refl 0) (S_unless (d := d + 2) H) (fun o h' hq63 _ => ?_) (fun E i h' q _ => (mQi_no q).elim)
      obtain ⟨r65, s62, E64, rfl, H⟩ := hq63
      cases E64
      refine ew_callV (d := d + 2) (as := [aI r65]) rfl dX7_without_32 me_isRefused rfl (ci := 1) rfl rfl (mh_o _ _) (Or.inl q1594) q1596 qs56 (Nat.le_of_ble_eq_true rfl) (Nat.le_refl 0) (Nat.le_refl 0) (S_isRefused (d := d + 2) H) (fun o h' hq67 _ => ?_) (fun E i h' q _ => (mQi_no q).elim)
      obtain ⟨r69, s66, E68, rfl, H⟩ := hq67
      cases E68
      refine ew_if_eq (tgt := 40) dX7_without_35 (by decide) (fun c70 => ?_) (fun c70 => ?_)
      · replace H := H.1 c70
        refine ew_aload_n dX7_without_40 rfl lm0 ?_
        refine ew_aload_n dX7_without_41 rfl lm0 ?_
        refine ew_callV (d := d + 2) (as := []) rfl dX7_without_42 me_allSames rfl (ci := 1) rfl rfl (mh_o _ _) (Or.inl q1783) q1785 qs92 (Nat.le_of_ble_eq_true rfl) (Nat.le_refl 0) (Nat.le_refl 0) (S_allSames (d := d + 2) H) (fun o h' hq72 _ => ?_) (fun E i h' q _ => (mQi_no q).elim)
        obtain ⟨r74, s71, E73, rfl, H⟩ := hq72
        cases E73
        refine ew_iconst dX7_without_45 (inI_of rfl) ?_
        refine ew_iload_n dX7_without_46 rfl lm1 ?_
        refine ew_ishl dX7_without_47 ?_
        refine ew_iconst dX7_without_48 (inI_of rfl) ?_
        refine ew_ixor dX7_without_49 ?_
        refine ew_iand dX7_without_50 ?_
        refine ew_callV (d := d + 2) (as := [aI (jand r74 (jxor (jshl 1 a) (-1)))]) rfl dX7_without_51 me_closesBy rfl (ci := 1) rfl rfl (mh_o _ _) (Or.inl q1791) q1793 qs94 (Nat.le_of_ble_eq_true rfl) (Nat.le_refl 0) (Nat.le_refl 0) (S_closesBy (d := d + 0) H) (fun o h' hq76 _ => ?_) (fun E i h' q _ => (mQ_no q).elim)
        obtain ⟨s75, E77, rfl, H⟩ := hq76
        cases E77
        refine ew_iload_n dX7_without_54 rfl lm2 ?_
        refine ew_if_ne (tgt := 69) dX7_without_55 (by decide) (fun c78 => ?_) (fun c78 => ?_)
        · replace H := H.2 c78
          refine ew_aload_n dX7_without_69 rfl lm0 ?_
          refine ew_aload_n dX7_without_70 rfl lm0 ?_
          refine mw_gA dX7_without_71 (e_fl.a q1450) mf_44 rfl ?_
          refine ew_callV (d := d + 2) (as := [aR (some (0, 1, 44))]) rfl dX7_without_74 me_clashIn rfl (ci := 1) rfl rfl (mh_o _ _) (Or.inl q1739) q1741 qs87 (Nat.le_of_ble_eq_true rfl) (Nat.le_refl 0) (Nat.le_refl 0) (S_clashIn (d := d + 2) H) (fun o h' hq80 _ => ?_) (fun E i h' q _ => (mQi_no q).elim)
          obtain ⟨r82, s79, E81, rfl, H⟩ := hq80
          cases E81
          exact ew_ret (o := some (aI r82)) rfl ⟨_, _, rfl, rfl, H⟩ ⟨dX7_without_77, .int, rfl, Or.inl rfl, rfl⟩
        · replace H := H.1 c78
          refine ew_aload_n dX7_without_58 rfl lm0 ?_
          refine ew_aload_n dX7_without_59 rfl lm0 ?_
          refine mw_gA dX7_without_60 (e_fl.a q1450) mf_44 rfl ?_
          refine ew_callV (d := d + 2) (as := [aR (some (0, 1, 44))]) rfl dX7_without_63 me_groupsIn rfl (ci := 1) rfl rfl (mh_o _ _) (Or.inl q1735) q1737 qs86 (Nat.le_of_ble_eq_true rfl) (Nat.le_refl 0) (Nat.le_refl 0) (S_groupsIn (d := d + 2) H) (fun o h' hq84 _ => ?_) (fun E i h' q _ => (mQi_no q).elim)
          obtain ⟨r86, s83, E85, rfl, H⟩ := hq84
          cases E85
          refine ew_goto (tgt := 77) dX7_without_66 (by decide) ?_
          exact ew_ret (o := some (aI r86)) rfl ⟨_, _, rfl, rfl, H⟩ ⟨dX7_without_77, .int, rfl, Or.inl rfl, rfl⟩
      · replace H := H.2 c70
        refine ew_iconst dX7_without_38 (inI_of rfl) ?_
        exact ew_ret (o := some (aI (-1))) rfl ⟨_, _, rfl, rfl, H⟩ ⟨dX7_without_39, .int, rfl, Or.inl rfl, rfl⟩
def C_without (a : Int) (b : Int) (s0 : MS) (K : Int → MS → Prop) : Prop := B_without_E  K a b s0
theorem S_without {d : Nat} {g : AH} {K : Int → MS → Prop} {a : Int} {b : Int} {s0 : MS} (H : C_without a b s0 K) : Sp mm_without (d + 3) 0 0 [aR (some mT), aI a, aI b] (mh s0 g) (mQi g K) :=
  ew_sp rfl (Nat.le_of_ble_eq_true rfl) (T_without_E d g K a b s0 (H  ))
abbrev mm_free : EM := (yX7_free, cX7_free, 4, some .int, [])
theorem me_free : e_mth mm_free 0 := ⟨rfl, q1925, q117, by decide +kernel, by decide⟩
def B_free_9 (X9 : Int → Int → MS → Prop) (X21 : Int → Int → Int → MS → Prop) (K : Int → MS → Prop) (x1 : Int) (x2 : Int) (s0 : MS) : Prop :=
  (((s0.1 27) ≤ x2 → K x1 s0) ∧ (¬ (s0.1 27) ≤ x2 → ((inI (x2 + 1)) ∧ X21 x1 x2 (x2 + 1) s0)))
def B_free_21 (X9 : Int → Int → MS → Prop) (X21 : Int → Int → Int → MS → Prop) (K : Int → MS → Prop) (x1 : Int) (x2 : Int) (x3 : Int) (s0 : MS) : Prop :=
  (((s0.1 27) ≤ x3 → (inI (x2 + 1) ∧ X9 x1 (x2 + 1) s0)) ∧ (¬ (s0.1 27) ≤ x3 → ((0 ≤ x2 ∧ x2 < 24) ∧ ((0 ≤ x3 ∧ x3 < 24) ∧ (((s0.2 36 x2) = (s0.2 36 x3) → (inI (x3 + 1) ∧ X21 x1 x2 (x3 + 1) s0)) ∧ (¬ (s0.2 36 x2) = (s0.2 36 x3) → (C_closesWith x2 x3 s0 (fun s7 => (C_clashIn 44 s7 (fun r13 s10 => ((r13 = (-2) → ((inI (x1 + 1)) ∧ (inI (x3 + 1) ∧ X21 (x1 + 1) x2 (x3 + 1) s10))) ∧ (¬ r13 = (-2) → ((inI (x1 + 0)) ∧ (inI (x3 + 1) ∧ X21 (x1 + 0) x2 (x3 + 1) s10))))))))))))))
def B_free_E (X9 : Int → Int → MS → Prop) (X21 : Int → Int → Int → MS → Prop) (K : Int → MS → Prop)  (s0 : MS) : Prop :=
  (∀ s1 : MS, s1 = ms s0 0 0 → X9 0 0 s1)
def W_free_9 (d : Nat) (g : AH) (K : Int → MS → Prop) (x1 : Int) (x2 : Int) (s0 : MS) : Prop := EW mm_free (d + 4) 0 0 (mQi g K) 9 [(0, aR (some mT)), (1, aI x1), (2, aI x2)] [] (mh s0 g)
def W_free_21 (d : Nat) (g : AH) (K : Int → MS → Prop) (x1 : Int) (x2 : Int) (x3 : Int) (s0 : MS) : Prop := EW mm_free (d + 4) 0 0 (mQi g K) 21 [(0, aR (some mT)), (1, aI x1), (2, aI x2), (3, aI x3)] [] (mh s0 g)
set_option maxHeartbeats 4000000 in
theorem T_free_9 (d : Nat) (g : AH) (K : Int → MS → Prop) (x1 : Int) (x2 : Int) (s0 : MS) (H : B_free_9 (W_free_9 d g K) (W_free_21 d g K) K x1 x2 s0) : EW mm_free (d + 4) 0 0 (mQi g K) 9 [(0, aR (some mT)), (1, aI x1), (2, aI x2)] [] (mh s0 g) := by
  refine ew_iload_n dX7_free_9 rfl lm2 ?_
  refine ew_aload_n dX7_free_10 rfl lm0 ?_
  refine mw_gI dX7_free_11 (e_fl.a q1433) mf_27 rfl ?_
  refine ew_icmp_ge (tgt := 83) dX7_free_14 (by decide) (fun c1 => ?_) (fun c1 => ?_)
  · replace H := H.1 c1
    refine ew_iload_n dX7_free_83 rfl lm1 ?_
    exact ew_ret (o := some (aI x1)) rfl ⟨_, _, rfl, rfl, H⟩ ⟨dX7_free_84, .int, rfl, Or.inl rfl, rfl⟩
  · replace H := H.2 c1
    refine ew_iload_n dX7_free_17 rfl lm2 ?_
    refine ew_iconst dX7_free_18 (inI_of rfl) ?_
    obtain ⟨v2, H⟩ := H
    refine ew_iadd dX7_free_19 v2 ?_
    refine ew_istore_n dX7_free_20 rfl (by decide) (lv' := [(3, aI (x2 + 1)), (0, aR (some mT)), (1, aI x1), (2, aI x2)]) rfl ?_
    refine ew_sub (List.forall_mem_cons.mpr ⟨lm1, (List.forall_mem_cons.mpr ⟨lm2, (List.forall_mem_cons.mpr ⟨lm3, (List.forall_mem_cons.mpr ⟨lm0, e_nm⟩)⟩)⟩)⟩) ?_
    exact ew_sub (List.forall_mem_cons.mpr ⟨lm0, (List.forall_mem_cons.mpr ⟨lm1, (List.forall_mem_cons.mpr ⟨lm2, (List.forall_mem_cons.mpr ⟨lm3, e_nm⟩)⟩)⟩)⟩) H
set_option maxHeartbeats 4000000 in
theorem T_free_21 (d : Nat) (g : AH) (K : Int → MS → Prop) (x1 : Int) (x2 : Int) (x3 : Int) (s0 : MS) (H : B_free_21 (W_free_9 d g K) (W_free_21 d g K) K x1 x2 x3 s0) : EW mm_free (d + 4) 0 0 (mQi g K) 21 [(0, aR (some mT)), (1, aI x1), (2, aI x2), (3, aI x3)] [] (mh s0 g) := by
  refine ew_iload_n dX7_free_21 rfl lm3 ?_
  refine ew_aload_n dX7_free_22 rfl lm0 ?_
  refine mw_gI dX7_free_23 (e_fl.a q1433) mf_27 rfl ?_
  refine ew_icmp_ge (tgt := 77) dX7_free_26 (by decide) (fun c1 => ?_) (fun c1 => ?_)
  · replace H := H.1 c1
    obtain ⟨v2, H⟩ := H
    refine ew_iinc dX7_free_77 lm2 (by decide) v2 (lv' := [(2, aI (x2 + 1)), (0, aR (some mT)), (1, aI x1), (3, aI x3)]) rfl ?_
    refine ew_sub (List.forall_mem_cons.mpr ⟨lm1, (List.forall_mem_cons.mpr ⟨lm2, (List.forall_mem_cons.mpr ⟨lm0, (List.forall_mem_cons.mpr ⟨lm3, e_nm⟩)⟩)⟩)⟩) ?_
    refine ew_goto (tgt := 9) dX7_free_80 (by decide) ?_
    exact ew_sub (List.forall_mem_cons.mpr ⟨lm0, (List.forall_mem_cons.mpr ⟨lm1, (List.forall_mem_cons.mpr ⟨lm2, e_nm⟩)⟩)⟩) H
  · replace H := H.2 c1
    refine ew_aload_n dX7_free_29 rfl lm0 ?_
    refine mw_gA dX7_free_30 (e_fl.a q1442) mf_36 rfl ?_
    refine ew_iload_n dX7_free_33 rfl lm2 ?_
    obtain ⟨v3, H⟩ := H
    refine mw_iald dX7_free_34 rfl v3.1 v3.2 ?_
    refine ew_aload_n dX7_free_35 rfl lm0 ?_
    refine mw_gA dX7_free_36 (e_fl.a q1442) mf_36 rfl ?_
    refine ew_iload_n dX7_free_39 rfl lm3 ?_
    obtain ⟨v4, H⟩ := H
    refine mw_iald dX7_free_40 rfl v4.1 v4.2 ?_
    refine ew_icmp_eq (tgt := 71) dX7_free_41 (by decide) (fun c5 => ?_) (fun c5 => ?_)
    · replace H := H.1 c5
      obtain ⟨v6, H⟩ := H
      refine ew_iinc dX7_free_71 lm3 (by decide) v6 (lv' := [(3, aI (x3 + 1)), (0, aR (some mT)), (1, aI x1), (2, aI x2)]) rfl ?_
      refine ew_sub (List.forall_mem_cons.mpr ⟨lm1, (List.forall_mem_cons.mpr ⟨lm2, (List.forall_mem_cons.mpr ⟨lm3, (List.forall_mem_cons.mpr ⟨lm0, e_nm⟩)⟩)⟩)⟩) ?_
      refine ew_goto (tgt := 21) dX7_free_74 (by decide) ?_
      exact ew_sub (List.forall_mem_cons.mpr ⟨lm0, (List.forall_mem_cons.mpr ⟨lm1, (List.forall_mem_cons.mpr ⟨lm2, (List.forall_mem_cons.mpr ⟨lm3, e_nm⟩)⟩)⟩)⟩) H
    · replace H := H.2 c5
      refine ew_aload_n dX7_free_44 rfl lm0 ?_
      refine ew_iload_n dX7_free_45 rfl lm2 ?_
      refine ew_iload_n dX7_free_46 rfl lm3 ?_
      refine ew_callV (d := d + 3) (as := [aI x2, aI x3]) rfl dX7_free_47 me_closesWith rfl (ci := 1) rfl rfl (mh_o _ _) (Or.inl q1898) q1900 qs101 (Nat.le_of_ble_eq_true rfl) (Nat.le_refl 0) (Nat.le_refl 0) (S_closesWith (d := d + 0) H) (fun o h' hq8 _ => ?_) (fun E i h' q _ => (mQ_no q).elim)
      obtain ⟨s7, E9, rfl, H⟩ := hq8
      cases E9
      refine ew_iload_n dX7_free_50 rfl lm1 ?_
      refine ew_aload_n dX7_free_51 rfl lm0 ?_
      refine ew_aload_n dX7_free_52 rfl lm0 ?_
      refine mw_gA dX7_free_53 (e_fl.a q1450) mf_44 rfl ?_
      refine ew_callV (d := d + 3) (as := [aR (some (0, 1, 44))]) rfl dX7_free_56 me_clashIn rfl (ci := 1) rfl rfl (mh_o _ _) (Or.inl q1739) q1741 qs87 (Nat.le_of_ble_eq_true rfl) (Nat.le_refl 0) (Nat.le_refl 0) (S_clashIn (d := d + 3) H) (fun o h' hq11 _ => ?_) (fun E i h' q _ => (mQi_no q).elim)
      obtain ⟨r13, s10, E12, rfl, H⟩ := hq11
      cases E12
      refine ew_bipush dX7_free_59 (inI_of rfl) (by decide) ?_
      refine ew_icmp_ne (tgt := 68) dX7_free_61 (by decide) (fun c14 => ?_) (fun c14 => ?_)
      · replace H := H.2 c14
        refine ew_iconst dX7_free_68 (inI_of rfl) ?_
        obtain ⟨v15, H⟩ := H
        refine ew_iadd dX7_free_69 v15 ?_
        refine ew_istore_n dX7_free_70 rfl (by decide) (lv' := [(1, aI (x1 + 0)), (0, aR (some mT)), (2, aI x2), (3, aI x3)]) rfl ?_
        refine ew_sub (List.forall_mem_cons.mpr ⟨lm1, (List.forall_mem_cons.mpr ⟨lm0, (List.forall_mem_cons.mpr ⟨lm2, (List.forall_mem_cons.mpr ⟨lm3, e_nm⟩)⟩)⟩)⟩) ?_
        obtain ⟨v16, H⟩ := H
        refine ew_iinc dX7_free_71 lm3 (by decide) v16 (lv' := [(3, aI (x3 + 1)), (0, aR (some mT)), (1, aI (x1 + 0)), (2, aI x2)]) rfl ?_
        refine ew_sub (List.forall_mem_cons.mpr ⟨lm1, (List.forall_mem_cons.mpr ⟨lm2, (List.forall_mem_cons.mpr ⟨lm3, (List.forall_mem_cons.mpr ⟨lm0, e_nm⟩)⟩)⟩)⟩) ?_
        refine ew_goto (tgt := 21) dX7_free_74 (by decide) ?_
        exact ew_sub (List.forall_mem_cons.mpr ⟨lm0, (List.forall_mem_cons.mpr ⟨lm1, (List.forall_mem_cons.mpr ⟨lm2, (List.forall_mem_cons.mpr ⟨lm3, e_nm⟩)⟩)⟩)⟩) H
      · replace H := H.1 c14
        refine ew_iconst dX7_free_64 (inI_of rfl) ?_
        refine ew_goto (tgt := 69) dX7_free_65 (by decide) ?_
        obtain ⟨v17, H⟩ := H
        refine ew_iadd dX7_free_69 v17 ?_
        refine ew_istore_n dX7_free_70 rfl (by decide) (lv' := [(1, aI (x1 + 1)), (0, aR (some mT)), (2, aI x2), (3, aI x3)]) rfl ?_
        refine ew_sub (List.forall_mem_cons.mpr ⟨lm1, (List.forall_mem_cons.mpr ⟨lm0, (List.forall_mem_cons.mpr ⟨lm2, (List.forall_mem_cons.mpr ⟨lm3, e_nm⟩)⟩)⟩)⟩) ?_
        obtain ⟨v18, H⟩ := H
        refine ew_iinc dX7_free_71 lm3 (by decide) v18 (lv' := [(3, aI (x3 + 1)), (0, aR (some mT)), (1, aI (x1 + 1)), (2, aI x2)]) rfl ?_
        refine ew_sub (List.forall_mem_cons.mpr ⟨lm1, (List.forall_mem_cons.mpr ⟨lm2, (List.forall_mem_cons.mpr ⟨lm3, (List.forall_mem_cons.mpr ⟨lm0, e_nm⟩)⟩)⟩)⟩) ?_
        refine ew_goto (tgt := 21) dX7_free_74 (by decide) ?_
        exact ew_sub (List.forall_mem_cons.mpr ⟨lm0, (List.forall_mem_cons.mpr ⟨lm1, (List.forall_mem_cons.mpr ⟨lm2, (List.forall_mem_cons.mpr ⟨lm3, e_nm⟩)⟩)⟩)⟩) H
set_option maxHeartbeats 4000000 in
theorem T_free_E (d : Nat) (g : AH) (K : Int → MS → Prop)  (s0 : MS) (H : B_free_E (W_free_9 d g K) (W_free_21 d g K) K  s0) : EW mm_free (d + 4) 0 0 (mQi g K) 0 [(0, aR (some mT))] [] (mh s0 g) := by
  refine ew_aload_n dX7_free_0 rfl lm0 ?_
  refine ew_iconst dX7_free_1 (inI_of rfl) ?_
  refine mw_pI dX7_free_2 (e_fl.a q1406) mf_0 (Or.inl rfl) (ty := .int) (by decide +kernel) trivial (fun s1 e2 => ?_)
  replace H := H s1 e2
  refine ew_iconst dX7_free_5 (inI_of rfl) ?_
  refine ew_istore_n dX7_free_6 rfl (by decide) (lv' := [(1, aI 0), (0, aR (some mT))]) rfl ?_
  refine ew_sub (List.forall_mem_cons.mpr ⟨lm1, (List.forall_mem_cons.mpr ⟨lm0, e_nm⟩)⟩) ?_
  refine ew_iconst dX7_free_7 (inI_of rfl) ?_
  refine ew_istore_n dX7_free_8 rfl (by decide) (lv' := [(2, aI 0), (0, aR (some mT)), (1, aI 0)]) rfl ?_
  refine ew_sub (List.forall_mem_cons.mpr ⟨lm1, (List.forall_mem_cons.mpr ⟨lm2, (List.forall_mem_cons.mpr ⟨lm0, e_nm⟩)⟩)⟩) ?_
  exact ew_sub (List.forall_mem_cons.mpr ⟨lm0, (List.forall_mem_cons.mpr ⟨lm1, (List.forall_mem_cons.mpr ⟨lm2, e_nm⟩)⟩)⟩) H
def C_free  (s0 : MS) (K : Int → MS → Prop) : Prop := ∀ (X9 : Int → Int → MS → Prop) (X21 : Int → Int → Int → MS → Prop), (∀ (x1 : Int) (x2 : Int) (s0 : MS), B_free_9 X9 X21 K x1 x2 s0 → X9 x1 x2 s0) → (∀ (x1 : Int) (x2 : Int) (x3 : Int) (s0 : MS), B_free_21 X9 X21 K x1 x2 x3 s0 → X21 x1 x2 x3 s0) → B_free_E X9 X21 K  s0
theorem S_free {d : Nat} {g : AH} {K : Int → MS → Prop}  {s0 : MS} (H : C_free  s0 K) : Sp mm_free (d + 4) 0 0 [aR (some mT)] (mh s0 g) (mQi g K) :=
  ew_sp rfl (Nat.le_of_ble_eq_true rfl) (T_free_E d g K  s0 (H _ _ (fun x1 x2 s0 H => T_free_9 d g K x1 x2 s0 H) (fun x1 x2 x3 s0 H => T_free_21 d g K x1 x2 x3 s0 H)))
abbrev mm_whyNotTwo : EM := (yX7_whyNotTwo, cX7_whyNotTwo, 4, some .int, [])
theorem me_whyNotTwo : e_mth mm_whyNotTwo 3 := ⟨rfl, q1933, q117, by decide +kernel, by decide⟩
def B_whyNotTwo_E  (K : Int → MS → Prop) (a : Int) (b : Int) (c : Int) (s0 : MS) : Prop :=
  (C_isTerm a s0 (fun r4 s1 => ((r4 = 0 → K 1 s1) ∧ (¬ r4 = 0 → (C_isTerm b s1 (fun r9 s6 => ((r9 = 0 → K 1 s6) ∧ (¬ r9 = 0 → ((c = 0 → K 0 s6) ∧ (¬ c = 0 → K 3 s6))))))))))
set_option maxHeartbeats 4000000 in
theorem T_whyNotTwo_E (d : Nat) (g : AH) (K : Int → MS → Prop) (a : Int) (b : Int) (c : Int) (s0 : MS) (H : B_whyNotTwo_E  K a b c s0) : EW mm_whyNotTwo (d + 2) 0 0 (mQi g K) 0 [(0, aR (some mT)), (1, aI a), (2, aI b), (3, aI c)] [] (mh s0 g) := by
  refine ew_aload_n dX7_whyNotTwo_0 rfl lm0 ?_
  refine ew_iload_n dX7_whyNotTwo_1 rfl lm1 ?_
  refine ew_callV (d := d + 1) (as := [aI a]) rfl dX7_whyNotTwo_2 me_isTerm rfl (ci := 1) rfl rfl (mh_o _ _) (Or.inl q1751) q1753 qs88 (Nat.le_of_ble_eq_true rfl) (Nat.le_refl 0) (Nat.le_refl 0) (S_isTerm (d := d + 0) H) (fun o h' hq2 _ => ?_) (fun E i h' q _ => (mQi_no q).elim)
  obtain ⟨r4, s1, E3, rfl, H⟩ := hq2
  cases E3
  refine ew_if_eq (tgt := 16) dX7_whyNotTwo_5 (by decide) (fun c5 => ?_) (fun c5 => ?_)
  · replace H := H.1 c5
    refine ew_iconst dX7_whyNotTwo_16 (inI_of rfl) ?_
    refine ew_goto (tgt := 29) dX7_whyNotTwo_17 (by decide) ?_
    exact ew_ret (o := some (aI 1)) rfl ⟨_, _, rfl, rfl, H⟩ ⟨dX7_whyNotTwo_29, .int, rfl, Or.inl rfl, rfl⟩
  · replace H := H.2 c5
    refine ew_aload_n dX7_whyNotTwo_8 rfl lm0 ?_
    refine ew_iload_n dX7_whyNotTwo_9 rfl lm2 ?_
    refine ew_callV (d := d + 1) (as := [aI b]) rfl dX7_whyNotTwo_10 me_isTerm rfl (ci := 1) rfl rfl (mh_o _ _) (Or.inl q1751) q1753 qs88 (Nat.le_of_ble_eq_true rfl) (Nat.le_refl 0) (Nat.le_refl 0) (S_isTerm (d := d + 0) H) (fun o h' hq7 _ => ?_) (fun E i h' q _ => (mQi_no q).elim)
    obtain ⟨r9, s6, E8, rfl, H⟩ := hq7
    cases E8
    refine ew_if_ne (tgt := 20) dX7_whyNotTwo_13 (by decide) (fun c10 => ?_) (fun c10 => ?_)
    · replace H := H.2 c10
      refine ew_iload_n dX7_whyNotTwo_20 rfl lm3 ?_
      refine ew_if_eq (tgt := 28) dX7_whyNotTwo_21 (by decide) (fun c11 => ?_) (fun c11 => ?_)
      · replace H := H.1 c11
        refine ew_iconst dX7_whyNotTwo_28 (inI_of rfl) ?_
        exact ew_ret (o := some (aI 0)) rfl ⟨_, _, rfl, rfl, H⟩ ⟨dX7_whyNotTwo_29, .int, rfl, Or.inl rfl, rfl⟩
      · replace H := H.2 c11
        refine ew_iconst dX7_whyNotTwo_24 (inI_of rfl) ?_
        refine ew_goto (tgt := 29) dX7_whyNotTwo_25 (by decide) ?_
        exact ew_ret (o := some (aI 3)) rfl ⟨_, _, rfl, rfl, H⟩ ⟨dX7_whyNotTwo_29, .int, rfl, Or.inl rfl, rfl⟩
    · replace H := H.1 c10
      refine ew_iconst dX7_whyNotTwo_16 (inI_of rfl) ?_
      refine ew_goto (tgt := 29) dX7_whyNotTwo_17 (by decide) ?_
      exact ew_ret (o := some (aI 1)) rfl ⟨_, _, rfl, rfl, H⟩ ⟨dX7_whyNotTwo_29, .int, rfl, Or.inl rfl, rfl⟩
def C_whyNotTwo (a : Int) (b : Int) (c : Int) (s0 : MS) (K : Int → MS → Prop) : Prop := B_whyNotTwo_E  K a b c s0
theorem S_whyNotTwo {d : Nat} {g : AH} {K : Int → MS → Prop} {a : Int} {b : Int} {c : Int} {s0 : MS} (H : C_whyNotTwo a b c s0 K) : Sp mm_whyNotTwo (d + 2) 0 0 [aR (some mT), aI a, aI b, aI c] (mh s0 g) (mQi g K) :=
  ew_sp rfl (Nat.le_of_ble_eq_true rfl) (T_whyNotTwo_E d g K a b c s0 (H  ))
abbrev mm_acts : EM := (yX7_acts, cX7_acts, 6, none, [])
theorem me_acts : e_mth mm_acts 5 := ⟨rfl, q1937, q117, by decide +kernel, by decide⟩
def B_acts_E  (K : MS → Prop) (a : Int) (b : Int) (c : Int) (e : Int) (f : Int) (s0 : MS) : Prop :=
  ((0 ≤ (s0.1 8) ∧ (s0.1 8) < 96) ∧ ∀ s1 : MS, s1 = ma s0 10 (s0.1 8) a → ((inI (4 * (s1.1 8))) ∧ ((0 ≤ (4 * (s1.1 8)) ∧ (4 * (s1.1 8)) < 384) ∧ ∀ s5 : MS, s5 = ma s1 11 (4 * (s1.1 8)) b → ((inI (4 * (s5.1 8))) ∧ ((inI ((4 * (s5.1 8)) + 1)) ∧ ((0 ≤ ((4 * (s5.1 8)) + 1) ∧ ((4 * (s5.1 8)) + 1) < 384) ∧ ∀ s10 : MS, s10 = ma s5 11 ((4 * (s5.1 8)) + 1) c → ((inI (4 * (s10.1 8))) ∧ ((inI ((4 * (s10.1 8)) + 2)) ∧ ((0 ≤ ((4 * (s10.1 8)) + 2) ∧ ((4 * (s10.1 8)) + 2) < 384) ∧ ∀ s15 : MS, s15 = ma s10 11 ((4 * (s10.1 8)) + 2) e → ((inI (4 * (s15.1 8))) ∧ ((inI ((4 * (s15.1 8)) + 3)) ∧ ((0 ≤ ((4 * (s15.1 8)) + 3) ∧ ((4 * (s15.1 8)) + 3) < 384) ∧ ∀ s20 : MS, s20 = ma s15 11 ((4 * (s15.1 8)) + 3) f → (C_comes (s20.1 8) s20 (fun s23 => ((inI ((s23.1 8) + 1)) ∧ (∀ s27 : MS, s27 = ms s23 8 ((s23.1 8) + 1) → K s27))))))))))))))))
set_option maxHeartbeats 4000000 in
theorem T_acts_E (d : Nat) (g : AH) (K : MS → Prop) (a : Int) (b : Int) (c : Int) (e : Int) (f : Int) (s0 : MS) (H : B_acts_E  K a b c e f s0) : EW mm_acts (d + 7) 0 0 (mQ g K) 0 [(0, aR (some mT)), (1, aI a), (2, aI b), (3, aI c), (4, aI e), (5, aI f)] [] (mh s0 g) := by
  refine ew_aload_n dX7_acts_0 rfl lm0 ?_
  refine mw_gA dX7_acts_1 (e_fl.a q1416) mf_10 rfl ?_
  refine ew_aload_n dX7_acts_4 rfl lm0 ?_
  refine mw_gI dX7_acts_5 (e_fl.a q1414) mf_8 rfl ?_
  refine ew_iload_n dX7_acts_8 rfl lm1 ?_
  obtain ⟨v3, H⟩ := H
  refine mw_iast dX7_acts_9 rfl v3.1 v3.2 (fun s1 e2 => ?_)
  replace H := H s1 e2
  refine ew_aload_n dX7_acts_10 rfl lm0 ?_
  refine mw_gA dX7_acts_11 (e_fl.a q1417) mf_11 rfl ?_
  refine ew_iconst dX7_acts_14 (inI_of rfl) ?_
  refine ew_aload_n dX7_acts_15 rfl lm0 ?_
  refine mw_gI dX7_acts_16 (e_fl.a q1414) mf_8 rfl ?_
  obtain ⟨v4, H⟩ := H
  refine ew_imul dX7_acts_19 v4 ?_
  refine ew_iload_n dX7_acts_20 rfl lm2 ?_
  obtain ⟨v7, H⟩ := H
  refine mw_iast dX7_acts_21 rfl v7.1 v7.2 (fun s5 e6 => ?_)
  replace H := H s5 e6
  refine ew_aload_n dX7_acts_22 rfl lm0 ?_
  refine mw_gA dX7_acts_23 (e_fl.a q1417) mf_11 rfl ?_
  refine ew_iconst dX7_acts_26 (inI_of rfl) ?_
  refine ew_aload_n dX7_acts_27 rfl lm0 ?_
  refine mw_gI dX7_acts_28 (e_fl.a q1414) mf_8 rfl ?_
  obtain ⟨v8, H⟩ := H
  refine ew_imul dX7_acts_31 v8 ?_
  refine ew_iconst dX7_acts_32 (inI_of rfl) ?_
  obtain ⟨v9, H⟩ := H
  refine ew_iadd dX7_acts_33 v9 ?_
  refine ew_iload_n dX7_acts_34 rfl lm3 ?_
  obtain ⟨v12, H⟩ := H
  refine mw_iast dX7_acts_35 rfl v12.1 v12.2 (fun s10 e11 => ?_)
  replace H := H s10 e11
  refine ew_aload_n dX7_acts_36 rfl lm0 ?_
  refine mw_gA dX7_acts_37 (e_fl.a q1417) mf_11 rfl ?_
  refine ew_iconst dX7_acts_40 (inI_of rfl) ?_
  refine ew_aload_n dX7_acts_41 rfl lm0 ?_
  refine mw_gI dX7_acts_42 (e_fl.a q1414) mf_8 rfl ?_
  obtain ⟨v13, H⟩ := H
  refine ew_imul dX7_acts_45 v13 ?_
  refine ew_iconst dX7_acts_46 (inI_of rfl) ?_
  obtain ⟨v14, H⟩ := H
  refine ew_iadd dX7_acts_47 v14 ?_
  refine ew_iload dX7_acts_48 lm4 ?_
  obtain ⟨v17, H⟩ := H
  refine mw_iast dX7_acts_50 rfl v17.1 v17.2 (fun s15 e16 => ?_)
  replace H := H s15 e16
  refine ew_aload_n dX7_acts_51 rfl lm0 ?_
  refine mw_gA dX7_acts_52 (e_fl.a q1417) mf_11 rfl ?_
  refine ew_iconst dX7_acts_55 (inI_of rfl) ?_
  refine ew_aload_n dX7_acts_56 rfl lm0 ?_
  refine mw_gI dX7_acts_57 (e_fl.a q1414) mf_8 rfl ?_
  obtain ⟨v18, H⟩ := H
  refine ew_imul dX7_acts_60 v18 ?_
  refine ew_iconst dX7_acts_61 (inI_of rfl) ?_
  obtain ⟨v19, H⟩ := H
  refine ew_iadd dX7_acts_62 v19 ?_
  refine ew_iload dX7_acts_63 lm5 ?_
  obtain ⟨v22, H⟩ := H
  refine mw_iast dX7_acts_65 rfl v22.1 v22.2 (fun s20 e21 => ?_)
  replace H := H s20 e21
  refine ew_aload_n dX7_acts_66 rfl lm0 ?_
  refine ew_aload_n dX7_acts_67 rfl lm0 ?_
  refine mw_gI dX7_acts_68 (e_fl.a q1414) mf_8 rfl ?_
  refine ew_callV (d := d + 6) (as := [aI (s20.1 8)]) rfl dX7_acts_71 me_comes rfl (ci := 1) rfl rfl (mh_o _ _) (Or.inl q1672) q1674 qs74 (Nat.le_of_ble_eq_true rfl) (Nat.le_refl 0) (Nat.le_refl 0) (S_comes (d := d + 0) H) (fun o h' hq24 _ => ?_) (fun E i h' q _ => (mQ_no q).elim)
  obtain ⟨s23, E25, rfl, H⟩ := hq24
  cases E25
  refine ew_aload_n dX7_acts_74 rfl lm0 ?_
  refine ew_dup dX7_acts_75 rfl ?_
  refine mw_gI dX7_acts_76 (e_fl.a q1414) mf_8 rfl ?_
  refine ew_iconst dX7_acts_79 (inI_of rfl) ?_
  obtain ⟨v26, H⟩ := H
  refine ew_iadd dX7_acts_80 v26 ?_
  refine mw_pI dX7_acts_81 (e_fl.a q1414) mf_8 (Or.inl rfl) (ty := .int) (by decide +kernel) trivial (fun s27 e28 => ?_)
  replace H := H s27 e28
  exact ew_ret (o := none) rfl ⟨_, rfl, rfl, H⟩ ⟨rfl, dX7_acts_84⟩
def C_acts (a : Int) (b : Int) (c : Int) (e : Int) (f : Int) (s0 : MS) (K : MS → Prop) : Prop := B_acts_E  K a b c e f s0
theorem S_acts {d : Nat} {g : AH} {K : MS → Prop} {a : Int} {b : Int} {c : Int} {e : Int} {f : Int} {s0 : MS} (H : C_acts a b c e f s0 K) : Sp mm_acts (d + 7) 0 0 [aR (some mT), aI a, aI b, aI c, aI e, aI f] (mh s0 g) (mQ g K) :=
  ew_sp rfl (Nat.le_of_ble_eq_true rfl) (T_acts_E d g K a b c e f s0 (H  ))
abbrev mm_join : EM := (yX7_join, cX7_join, 3, some .int, [])
theorem me_join : e_mth mm_join 2 := ⟨rfl, q1929, q117, by decide +kernel, by decide⟩
def B_join_E  (K : Int → MS → Prop) (a : Int) (b : Int) (s0 : MS) : Prop :=
  (((s0.1 30) = 12 → (C_whyNotTwo a b 1 s0 (fun r21 s18 => (C_isRefused r21 s18 (fun r25 s22 => ((r25 = 0 → (C_acts 1 a b 0 0 s22 (fun s27 => (C_groupsIn 36 s27 (fun r33 s30 => K r33 s30))))) ∧ (¬ r25 = 0 → K (-1) s22))))))) ∧ (¬ (s0.1 30) = 12 → (C_whyNotTwo a b 0 s0 (fun r5 s2 => (C_isRefused r5 s2 (fun r9 s6 => ((r9 = 0 → (C_acts 1 a b 0 0 s6 (fun s11 => (C_groupsIn 36 s11 (fun r17 s14 => K r17 s14))))) ∧ (¬ r9 = 0 → K (-1) s6))))))))
set_option maxHeartbeats 4000000 in
theorem T_join_E (d : Nat) (g : AH) (K : Int → MS → Prop) (a : Int) (b : Int) (s0 : MS) (H : B_join_E  K a b s0) : EW mm_join (d + 8) 0 0 (mQi g K) 0 [(0, aR (some mT)), (1, aI a), (2, aI b)] [] (mh s0 g) := by
  refine ew_aload_n dX7_join_0 rfl lm0 ?_
  refine ew_aload_n dX7_join_1 rfl lm0 ?_
  refine ew_iload_n dX7_join_2 rfl lm1 ?_
  refine ew_iload_n dX7_join_3 rfl lm2 ?_
  refine ew_aload_n dX7_join_4 rfl lm0 ?_
  refine mw_gI dX7_join_5 (e_fl.a q1436) mf_30 rfl ?_
  refine ew_bipush dX7_join_8 (inI_of rfl) (by decide) ?_
  refine ew_icmp_ne (tgt := 17) dX7_join_10 (by decide) (fun c1 => ?_) (fun c1 => ?_)
  · replace H := H.2 c1
    refine ew_iconst dX7_join_17 (inI_of rfl) ?_
    refine ew_callV (d := d + 7) (as := [aI a, aI b, aI 0]) rfl dX7_join_18 me_whyNotTwo rfl (ci := 1) rfl rfl (mh_o _ _) (Or.inl q1930) q1932 qs105 (Nat.le_of_ble_eq_true rfl) (Nat.le_refl 0) (Nat.le_refl 0) (S_whyNotTwo (d := d + 5) H) (fun o h' hq3 _ => ?_) (fun E i h' q _ => (mQi_no q).elim)
    obtain ⟨r5, s2, E4, rfl, H⟩ := hq3
    cases E4
    refine ew_callV (d := d + 7) (as := [aI r5]) rfl dX7_join_21 me_isRefused rfl (ci := 1) rfl rfl (mh_o _ _) (Or.inl q1594) q1596 qs56 (Nat.le_of_ble_eq_true rfl) (Nat.le_refl 0) (Nat.le_refl 0) (S_isRefused (d := d + 7) H) (fun o h' hq7 _ => ?_) (fun E i h' q _ => (mQi_no q).elim)
    obtain ⟨r9, s6, E8, rfl, H⟩ := hq7
    cases E8
    refine ew_if_eq (tgt := 29) dX7_join_24 (by decide) (fun c10 => ?_) (fun c10 => ?_)
    · replace H := H.1 c10
      refine ew_aload_n dX7_join_29 rfl lm0 ?_
      refine ew_iconst dX7_join_30 (inI_of rfl) ?_
      refine ew_iload_n dX7_join_31 rfl lm1 ?_
      refine ew_iload_n dX7_join_32 rfl lm2 ?_
      refine ew_iconst dX7_join_33 (inI_of rfl) ?_
      refine ew_iconst dX7_join_34 (inI_of rfl) ?_
      refine ew_callV (d := d + 7) (as := [aI 1, aI a, aI b, aI 0, aI 0]) rfl dX7_join_35 me_acts rfl (ci := 1) rfl rfl (mh_o _ _) (Or.inl q1934) q1936 qs106 (Nat.le_of_ble_eq_true rfl) (Nat.le_refl 0) (Nat.le_refl 0) (S_acts (d := d + 0) H) (fun o h' hq12 _ => ?_) (fun E i h' q _ => (mQ_no q).elim)
      obtain ⟨s11, E13, rfl, H⟩ := hq12
      cases E13
      refine ew_aload_n dX7_join_38 rfl lm0 ?_
      refine ew_aload_n dX7_join_39 rfl lm0 ?_
      refine mw_gA dX7_join_40 (e_fl.a q1442) mf_36 rfl ?_
      refine ew_callV (d := d + 7) (as := [aR (some (0, 1, 36))]) rfl dX7_join_43 me_groupsIn rfl (ci := 1) rfl rfl (mh_o _ _) (Or.inl q1735) q1737 qs86 (Nat.le_of_ble_eq_true rfl) (Nat.le_refl 0) (Nat.le_refl 0) (S_groupsIn (d := d + 7) H) (fun o h' hq15 _ => ?_) (fun E i h' q _ => (mQi_no q).elim)
      obtain ⟨r17, s14, E16, rfl, H⟩ := hq15
      cases E16
      exact ew_ret (o := some (aI r17)) rfl ⟨_, _, rfl, rfl, H⟩ ⟨dX7_join_46, .int, rfl, Or.inl rfl, rfl⟩
    · replace H := H.2 c10
      refine ew_iconst dX7_join_27 (inI_of rfl) ?_
      exact ew_ret (o := some (aI (-1))) rfl ⟨_, _, rfl, rfl, H⟩ ⟨dX7_join_28, .int, rfl, Or.inl rfl, rfl⟩
  · replace H := H.1 c1
    refine ew_iconst dX7_join_13 (inI_of rfl) ?_
    refine ew_goto (tgt := 18) dX7_join_14 (by decide) ?_
    refine ew_callV (d := d + 7) (as := [aI a, aI b, aI 1]) rfl dX7_join_18 me_whyNotTwo rfl (ci := 1) rfl rfl (mh_o _ _) (Or.inl q1930) q1932 qs105 (Nat.le_of_ble_eq_true rfl) (Nat.le_refl 0) (Nat.le_refl 0) (S_whyNotTwo (d := d + 5) H) (fun o h' hq19 _ => ?_) (fun E i h' q _ => (mQi_no q).elim)
    obtain ⟨r21, s18, E20, rfl, H⟩ := hq19
    cases E20
    refine ew_callV (d := d + 7) (as := [aI r21]) rfl dX7_join_21 me_isRefused rfl (ci := 1) rfl rfl (mh_o _ _) (Or.inl q1594) q1596 qs56 (Nat.le_of_ble_eq_true rfl) (Nat.le_refl 0) (Nat.le_refl 0) (S_isRefused (d := d + 7) H) (fun o h' hq23 _ => ?_) (fun E i h' q _ => (mQi_no q).elim)
    obtain ⟨r25, s22, E24, rfl, H⟩ := hq23
    cases E24
    refine ew_if_eq (tgt := 29) dX7_join_24 (by decide) (fun c26 => ?_) (fun c26 => ?_)
    · replace H := H.1 c26
      refine ew_aload_n dX7_join_29 rfl lm0 ?_
      refine ew_iconst dX7_join_30 (inI_of rfl) ?_
      refine ew_iload_n dX7_join_31 rfl lm1 ?_
      refine ew_iload_n dX7_join_32 rfl lm2 ?_
      refine ew_iconst dX7_join_33 (inI_of rfl) ?_
      refine ew_iconst dX7_join_34 (inI_of rfl) ?_
      refine ew_callV (d := d + 7) (as := [aI 1, aI a, aI b, aI 0, aI 0]) rfl dX7_join_35 me_acts rfl (ci := 1) rfl rfl (mh_o _ _) (Or.inl q1934) q1936 qs106 (Nat.le_of_ble_eq_true rfl) (Nat.le_refl 0) (Nat.le_refl 0) (S_acts (d := d + 0) H) (fun o h' hq28 _ => ?_) (fun E i h' q _ => (mQ_no q).elim)
      obtain ⟨s27, E29, rfl, H⟩ := hq28
      cases E29
      refine ew_aload_n dX7_join_38 rfl lm0 ?_
      refine ew_aload_n dX7_join_39 rfl lm0 ?_
      refine mw_gA dX7_join_40 (e_fl.a q1442) mf_36 rfl ?_
      refine ew_callV (d := d + 7) (as := [aR (some (0, 1, 36))]) rfl dX7_join_43 me_groupsIn rfl (ci := 1) rfl rfl (mh_o _ _) (Or.inl q1735) q1737 qs86 (Nat.le_of_ble_eq_true rfl) (Nat.le_refl 0) (Nat.le_refl 0) (S_groupsIn (d := d + 7) H) (fun o h' hq31 _ => ?_) (fun E i h' q _ => (mQi_no q).elim)
      obtain ⟨r33, s30, E32, rfl, H⟩ := hq31
      cases E32
      exact ew_ret (o := some (aI r33)) rfl ⟨_, _, rfl, rfl, H⟩ ⟨dX7_join_46, .int, rfl, Or.inl rfl, rfl⟩
    · replace H := H.2 c26
      refine ew_iconst dX7_join_27 (inI_of rfl) ?_
      exact ew_ret (o := some (aI (-1))) rfl ⟨_, _, rfl, rfl, H⟩ ⟨dX7_join_28, .int, rfl, Or.inl rfl, rfl⟩
def C_join (a : Int) (b : Int) (s0 : MS) (K : Int → MS → Prop) : Prop := B_join_E  K a b s0
theorem S_join {d : Nat} {g : AH} {K : Int → MS → Prop} {a : Int} {b : Int} {s0 : MS} (H : C_join a b s0 K) : Sp mm_join (d + 8) 0 0 [aR (some mT), aI a, aI b] (mh s0 g) (mQi g K) :=
  ew_sp rfl (Nat.le_of_ble_eq_true rfl) (T_join_E d g K a b s0 (H  ))
abbrev mm_part : EM := (yX7_part, cX7_part, 3, some .int, [])
theorem me_part : e_mth mm_part 2 := ⟨rfl, q1941, q117, by decide +kernel, by decide⟩
def B_part_E  (K : Int → MS → Prop) (a : Int) (b : Int) (s0 : MS) : Prop :=
  (((s0.1 33) = 8 → (C_whyNotTwo a b 1 s0 (fun r20 s17 => (C_isRefused r20 s17 (fun r24 s21 => ((r24 = 0 → (C_acts 2 a b 0 0 s21 (fun s26 => ((0 ≤ a ∧ a < 24) ∧ ((0 ≤ b ∧ b < 24) ∧ (((s26.2 36 a) = (s26.2 36 b) → K 1 s26) ∧ (¬ (s26.2 36 a) = (s26.2 36 b) → K 0 s26))))))) ∧ (¬ r24 = 0 → K (-1) s21))))))) ∧ (¬ (s0.1 33) = 8 → (C_whyNotTwo a b 0 s0 (fun r5 s2 => (C_isRefused r5 s2 (fun r9 s6 => ((r9 = 0 → (C_acts 2 a b 0 0 s6 (fun s11 => ((0 ≤ a ∧ a < 24) ∧ ((0 ≤ b ∧ b < 24) ∧ (((s11.2 36 a) = (s11.2 36 b) → K 1 s11) ∧ (¬ (s11.2 36 a) = (s11.2 36 b) → K 0 s11))))))) ∧ (¬ r9 = 0 → K (-1) s6))))))))
set_option maxHeartbeats 4000000 in
theorem T_part_E (d : Nat) (g : AH) (K : Int → MS → Prop) (a : Int) (b : Int) (s0 : MS) (H : B_part_E  K a b s0) : EW mm_part (d + 8) 0 0 (mQi g K) 0 [(0, aR (some mT)), (1, aI a), (2, aI b)] [] (mh s0 g) := by
  refine ew_aload_n dX7_part_0 rfl lm0 ?_
  refine ew_aload_n dX7_part_1 rfl lm0 ?_
  refine ew_iload_n dX7_part_2 rfl lm1 ?_
  refine ew_iload_n dX7_part_3 rfl lm2 ?_
  refine ew_aload_n dX7_part_4 rfl lm0 ?_
  refine mw_gI dX7_part_5 (e_fl.a q1439) mf_33 rfl ?_
  refine ew_bipush dX7_part_8 (inI_of rfl) (by decide) ?_
  refine ew_icmp_ne (tgt := 17) dX7_part_10 (by decide) (fun c1 => ?_) (fun c1 => ?_)
  · replace H := H.2 c1
    refine ew_iconst dX7_part_17 (inI_of rfl) ?_
    refine ew_callV (d := d + 7) (as := [aI a, aI b, aI 0]) rfl dX7_part_18 me_whyNotTwo rfl (ci := 1) rfl rfl (mh_o _ _) (Or.inl q1930) q1932 qs105 (Nat.le_of_ble_eq_true rfl) (Nat.le_refl 0) (Nat.le_refl 0) (S_whyNotTwo (d := d + 5) H) (fun o h' hq3 _ => ?_) (fun E i h' q _ => (mQi_no q).elim)
    obtain ⟨r5, s2, E4, rfl, H⟩ := hq3
    cases E4
    refine ew_callV (d := d + 7) (as := [aI r5]) rfl dX7_part_21 me_isRefused rfl (ci := 1) rfl rfl (mh_o _ _) (Or.inl q1594) q1596 qs56 (Nat.le_of_ble_eq_true rfl) (Nat.le_refl 0) (Nat.le_refl 0) (S_isRefused (d := d + 7) H) (fun o h' hq7 _ => ?_) (fun E i h' q _ => (mQi_no q).elim)
    obtain ⟨r9, s6, E8, rfl, H⟩ := hq7
    cases E8
    refine ew_if_eq (tgt := 29) dX7_part_24 (by decide) (fun c10 => ?_) (fun c10 => ?_)
    · replace H := H.1 c10
      refine ew_aload_n dX7_part_29 rfl lm0 ?_
      refine ew_iconst dX7_part_30 (inI_of rfl) ?_
      refine ew_iload_n dX7_part_31 rfl lm1 ?_
      refine ew_iload_n dX7_part_32 rfl lm2 ?_
      refine ew_iconst dX7_part_33 (inI_of rfl) ?_
      refine ew_iconst dX7_part_34 (inI_of rfl) ?_
      refine ew_callV (d := d + 7) (as := [aI 2, aI a, aI b, aI 0, aI 0]) rfl dX7_part_35 me_acts rfl (ci := 1) rfl rfl (mh_o _ _) (Or.inl q1934) q1936 qs106 (Nat.le_of_ble_eq_true rfl) (Nat.le_refl 0) (Nat.le_refl 0) (S_acts (d := d + 0) H) (fun o h' hq12 _ => ?_) (fun E i h' q _ => (mQ_no q).elim)
      obtain ⟨s11, E13, rfl, H⟩ := hq12
      cases E13
      refine ew_aload_n dX7_part_38 rfl lm0 ?_
      refine mw_gA dX7_part_39 (e_fl.a q1442) mf_36 rfl ?_
      refine ew_iload_n dX7_part_42 rfl lm1 ?_
      obtain ⟨v14, H⟩ := H
      refine mw_iald dX7_part_43 rfl v14.1 v14.2 ?_
      refine ew_aload_n dX7_part_44 rfl lm0 ?_
      refine mw_gA dX7_part_45 (e_fl.a q1442) mf_36 rfl ?_
      refine ew_iload_n dX7_part_48 rfl lm2 ?_
      obtain ⟨v15, H⟩ := H
      refine mw_iald dX7_part_49 rfl v15.1 v15.2 ?_
      refine ew_icmp_ne (tgt := 57) dX7_part_50 (by decide) (fun c16 => ?_) (fun c16 => ?_)
      · replace H := H.2 c16
        refine ew_iconst dX7_part_57 (inI_of rfl) ?_
        exact ew_ret (o := some (aI 0)) rfl ⟨_, _, rfl, rfl, H⟩ ⟨dX7_part_58, .int, rfl, Or.inl rfl, rfl⟩
      · replace H := H.1 c16
        refine ew_iconst dX7_part_53 (inI_of rfl) ?_
        refine ew_goto (tgt := 58) dX7_part_54 (by decide) ?_
        exact ew_ret (o := some (aI 1)) rfl ⟨_, _, rfl, rfl, H⟩ ⟨dX7_part_58, .int, rfl, Or.inl rfl, rfl⟩
    · replace H := H.2 c10
      refine ew_iconst dX7_part_27 (inI_of rfl) ?_
      exact ew_ret (o := some (aI (-1))) rfl ⟨_, _, rfl, rfl, H⟩ ⟨dX7_part_28, .int, rfl, Or.inl rfl, rfl⟩
  · replace H := H.1 c1
    refine ew_iconst dX7_part_13 (inI_of rfl) ?_
    refine ew_goto (tgt := 18) dX7_part_14 (by decide) ?_
    refine ew_callV (d := d + 7) (as := [aI a, aI b, aI 1]) rfl dX7_part_18 me_whyNotTwo rfl (ci := 1) rfl rfl (mh_o _ _) (Or.inl q1930) q1932 qs105 (Nat.le_of_ble_eq_true rfl) (Nat.le_refl 0) (Nat.le_refl 0) (S_whyNotTwo (d := d + 5) H) (fun o h' hq18 _ => ?_) (fun E i h' q _ => (mQi_no q).elim)
    obtain ⟨r20, s17, E19, rfl, H⟩ := hq18
    cases E19
    refine ew_callV (d := d + 7) (as := [aI r20]) rfl dX7_part_21 me_isRefused rfl (ci := 1) rfl rfl (mh_o _ _) (Or.inl q1594) q1596 qs56 (Nat.le_of_ble_eq_true rfl) (Nat.le_refl 0) (Nat.le_refl 0) (S_isRefused (d := d + 7) H) (fun o h' hq22 _ => ?_) (fun E i h' q _ => (mQi_no q).elim)
    obtain ⟨r24, s21, E23, rfl, H⟩ := hq22
    cases E23
    refine ew_if_eq (tgt := 29) dX7_part_24 (by decide) (fun c25 => ?_) (fun c25 => ?_)
    · replace H := H.1 c25
      refine ew_aload_n dX7_part_29 rfl lm0 ?_
      refine ew_iconst dX7_part_30 (inI_of rfl) ?_
      refine ew_iload_n dX7_part_31 rfl lm1 ?_
      refine ew_iload_n dX7_part_32 rfl lm2 ?_
      refine ew_iconst dX7_part_33 (inI_of rfl) ?_
      refine ew_iconst dX7_part_34 (inI_of rfl) ?_
      refine ew_callV (d := d + 7) (as := [aI 2, aI a, aI b, aI 0, aI 0]) rfl dX7_part_35 me_acts rfl (ci := 1) rfl rfl (mh_o _ _) (Or.inl q1934) q1936 qs106 (Nat.le_of_ble_eq_true rfl) (Nat.le_refl 0) (Nat.le_refl 0) (S_acts (d := d + 0) H) (fun o h' hq27 _ => ?_) (fun E i h' q _ => (mQ_no q).elim)
      obtain ⟨s26, E28, rfl, H⟩ := hq27
      cases E28
      refine ew_aload_n dX7_part_38 rfl lm0 ?_
      refine mw_gA dX7_part_39 (e_fl.a q1442) mf_36 rfl ?_
      refine ew_iload_n dX7_part_42 rfl lm1 ?_
      obtain ⟨v29, H⟩ := H
      refine mw_iald dX7_part_43 rfl v29.1 v29.2 ?_
      refine ew_aload_n dX7_part_44 rfl lm0 ?_
      refine mw_gA dX7_part_45 (e_fl.a q1442) mf_36 rfl ?_
      refine ew_iload_n dX7_part_48 rfl lm2 ?_
      obtain ⟨v30, H⟩ := H
      refine mw_iald dX7_part_49 rfl v30.1 v30.2 ?_
      refine ew_icmp_ne (tgt := 57) dX7_part_50 (by decide) (fun c31 => ?_) (fun c31 => ?_)
      · replace H := H.2 c31
        refine ew_iconst dX7_part_57 (inI_of rfl) ?_
        exact ew_ret (o := some (aI 0)) rfl ⟨_, _, rfl, rfl, H⟩ ⟨dX7_part_58, .int, rfl, Or.inl rfl, rfl⟩
      · replace H := H.1 c31
        refine ew_iconst dX7_part_53 (inI_of rfl) ?_
        refine ew_goto (tgt := 58) dX7_part_54 (by decide) ?_
        exact ew_ret (o := some (aI 1)) rfl ⟨_, _, rfl, rfl, H⟩ ⟨dX7_part_58, .int, rfl, Or.inl rfl, rfl⟩
    · replace H := H.2 c25
      refine ew_iconst dX7_part_27 (inI_of rfl) ?_
      exact ew_ret (o := some (aI (-1))) rfl ⟨_, _, rfl, rfl, H⟩ ⟨dX7_part_28, .int, rfl, Or.inl rfl, rfl⟩
def C_part (a : Int) (b : Int) (s0 : MS) (K : Int → MS → Prop) : Prop := B_part_E  K a b s0
theorem S_part {d : Nat} {g : AH} {K : Int → MS → Prop} {a : Int} {b : Int} {s0 : MS} (H : C_part a b s0 K) : Sp mm_part (d + 8) 0 0 [aR (some mT), aI a, aI b] (mh s0 g) (mQi g K) :=
  ew_sp rfl (Nat.le_of_ble_eq_true rfl) (T_part_E d g K a b s0 (H  ))
