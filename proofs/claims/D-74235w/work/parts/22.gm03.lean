set_option maxRecDepth 100000
abbrev mm_readTerm : EM := (yX7_readTerm, cX7_readTerm, 3, some .boolean, [])
theorem me_readTerm : e_mth mm_readTerm 0 := ⟨rfl, q1655, q117, by decide +kernel, by decide⟩
def B_readTerm_E  (K : Int → MS → Prop)  (s0 : MS) : Prop :=
  (((s0.1 21) = 24 → (C_errs 4 s0 (fun r100 s97 => ((r100 = 0 ∨ r100 = 1) ∧ K r100 s97)))) ∧ (¬ (s0.1 21) = 24 → (C_goesOn s0 (fun s2 => (C_isName s2 (fun r8 s5 => ((r8 = 0 → (C_errs 1 s5 (fun r95 s92 => ((r95 = 0 ∨ r95 = 1) ∧ K r95 s92)))) ∧ (¬ r8 = 0 → (C_funHere s5 (fun r13 s10 => ((r13 = (-1) → (C_termHere s10 (fun r23 s20 => ((r23 = (-1) → ((inI (24 + (s20.1 21))) ∧ ((inI (6 * (24 + (s20.1 21)))) ∧ (C_keeps 12 (6 * (24 + (s20.1 21))) s20 (fun s27 => (C_goesOn s27 (fun s30 => (((s30.1 16) = 61 → (C_goesOn s30 (fun s34 => (C_isName s34 (fun r40 s37 => ((r40 = 0 → (C_errs 1 s37 (fun r80 s77 => ((r80 = 0 ∨ r80 = 1) ∧ K r80 s77)))) ∧ (¬ r40 = 0 → (C_funHere s37 (fun r45 s42 => ((r45 = (-1) → (C_errs 3 s42 (fun r75 s72 => ((r75 = 0 ∨ r75 = 1) ∧ K r75 s72)))) ∧ (¬ r45 = (-1) → (C_goesOn s42 (fun s47 => ((inI (48 + (s47.1 24))) ∧ ((inI (4 * (48 + (s47.1 24)))) ∧ ((0 ≤ (4 * (48 + (s47.1 24))) ∧ (4 * (48 + (s47.1 24))) < 384) ∧ ∀ s52 : MS, s52 = ma s47 11 (4 * (48 + (s47.1 24))) r45 → ((inI (8 + r45)) ∧ ((0 ≤ (8 + r45) ∧ (8 + r45) < 16) ∧ (C_readParts (4 * (48 + (s47.1 24))) (s52.2 7 (8 + r45)) s52 (fun r60 s57 => ((r60 = 0 → K 0 s57) ∧ (¬ r60 = 0 → ((inI (48 + (s57.1 24))) ∧ ((0 ≤ (48 + (s57.1 24)) ∧ (48 + (s57.1 24)) < 96) ∧ ∀ s63 : MS, s63 = ma s57 10 (48 + (s57.1 24)) 0 → ((inI ((s63.1 24) + 1)) ∧ (∀ s67 : MS, s67 = ms s63 24 ((s63.1 24) + 1) → ((inI ((s67.1 21) + 1)) ∧ (∀ s70 : MS, s70 = ms s67 21 ((s67.1 21) + 1) → K 1 s70)))))))))))))))))))))))))))) ∧ (¬ (s30.1 16) = 61 → (C_errs 1 s30 (fun r85 s82 => ((r85 = 0 ∨ r85 = 1) ∧ K r85 s82)))))))))))) ∧ (¬ r23 = (-1) → (C_errs 3 s20 (fun r90 s87 => ((r90 = 0 ∨ r90 = 1) ∧ K r90 s87)))))))) ∧ (¬ r13 = (-1) → (C_errs 3 s10 (fun r18 s15 => ((r18 = 0 ∨ r18 = 1) ∧ K r18 s15)))))))))))))))
set_option maxHeartbeats 4000000 in
theorem T_readTerm_E (d : Nat) (g : AH) (K : Int → MS → Prop)  (s0 : MS) (H : B_readTerm_E  K  s0) : EW mm_readTerm (d + 9) 0 0 (mQi g K) 0 [(0, aR (some mT))] [] (mh s0 g) := by
  refine ew_aload_n dX7_readTerm_0 rfl lm0 ?_
  refine mw_gI dX7_readTerm_1 (e_fl.a q1427) mf_21 rfl ?_
  refine ew_bipush dX7_readTerm_4 (inI_of rfl) (by decide) ?_
  refine ew_icmp_ne (tgt := 15) dX7_readTerm_6 (by decide) (fun c1 => ?_) (fun c1 => ?_)
  · replace H := H.2 c1
    refine ew_aload_n dX7_readTerm_15 rfl lm0 ?_
    refine ew_callV (d := d + 8) (as := []) rfl dX7_readTerm_16 me_goesOn rfl (ci := 1) rfl rfl (mh_o _ _) (Or.inl q1602) q1604 qs58 (Nat.le_of_ble_eq_true rfl) (Nat.le_refl 0) (Nat.le_refl 0) (S_goesOn (d := d + 7) H) (fun o h' hq3 _ => ?_) (fun E i h' q _ => (mQ_no q).elim)
    obtain ⟨s2, E4, rfl, H⟩ := hq3
    cases E4
    refine ew_aload_n dX7_readTerm_19 rfl lm0 ?_
    refine ew_callV (d := d + 8) (as := []) rfl dX7_readTerm_20 me_isName rfl (ci := 1) rfl rfl (mh_o _ _) (Or.inl q1629) q1631 qs64 (Nat.le_of_ble_eq_true rfl) (Nat.le_refl 0) (Nat.le_refl 0) (S_isName (d := d + 1) H) (fun o h' hq6 _ => ?_) (fun E i h' q _ => (mQi_no q).elim)
    obtain ⟨r8, s5, E7, rfl, H⟩ := hq6
    cases E7
    refine ew_if_ne (tgt := 32) dX7_readTerm_23 (by decide) (fun c9 => ?_) (fun c9 => ?_)
    · replace H := H.2 c9
      refine ew_aload_n dX7_readTerm_32 rfl lm0 ?_
      refine ew_callV (d := d + 8) (as := []) rfl dX7_readTerm_33 me_funHere rfl (ci := 1) rfl rfl (mh_o _ _) (Or.inl q1636) q1638 qs65 (Nat.le_of_ble_eq_true rfl) (Nat.le_refl 0) (Nat.le_refl 0) (S_funHere (d := d + 7) H) (fun o h' hq11 _ => ?_) (fun E i h' q _ => (mQi_no q).elim)
      obtain ⟨r13, s10, E12, rfl, H⟩ := hq11
      cases E12
      refine ew_iconst dX7_readTerm_36 (inI_of rfl) ?_
      refine ew_icmp_ne (tgt := 48) dX7_readTerm_37 (by decide) (fun c14 => ?_) (fun c14 => ?_)
      · replace H := H.2 c14
        refine ew_aload_n dX7_readTerm_48 rfl lm0 ?_
        refine ew_iconst dX7_readTerm_49 (inI_of rfl) ?_
        refine ew_callV (d := d + 8) (as := [aI 3]) rfl dX7_readTerm_50 me_errs rfl (ci := 1) rfl rfl (mh_o _ _) (Or.inl q1625) q1627 qs63 (Nat.le_of_ble_eq_true rfl) (Nat.le_refl 0) (Nat.le_refl 0) (S_errs (d := d + 8) H) (fun o h' hq16 _ => ?_) (fun E i h' q _ => (mQi_no q).elim)
        obtain ⟨r18, s15, E17, rfl, H⟩ := hq16
        cases E17
        obtain ⟨v19, H⟩ := H
        exact ew_ret (o := some (aI r18)) rfl ⟨_, _, rfl, rfl, H⟩ ⟨dX7_readTerm_53, .boolean, rfl, Or.inr (Or.inl rfl), by rcases v19 with z | z <;> rw [z] <;> decide⟩
      · replace H := H.1 c14
        refine ew_aload_n dX7_readTerm_40 rfl lm0 ?_
        refine ew_callV (d := d + 8) (as := []) rfl dX7_readTerm_41 me_termHere rfl (ci := 1) rfl rfl (mh_o _ _) (Or.inl q1644) q1646 qs67 (Nat.le_of_ble_eq_true rfl) (Nat.le_refl 0) (Nat.le_refl 0) (S_termHere (d := d + 7) H) (fun o h' hq21 _ => ?_) (fun E i h' q _ => (mQi_no q).elim)
        obtain ⟨r23, s20, E22, rfl, H⟩ := hq21
        cases E22
        refine ew_iconst dX7_readTerm_44 (inI_of rfl) ?_
        refine ew_icmp_eq (tgt := 54) dX7_readTerm_45 (by decide) (fun c24 => ?_) (fun c24 => ?_)
        · replace H := H.1 c24
          refine ew_aload_n dX7_readTerm_54 rfl lm0 ?_
          refine ew_aload_n dX7_readTerm_55 rfl lm0 ?_
          refine mw_gA dX7_readTerm_56 (e_fl.a q1418) mf_12 rfl ?_
          refine ew_bipush dX7_readTerm_59 (inI_of rfl) (by decide) ?_
          refine ew_bipush dX7_readTerm_61 (inI_of rfl) (by decide) ?_
          refine ew_aload_n dX7_readTerm_63 rfl lm0 ?_
          refine mw_gI dX7_readTerm_64 (e_fl.a q1427) mf_21 rfl ?_
          obtain ⟨v25, H⟩ := H
          refine ew_iadd dX7_readTerm_67 v25 ?_
          obtain ⟨v26, H⟩ := H
          refine ew_imul dX7_readTerm_68 v26 ?_
          refine ew_callV (d := d + 8) (as := [aR (some (0, 1, 12)), aI (6 * (24 + (s20.1 21)))]) rfl dX7_readTerm_69 me_keeps rfl (ci := 1) rfl rfl (mh_o _ _) (Or.inl q1648) q1650 qs68 (Nat.le_of_ble_eq_true rfl) (Nat.le_refl 0) (Nat.le_refl 0) (S_keeps (d := d + 8) H) (fun o h' hq28 _ => ?_) (fun E i h' q _ => (mQ_no q).elim)
          obtain ⟨s27, E29, rfl, H⟩ := hq28
          cases E29
          refine ew_aload_n dX7_readTerm_72 rfl lm0 ?_
          refine ew_callV (d := d + 8) (as := []) rfl dX7_readTerm_73 me_goesOn rfl (ci := 1) rfl rfl (mh_o _ _) (Or.inl q1602) q1604 qs58 (Nat.le_of_ble_eq_true rfl) (Nat.le_refl 0) (Nat.le_refl 0) (S_goesOn (d := d + 7) H) (fun o h' hq31 _ => ?_) (fun E i h' q _ => (mQ_no q).elim)
          obtain ⟨s30, E32, rfl, H⟩ := hq31
          cases E32
          refine ew_aload_n dX7_readTerm_76 rfl lm0 ?_
          refine mw_gI dX7_readTerm_77 (e_fl.a q1422) mf_16 rfl ?_
          refine ew_bipush dX7_readTerm_80 (inI_of rfl) (by decide) ?_
          refine ew_icmp_eq (tgt := 91) dX7_readTerm_82 (by decide) (fun c33 => ?_) (fun c33 => ?_)
          · replace H := H.1 c33
            refine ew_aload_n dX7_readTerm_91 rfl lm0 ?_
            refine ew_callV (d := d + 8) (as := []) rfl dX7_readTerm_92 me_goesOn rfl (ci := 1) rfl rfl (mh_o _ _) (Or.inl q1602) q1604 qs58 (Nat.le_of_ble_eq_true rfl) (Nat.le_refl 0) (Nat.le_refl 0) (S_goesOn (d := d + 7) H) (fun o h' hq35 _ => ?_) (fun E i h' q _ => (mQ_no q).elim)
            obtain ⟨s34, E36, rfl, H⟩ := hq35
            cases E36
            refine ew_aload_n dX7_readTerm_95 rfl lm0 ?_
            refine ew_callV (d := d + 8) (as := []) rfl dX7_readTerm_96 me_isName rfl (ci := 1) rfl rfl (mh_o _ _) (Or.inl q1629) q1631 qs64 (Nat.le_of_ble_eq_true rfl) (Nat.le_refl 0) (Nat.le_refl 0) (S_isName (d := d + 1) H) (fun o h' hq38 _ => ?_) (fun E i h' q _ => (mQi_no q).elim)
            obtain ⟨r40, s37, E39, rfl, H⟩ := hq38
            cases E39
            refine ew_if_ne (tgt := 108) dX7_readTerm_99 (by decide) (fun c41 => ?_) (fun c41 => ?_)
            · replace H := H.2 c41
              refine ew_aload_n dX7_readTerm_108 rfl lm0 ?_
              refine ew_callV (d := d + 8) (as := []) rfl dX7_readTerm_109 me_funHere rfl (ci := 1) rfl rfl (mh_o _ _) (Or.inl q1636) q1638 qs65 (Nat.le_of_ble_eq_true rfl) (Nat.le_refl 0) (Nat.le_refl 0) (S_funHere (d := d + 7) H) (fun o h' hq43 _ => ?_) (fun E i h' q _ => (mQi_no q).elim)
              obtain ⟨r45, s42, E44, rfl, H⟩ := hq43
              cases E44
              refine ew_istore_n dX7_readTerm_112 rfl (by decide) (lv' := [(1, aI r45), (0, aR (some mT))]) rfl ?_
              refine ew_sub (List.forall_mem_cons.mpr ⟨lm1, (List.forall_mem_cons.mpr ⟨lm0, e_nm⟩)⟩) ?_
              refine ew_iload_n dX7_readTerm_113 rfl lm1 ?_
              refine ew_iconst dX7_readTerm_114 (inI_of rfl) ?_
              refine ew_icmp_ne (tgt := 124) dX7_readTerm_115 (by decide) (fun c46 => ?_) (fun c46 => ?_)
              · replace H := H.2 c46
                refine ew_aload_n dX7_readTerm_124 rfl lm0 ?_
                refine ew_callV (d := d + 8) (as := []) rfl dX7_readTerm_125 me_goesOn rfl (ci := 1) rfl rfl (mh_o _ _) (Or.inl q1602) q1604 qs58 (Nat.le_of_ble_eq_true rfl) (Nat.le_refl 0) (Nat.le_refl 0) (S_goesOn (d := d + 7) H) (fun o h' hq48 _ => ?_) (fun E i h' q _ => (mQ_no q).elim)
                obtain ⟨s47, E49, rfl, H⟩ := hq48
                cases E49
                refine ew_iconst dX7_readTerm_128 (inI_of rfl) ?_
                refine ew_bipush dX7_readTerm_129 (inI_of rfl) (by decide) ?_
                refine ew_aload_n dX7_readTerm_131 rfl lm0 ?_
                refine mw_gI dX7_readTerm_132 (e_fl.a q1430) mf_24 rfl ?_
                obtain ⟨v50, H⟩ := H
                refine ew_iadd dX7_readTerm_135 v50 ?_
                obtain ⟨v51, H⟩ := H
                refine ew_imul dX7_readTerm_136 v51 ?_
                refine ew_istore_n dX7_readTerm_137 rfl (by decide) (lv' := [(2, aI (4 * (48 + (s47.1 24)))), (0, aR (some mT)), (1, aI r45)]) rfl ?_
                refine ew_sub (List.forall_mem_cons.mpr ⟨lm1, (List.forall_mem_cons.mpr ⟨lm2, (List.forall_mem_cons.mpr ⟨lm0, e_nm⟩)⟩)⟩) ?_
                refine ew_aload_n dX7_readTerm_138 rfl lm0 ?_
                refine mw_gA dX7_readTerm_139 (e_fl.a q1417) mf_11 rfl ?_
                refine ew_iload_n dX7_readTerm_142 rfl lm2 ?_
                refine ew_iload_n dX7_readTerm_143 rfl lm1 ?_
                obtain ⟨v54, H⟩ := H
                refine mw_iast dX7_readTerm_144 rfl v54.1 v54.2 (fun s52 e53 => ?_)
                replace H := H s52 e53
                refine ew_aload_n dX7_readTerm_145 rfl lm0 ?_
                refine ew_iload_n dX7_readTerm_146 rfl lm2 ?_
                refine ew_aload_n dX7_readTerm_147 rfl lm0 ?_
                refine mw_gA dX7_readTerm_148 (e_fl.a q1413) mf_7 rfl ?_
                refine ew_bipush dX7_readTerm_151 (inI_of rfl) (by decide) ?_
                refine ew_iload_n dX7_readTerm_153 rfl lm1 ?_
                obtain ⟨v55, H⟩ := H
                refine ew_iadd dX7_readTerm_154 v55 ?_
                obtain ⟨v56, H⟩ := H
                refine mw_iald dX7_readTerm_155 rfl v56.1 v56.2 ?_
                refine ew_callV (d := d + 8) (as := [aI (4 * (48 + (s47.1 24))), aI (s52.2 7 (8 + r45))]) rfl dX7_readTerm_156 me_readParts rfl (ci := 1) rfl rfl (mh_o _ _) (Or.inl q1656) q1658 qs70 (Nat.le_of_ble_eq_true rfl) (Nat.le_refl 0) (Nat.le_refl 0) (S_readParts (d := d + 0) H) (fun o h' hq58 _ => ?_) (fun E i h' q _ => (mQi_no q).elim)
                obtain ⟨r60, s57, E59, rfl, H⟩ := hq58
                cases E59
                refine ew_if_ne (tgt := 164) dX7_readTerm_159 (by decide) (fun c61 => ?_) (fun c61 => ?_)
                · replace H := H.2 c61
                  refine ew_aload_n dX7_readTerm_164 rfl lm0 ?_
                  refine mw_gA dX7_readTerm_165 (e_fl.a q1416) mf_10 rfl ?_
                  refine ew_bipush dX7_readTerm_168 (inI_of rfl) (by decide) ?_
                  refine ew_aload_n dX7_readTerm_170 rfl lm0 ?_
                  refine mw_gI dX7_readTerm_171 (e_fl.a q1430) mf_24 rfl ?_
                  obtain ⟨v62, H⟩ := H
                  refine ew_iadd dX7_readTerm_174 v62 ?_
                  refine ew_iconst dX7_readTerm_175 (inI_of rfl) ?_
                  obtain ⟨v65, H⟩ := H
                  refine mw_iast dX7_readTerm_176 rfl v65.1 v65.2 (fun s63 e64 => ?_)
                  replace H := H s63 e64
                  refine ew_aload_n dX7_readTerm_177 rfl lm0 ?_
                  refine ew_dup dX7_readTerm_178 rfl ?_
                  refine mw_gI dX7_readTerm_179 (e_fl.a q1430) mf_24 rfl ?_
                  refine ew_iconst dX7_readTerm_182 (inI_of rfl) ?_
                  obtain ⟨v66, H⟩ := H
                  refine ew_iadd dX7_readTerm_183 v66 ?_
                  refine mw_pI dX7_readTerm_184 (e_fl.a q1430) mf_24 (Or.inl rfl) (ty := .int) (by decide +kernel) trivial (fun s67 e68 => ?_)
                  replace H := H s67 e68
                  refine ew_aload_n dX7_readTerm_187 rfl lm0 ?_
                  refine ew_dup dX7_readTerm_188 rfl ?_
                  refine mw_gI dX7_readTerm_189 (e_fl.a q1427) mf_21 rfl ?_
                  refine ew_iconst dX7_readTerm_192 (inI_of rfl) ?_
                  obtain ⟨v69, H⟩ := H
                  refine ew_iadd dX7_readTerm_193 v69 ?_
                  refine mw_pI dX7_readTerm_194 (e_fl.a q1427) mf_21 (Or.inl rfl) (ty := .int) (by decide +kernel) trivial (fun s70 e71 => ?_)
                  replace H := H s70 e71
                  refine ew_iconst dX7_readTerm_197 (inI_of rfl) ?_
                  exact ew_ret (o := some (aI 1)) rfl ⟨_, _, rfl, rfl, H⟩ ⟨dX7_readTerm_198, .boolean, rfl, Or.inr (Or.inl rfl), by decide⟩
                · replace H := H.1 c61
                  refine ew_iconst dX7_readTerm_162 (inI_of rfl) ?_
                  exact ew_ret (o := some (aI 0)) rfl ⟨_, _, rfl, rfl, H⟩ ⟨dX7_readTerm_163, .boolean, rfl, Or.inr (Or.inl rfl), by decide⟩
              · replace H := H.1 c46
                refine ew_aload_n dX7_readTerm_118 rfl lm0 ?_
                refine ew_iconst dX7_readTerm_119 (inI_of rfl) ?_
                refine ew_callV (d := d + 8) (as := [aI 3]) rfl dX7_readTerm_120 me_errs rfl (ci := 1) rfl rfl (mh_o _ _) (Or.inl q1625) q1627 qs63 (Nat.le_of_ble_eq_true rfl) (Nat.le_refl 0) (Nat.le_refl 0) (S_errs (d := d + 8) H) (fun o h' hq73 _ => ?_) (fun E i h' q _ => (mQi_no q).elim)
                obtain ⟨r75, s72, E74, rfl, H⟩ := hq73
                cases E74
                obtain ⟨v76, H⟩ := H
                exact ew_ret (o := some (aI r75)) rfl ⟨_, _, rfl, rfl, H⟩ ⟨dX7_readTerm_123, .boolean, rfl, Or.inr (Or.inl rfl), by rcases v76 with z | z <;> rw [z] <;> decide⟩
            · replace H := H.1 c41
              refine ew_aload_n dX7_readTerm_102 rfl lm0 ?_
              refine ew_iconst dX7_readTerm_103 (inI_of rfl) ?_
              refine ew_callV (d := d + 8) (as := [aI 1]) rfl dX7_readTerm_104 me_errs rfl (ci := 1) rfl rfl (mh_o _ _) (Or.inl q1625) q1627 qs63 (Nat.le_of_ble_eq_true rfl) (Nat.le_refl 0) (Nat.le_refl 0) (S_errs (d := d + 8) H) (fun o h' hq78 _ => ?_) (fun E i h' q _ => (mQi_no q).elim)
              obtain ⟨r80, s77, E79, rfl, H⟩ := hq78
              cases E79
              obtain ⟨v81, H⟩ := H
              exact ew_ret (o := some (aI r80)) rfl ⟨_, _, rfl, rfl, H⟩ ⟨dX7_readTerm_107, .boolean, rfl, Or.inr (Or.inl rfl), by rcases v81 with z | z <;> rw [z] <;> decide⟩
          · replace H := H.2 c33
            refine ew_aload_n dX7_readTerm_85 rfl lm0 ?_
            refine ew_iconst dX7_readTerm_86 (inI_of rfl) ?_
            refine ew_callV (d := d + 8) (as := [aI 1]) rfl dX7_readTerm_87 me_errs rfl (ci := 1) rfl rfl (mh_o _ _) (Or.inl q1625) q1627 qs63 (Nat.le_of_ble_eq_true rfl) (Nat.le_refl 0) (Nat.le_refl 0) (S_errs (d := d + 8) H) (fun o h' hq83 _ => ?_) (fun E i h' q _ => (mQi_no q).elim)
            obtain ⟨r85, s82, E84, rfl, H⟩ := hq83
            cases E84
            obtain ⟨v86, H⟩ := H
            exact ew_ret (o := some (aI r85)) rfl ⟨_, _, rfl, rfl, H⟩ ⟨dX7_readTerm_90, .boolean, rfl, Or.inr (Or.inl rfl), by rcases v86 with z | z <;> rw [z] <;> decide⟩
        · replace H := H.2 c24
          refine ew_aload_n dX7_readTerm_48 rfl lm0 ?_
          refine ew_iconst dX7_readTerm_49 (inI_of rfl) ?_
          refine ew_callV (d := d + 8) (as := [aI 3]) rfl dX7_readTerm_50 me_errs rfl (ci := 1) rfl rfl (mh_o _ _) (Or.inl q1625) q1627 qs63 (Nat.le_of_ble_eq_true rfl) (Nat.le_refl 0) (Nat.le_refl 0) (S_errs (d := d + 8) H) (fun o h' hq88 _ => ?_) (fun E i h' q _ => (mQi_no q).elim)
          obtain ⟨r90, s87, E89, rfl, H⟩ := hq88
          cases E89
          obtain ⟨v91, H⟩ := H
          exact ew_ret (o := some (aI r90)) rfl ⟨_, _, rfl, rfl, H⟩ ⟨dX7_readTerm_53, .boolean, rfl, Or.inr (Or.inl rfl), by rcases v91 with z | z <;> rw [z] <;> decide⟩
    · replace H := H.1 c9
      refine ew_aload_n dX7_readTerm_26 rfl lm0 ?_
      refine ew_iconst dX7_readTerm_27 (inI_of rfl) ?_
      refine ew_callV (d := d + 8) (as := [aI 1]) rfl dX7_readTerm_28 me_errs rfl (ci := 1) rfl rfl (mh_o _ _) (Or.inl q1625) q1627 qs63 (Nat.le_of_ble_eq_true rfl) (Nat.le_refl 0) (Nat.le_refl 0) (S_errs (d := d + 8) H) (fun o h' hq93 _ => ?_) (fun E i h' q _ => (mQi_no q).elim)
      obtain ⟨r95, s92, E94, rfl, H⟩ := hq93
      cases E94
      obtain ⟨v96, H⟩ := H
      exact ew_ret (o := some (aI r95)) rfl ⟨_, _, rfl, rfl, H⟩ ⟨dX7_readTerm_31, .boolean, rfl, Or.inr (Or.inl rfl), by rcases v96 with z | z <;> rw [z] <;> decide⟩
  · replace H := H.1 c1
    refine ew_aload_n dX7_readTerm_9 rfl lm0 ?_
    refine ew_iconst dX7_readTerm_10 (inI_of rfl) ?_
    refine ew_callV (d := d + 8) (as := [aI 4]) rfl dX7_readTerm_11 me_errs rfl (ci := 1) rfl rfl (mh_o _ _) (Or.inl q1625) q1627 qs63 (Nat.le_of_ble_eq_true rfl) (Nat.le_refl 0) (Nat.le_refl 0) (S_errs (d := d + 8) H) (fun o h' hq98 _ => ?_) (fun E i h' q _ => (mQi_no q).elim)
    obtain ⟨r100, s97, E99, rfl, H⟩ := hq98
    cases E99
    obtain ⟨v101, H⟩ := H
    exact ew_ret (o := some (aI r100)) rfl ⟨_, _, rfl, rfl, H⟩ ⟨dX7_readTerm_14, .boolean, rfl, Or.inr (Or.inl rfl), by rcases v101 with z | z <;> rw [z] <;> decide⟩
def C_readTerm  (s0 : MS) (K : Int → MS → Prop) : Prop := B_readTerm_E  K  s0
theorem S_readTerm {d : Nat} {g : AH} {K : Int → MS → Prop}  {s0 : MS} (H : C_readTerm  s0 K) : Sp mm_readTerm (d + 9) 0 0 [aR (some mT)] (mh s0 g) (mQi g K) :=
  ew_sp rfl (Nat.le_of_ble_eq_true rfl) (T_readTerm_E d g K  s0 (H  ))
abbrev mm_readPair : EM := (yX7_readPair, cX7_readPair, 4, some .boolean, [])
theorem me_readPair : e_mth mm_readPair 1 := ⟨rfl, q1663, q117, by decide +kernel, by decide⟩
def B_readPair_43 (X43 : Int → Int → Int → MS → Prop) (K : Int → MS → Prop) (x1 : Int) (x2 : Int) (x3 : Int) (s0 : MS) : Prop :=
  ((2 ≤ x3 → (C_goesOn s0 (fun s2 => ((inI (48 + (s2.1 24))) ∧ ((x1 = 0 → ((0 ≤ (48 + (s2.1 24)) ∧ (48 + (s2.1 24)) < 96) ∧ ∀ s7 : MS, s7 = ma s2 10 (48 + (s2.1 24)) 2 → ((inI ((s7.1 24) + 1)) ∧ (∀ s11 : MS, s11 = ms s7 24 ((s7.1 24) + 1) → ((x1 = 0 → ((inI ((s11.1 22) + 0)) ∧ (∀ s15 : MS, s15 = ms s11 22 ((s11.1 22) + 0) → ((x1 = 0 → ((inI ((s15.1 23) + 1)) ∧ (∀ s19 : MS, s19 = ms s15 23 ((s15.1 23) + 1) → K 1 s19))) ∧ (¬ x1 = 0 → ((inI ((s15.1 23) + 0)) ∧ (∀ s22 : MS, s22 = ms s15 23 ((s15.1 23) + 0) → K 1 s22))))))) ∧ (¬ x1 = 0 → ((inI ((s11.1 22) + 1)) ∧ (∀ s25 : MS, s25 = ms s11 22 ((s11.1 22) + 1) → ((x1 = 0 → ((inI ((s25.1 23) + 1)) ∧ (∀ s29 : MS, s29 = ms s25 23 ((s25.1 23) + 1) → K 1 s29))) ∧ (¬ x1 = 0 → ((inI ((s25.1 23) + 0)) ∧ (∀ s32 : MS, s32 = ms s25 23 ((s25.1 23) + 0) → K 1 s32)))))))))))) ∧ (¬ x1 = 0 → ((0 ≤ (48 + (s2.1 24)) ∧ (48 + (s2.1 24)) < 96) ∧ ∀ s34 : MS, s34 = ma s2 10 (48 + (s2.1 24)) 1 → ((inI ((s34.1 24) + 1)) ∧ (∀ s38 : MS, s38 = ms s34 24 ((s34.1 24) + 1) → ((x1 = 0 → ((inI ((s38.1 22) + 0)) ∧ (∀ s42 : MS, s42 = ms s38 22 ((s38.1 22) + 0) → ((x1 = 0 → ((inI ((s42.1 23) + 1)) ∧ (∀ s46 : MS, s46 = ms s42 23 ((s42.1 23) + 1) → K 1 s46))) ∧ (¬ x1 = 0 → ((inI ((s42.1 23) + 0)) ∧ (∀ s49 : MS, s49 = ms s42 23 ((s42.1 23) + 0) → K 1 s49))))))) ∧ (¬ x1 = 0 → ((inI ((s38.1 22) + 1)) ∧ (∀ s52 : MS, s52 = ms s38 22 ((s38.1 22) + 1) → ((x1 = 0 → ((inI ((s52.1 23) + 1)) ∧ (∀ s56 : MS, s56 = ms s52 23 ((s52.1 23) + 1) → K 1 s56))) ∧ (¬ x1 = 0 → ((inI ((s52.1 23) + 0)) ∧ (∀ s59 : MS, s59 = ms s52 23 ((s52.1 23) + 0) → K 1 s59))))))))))))))))) ∧ (¬ 2 ≤ x3 → (C_goesOn s0 (fun s61 => (C_isName s61 (fun r67 s64 => ((r67 = 0 → (C_errs 1 s64 (fun r89 s86 => ((r89 = 0 ∨ r89 = 1) ∧ K r89 s86)))) ∧ (¬ r67 = 0 → ((inI (x2 + x3)) ∧ (C_termHere s64 (fun r73 s70 => ((0 ≤ (x2 + x3) ∧ (x2 + x3) < 384) ∧ ∀ s74 : MS, s74 = ma s70 11 (x2 + x3) r73 → ((inI (x2 + x3)) ∧ ((0 ≤ (x2 + x3) ∧ (x2 + x3) < 384) ∧ (((s74.2 11 (x2 + x3)) = (-1) → (C_errs 3 s74 (fun r84 s81 => ((r84 = 0 ∨ r84 = 1) ∧ K r84 s81)))) ∧ (¬ (s74.2 11 (x2 + x3)) = (-1) → (inI (x3 + 1) ∧ X43 x1 x2 (x3 + 1) s74)))))))))))))))))
def B_readPair_E (X43 : Int → Int → Int → MS → Prop) (K : Int → MS → Prop) (a : Int) (s0 : MS) : Prop :=
  ((a = 0 → (((s0.1 23) = 8 → (C_errs 4 s0 (fun r8 s5 => ((r8 = 0 ∨ r8 = 1) ∧ K r8 s5)))) ∧ (¬ (s0.1 23) = 8 → ((inI (48 + (s0.1 24))) ∧ ((inI (4 * (48 + (s0.1 24)))) ∧ X43 a (4 * (48 + (s0.1 24))) 0 s0))))) ∧ (¬ a = 0 → (((s0.1 22) = 12 → (C_errs 4 s0 (fun r16 s13 => ((r16 = 0 ∨ r16 = 1) ∧ K r16 s13)))) ∧ (¬ (s0.1 22) = 12 → ((inI (48 + (s0.1 24))) ∧ ((inI (4 * (48 + (s0.1 24)))) ∧ X43 a (4 * (48 + (s0.1 24))) 0 s0))))))
def W_readPair_43 (d : Nat) (g : AH) (K : Int → MS → Prop) (x1 : Int) (x2 : Int) (x3 : Int) (s0 : MS) : Prop := EW mm_readPair (d + 8) 0 0 (mQi g K) 43 [(0, aR (some mT)), (1, aI x1), (2, aI x2), (3, aI x3)] [] (mh s0 g)
set_option maxHeartbeats 4000000 in
theorem T_readPair_43 (d : Nat) (g : AH) (K : Int → MS → Prop) (x1 : Int) (x2 : Int) (x3 : Int) (s0 : MS) (H : B_readPair_43 (W_readPair_43 d g K) K x1 x2 x3 s0) : EW mm_readPair (d + 8) 0 0 (mQi g K) 43 [(0, aR (some mT)), (1, aI x1), (2, aI x2), (3, aI x3)] [] (mh s0 g) := by
  refine ew_iload_n dX7_readPair_43 rfl lm3 ?_
  refine ew_iconst dX7_readPair_44 (inI_of rfl) ?_
  refine ew_icmp_ge (tgt := 101) dX7_readPair_45 (by decide) (fun c1 => ?_) (fun c1 => ?_)
  · replace H := H.1 c1
    refine ew_aload_n dX7_readPair_101 rfl lm0 ?_
    refine ew_callV (d := d + 7) (as := []) rfl dX7_readPair_102 me_goesOn rfl (ci := 1) rfl rfl (mh_o _ _) (Or.inl q1602) q1604 qs58 (Nat.le_of_ble_eq_true rfl) (Nat.le_refl 0) (Nat.le_refl 0) (S_goesOn (d := d + 6) H) (fun o h' hq3 _ => ?_) (fun E i h' q _ => (mQ_no q).elim)
    obtain ⟨s2, E4, rfl, H⟩ := hq3
    cases E4
    refine ew_aload_n dX7_readPair_105 rfl lm0 ?_
    refine mw_gA dX7_readPair_106 (e_fl.a q1416) mf_10 rfl ?_
    refine ew_bipush dX7_readPair_109 (inI_of rfl) (by decide) ?_
    refine ew_aload_n dX7_readPair_111 rfl lm0 ?_
    refine mw_gI dX7_readPair_112 (e_fl.a q1430) mf_24 rfl ?_
    obtain ⟨v5, H⟩ := H
    refine ew_iadd dX7_readPair_115 v5 ?_
    refine ew_iload_n dX7_readPair_116 rfl lm1 ?_
    refine ew_if_eq (tgt := 124) dX7_readPair_117 (by decide) (fun c6 => ?_) (fun c6 => ?_)
    · replace H := H.1 c6
      refine ew_iconst dX7_readPair_124 (inI_of rfl) ?_
      obtain ⟨v9, H⟩ := H
      refine mw_iast dX7_readPair_125 rfl v9.1 v9.2 (fun s7 e8 => ?_)
      replace H := H s7 e8
      refine ew_aload_n dX7_readPair_126 rfl lm0 ?_
      refine ew_dup dX7_readPair_127 rfl ?_
      refine mw_gI dX7_readPair_128 (e_fl.a q1430) mf_24 rfl ?_
      refine ew_iconst dX7_readPair_131 (inI_of rfl) ?_
      obtain ⟨v10, H⟩ := H
      refine ew_iadd dX7_readPair_132 v10 ?_
      refine mw_pI dX7_readPair_133 (e_fl.a q1430) mf_24 (Or.inl rfl) (ty := .int) (by decide +kernel) trivial (fun s11 e12 => ?_)
      replace H := H s11 e12
      refine ew_aload_n dX7_readPair_136 rfl lm0 ?_
      refine ew_dup dX7_readPair_137 rfl ?_
      refine mw_gI dX7_readPair_138 (e_fl.a q1428) mf_22 rfl ?_
      refine ew_iload_n dX7_readPair_141 rfl lm1 ?_
      refine ew_if_eq (tgt := 149) dX7_readPair_142 (by decide) (fun c13 => ?_) (fun c13 => ?_)
      · replace H := H.1 c13
        refine ew_iconst dX7_readPair_149 (inI_of rfl) ?_
        obtain ⟨v14, H⟩ := H
        refine ew_iadd dX7_readPair_150 v14 ?_
        refine mw_pI dX7_readPair_151 (e_fl.a q1428) mf_22 (Or.inl rfl) (ty := .int) (by decide +kernel) trivial (fun s15 e16 => ?_)
        replace H := H s15 e16
        refine ew_aload_n dX7_readPair_154 rfl lm0 ?_
        refine ew_dup dX7_readPair_155 rfl ?_
        refine mw_gI dX7_readPair_156 (e_fl.a q1429) mf_23 rfl ?_
        refine ew_iload_n dX7_readPair_159 rfl lm1 ?_
        refine ew_if_eq (tgt := 167) dX7_readPair_160 (by decide) (fun c17 => ?_) (fun c17 => ?_)
        · replace H := H.1 c17
          refine ew_iconst dX7_readPair_167 (inI_of rfl) ?_
          obtain ⟨v18, H⟩ := H
          refine ew_iadd dX7_readPair_168 v18 ?_
          refine mw_pI dX7_readPair_169 (e_fl.a q1429) mf_23 (Or.inl rfl) (ty := .int) (by decide +kernel) trivial (fun s19 e20 => ?_)
          replace H := H s19 e20
          refine ew_iconst dX7_readPair_172 (inI_of rfl) ?_
          exact ew_ret (o := some (aI 1)) rfl ⟨_, _, rfl, rfl, H⟩ ⟨dX7_readPair_173, .boolean, rfl, Or.inr (Or.inl rfl), by decide⟩
        · replace H := H.2 c17
          refine ew_iconst dX7_readPair_163 (inI_of rfl) ?_
          refine ew_goto (tgt := 168) dX7_readPair_164 (by decide) ?_
          obtain ⟨v21, H⟩ := H
          refine ew_iadd dX7_readPair_168 v21 ?_
          refine mw_pI dX7_readPair_169 (e_fl.a q1429) mf_23 (Or.inl rfl) (ty := .int) (by decide +kernel) trivial (fun s22 e23 => ?_)
          replace H := H s22 e23
          refine ew_iconst dX7_readPair_172 (inI_of rfl) ?_
          exact ew_ret (o := some (aI 1)) rfl ⟨_, _, rfl, rfl, H⟩ ⟨dX7_readPair_173, .boolean, rfl, Or.inr (Or.inl rfl), by decide⟩
      · replace H := H.2 c13
        refine ew_iconst dX7_readPair_145 (inI_of rfl) ?_
        refine ew_goto (tgt := 150) dX7_readPair_146 (by decide) ?_
        obtain ⟨v24, H⟩ := H
        refine ew_iadd dX7_readPair_150 v24 ?_
        refine mw_pI dX7_readPair_151 (e_fl.a q1428) mf_22 (Or.inl rfl) (ty := .int) (by decide +kernel) trivial (fun s25 e26 => ?_)
        replace H := H s25 e26
        refine ew_aload_n dX7_readPair_154 rfl lm0 ?_
        refine ew_dup dX7_readPair_155 rfl ?_
        refine mw_gI dX7_readPair_156 (e_fl.a q1429) mf_23 rfl ?_
        refine ew_iload_n dX7_readPair_159 rfl lm1 ?_
        refine ew_if_eq (tgt := 167) dX7_readPair_160 (by decide) (fun c27 => ?_) (fun c27 => ?_)
        · replace H := H.1 c27
          refine ew_iconst dX7_readPair_167 (inI_of rfl) ?_
          obtain ⟨v28, H⟩ := H
          refine ew_iadd dX7_readPair_168 v28 ?_
          refine mw_pI dX7_readPair_169 (e_fl.a q1429) mf_23 (Or.inl rfl) (ty := .int) (by decide +kernel) trivial (fun s29 e30 => ?_)
          replace H := H s29 e30
          refine ew_iconst dX7_readPair_172 (inI_of rfl) ?_
          exact ew_ret (o := some (aI 1)) rfl ⟨_, _, rfl, rfl, H⟩ ⟨dX7_readPair_173, .boolean, rfl, Or.inr (Or.inl rfl), by decide⟩
        · replace H := H.2 c27
          refine ew_iconst dX7_readPair_163 (inI_of rfl) ?_
          refine ew_goto (tgt := 168) dX7_readPair_164 (by decide) ?_
          obtain ⟨v31, H⟩ := H
          refine ew_iadd dX7_readPair_168 v31 ?_
          refine mw_pI dX7_readPair_169 (e_fl.a q1429) mf_23 (Or.inl rfl) (ty := .int) (by decide +kernel) trivial (fun s32 e33 => ?_)
          replace H := H s32 e33
          refine ew_iconst dX7_readPair_172 (inI_of rfl) ?_
          exact ew_ret (o := some (aI 1)) rfl ⟨_, _, rfl, rfl, H⟩ ⟨dX7_readPair_173, .boolean, rfl, Or.inr (Or.inl rfl), by decide⟩
    · replace H := H.2 c6
      refine ew_iconst dX7_readPair_120 (inI_of rfl) ?_
      refine ew_goto (tgt := 125) dX7_readPair_121 (by decide) ?_
      obtain ⟨v36, H⟩ := H
      refine mw_iast dX7_readPair_125 rfl v36.1 v36.2 (fun s34 e35 => ?_)
      replace H := H s34 e35
      refine ew_aload_n dX7_readPair_126 rfl lm0 ?_
      refine ew_dup dX7_readPair_127 rfl ?_
      refine mw_gI dX7_readPair_128 (e_fl.a q1430) mf_24 rfl ?_
      refine ew_iconst dX7_readPair_131 (inI_of rfl) ?_
      obtain ⟨v37, H⟩ := H
      refine ew_iadd dX7_readPair_132 v37 ?_
      refine mw_pI dX7_readPair_133 (e_fl.a q1430) mf_24 (Or.inl rfl) (ty := .int) (by decide +kernel) trivial (fun s38 e39 => ?_)
      replace H := H s38 e39
      refine ew_aload_n dX7_readPair_136 rfl lm0 ?_
      refine ew_dup dX7_readPair_137 rfl ?_
      refine mw_gI dX7_readPair_138 (e_fl.a q1428) mf_22 rfl ?_
      refine ew_iload_n dX7_readPair_141 rfl lm1 ?_
      refine ew_if_eq (tgt := 149) dX7_readPair_142 (by decide) (fun c40 => ?_) (fun c40 => ?_)
      · replace H := H.1 c40
        refine ew_iconst dX7_readPair_149 (inI_of rfl) ?_
        obtain ⟨v41, H⟩ := H
        refine ew_iadd dX7_readPair_150 v41 ?_
        refine mw_pI dX7_readPair_151 (e_fl.a q1428) mf_22 (Or.inl rfl) (ty := .int) (by decide +kernel) trivial (fun s42 e43 => ?_)
        replace H := H s42 e43
        refine ew_aload_n dX7_readPair_154 rfl lm0 ?_
        refine ew_dup dX7_readPair_155 rfl ?_
        refine mw_gI dX7_readPair_156 (e_fl.a q1429) mf_23 rfl ?_
        refine ew_iload_n dX7_readPair_159 rfl lm1 ?_
        refine ew_if_eq (tgt := 167) dX7_readPair_160 (by decide) (fun c44 => ?_) (fun c44 => ?_)
        · replace H := H.1 c44
          refine ew_iconst dX7_readPair_167 (inI_of rfl) ?_
          obtain ⟨v45, H⟩ := H
          refine ew_iadd dX7_readPair_168 v45 ?_
          refine mw_pI dX7_readPair_169 (e_fl.a q1429) mf_23 (Or.inl rfl) (ty := .int) (by decide +kernel) trivial (fun s46 e47 => ?_)
          replace H := H s46 e47
          refine ew_iconst dX7_readPair_172 (inI_of rfl) ?_
          exact ew_ret (o := some (aI 1)) rfl ⟨_, _, rfl, rfl, H⟩ ⟨dX7_readPair_173, .boolean, rfl, Or.inr (Or.inl rfl), by decide⟩
        · replace H := H.2 c44
          refine ew_iconst dX7_readPair_163 (inI_of rfl) ?_
          refine ew_goto (tgt := 168) dX7_readPair_164 (by decide) ?_
          obtain ⟨v48, H⟩ := H
          refine ew_iadd dX7_readPair_168 v48 ?_
          refine mw_pI dX7_readPair_169 (e_fl.a q1429) mf_23 (Or.inl rfl) (ty := .int) (by decide +kernel) trivial (fun s49 e50 => ?_)
          replace H := H s49 e50
          refine ew_iconst dX7_readPair_172 (inI_of rfl) ?_
          exact ew_ret (o := some (aI 1)) rfl ⟨_, _, rfl, rfl, H⟩ ⟨dX7_readPair_173, .boolean, rfl, Or.inr (Or.inl rfl), by decide⟩
      · replace H := H.2 c40
        refine ew_iconst dX7_readPair_145 (inI_of rfl) ?_
        refine ew_goto (tgt := 150) dX7_readPair_146 (by decide) ?_
        obtain ⟨v51, H⟩ := H
        refine ew_iadd dX7_readPair_150 v51 ?_
        refine mw_pI dX7_readPair_151 (e_fl.a q1428) mf_22 (Or.inl rfl) (ty := .int) (by decide +kernel) trivial (fun s52 e53 => ?_)
        replace H := H s52 e53
        refine ew_aload_n dX7_readPair_154 rfl lm0 ?_
        refine ew_dup dX7_readPair_155 rfl ?_
        refine mw_gI dX7_readPair_156 (e_fl.a q1429) mf_23 rfl ?_
        refine ew_iload_n dX7_readPair_159 rfl lm1 ?_
        refine ew_if_eq (tgt := 167) dX7_readPair_160 (by decide) (fun c54 => ?_) (fun c54 => ?_)
        · replace H := H.1 c54
          refine ew_iconst dX7_readPair_167 (inI_of rfl) ?_
          obtain ⟨v55, H⟩ := H
          refine ew_iadd dX7_readPair_168 v55 ?_
          refine mw_pI dX7_readPair_169 (e_fl.a q1429) mf_23 (Or.inl rfl) (ty := .int) (by decide +kernel) trivial (fun s56 e57 => ?_)
          replace H := H s56 e57
          refine ew_iconst dX7_readPair_172 (inI_of rfl) ?_
          exact ew_ret (o := some (aI 1)) rfl ⟨_, _, rfl, rfl, H⟩ ⟨dX7_readPair_173, .boolean, rfl, Or.inr (Or.inl rfl), by decide⟩
        · replace H := H.2 c54
          refine ew_iconst dX7_readPair_163 (inI_of rfl) ?_
          refine ew_goto (tgt := 168) dX7_readPair_164 (by decide) ?_
          obtain ⟨v58, H⟩ := H
          refine ew_iadd dX7_readPair_168 v58 ?_
          refine mw_pI dX7_readPair_169 (e_fl.a q1429) mf_23 (Or.inl rfl) (ty := .int) (by decide +kernel) trivial (fun s59 e60 => ?_)
          replace H := H s59 e60
          refine ew_iconst dX7_readPair_172 (inI_of rfl) ?_
          exact ew_ret (o := some (aI 1)) rfl ⟨_, _, rfl, rfl, H⟩ ⟨dX7_readPair_173, .boolean, rfl, Or.inr (Or.inl rfl), by decide⟩
  · replace H := H.2 c1
    refine ew_aload_n dX7_readPair_48 rfl lm0 ?_
    refine ew_callV (d := d + 7) (as := []) rfl dX7_readPair_49 me_goesOn rfl (ci := 1) rfl rfl (mh_o _ _) (Or.inl q1602) q1604 qs58 (Nat.le_of_ble_eq_true rfl) (Nat.le_refl 0) (Nat.le_refl 0) (S_goesOn (d := d + 6) H) (fun o h' hq62 _ => ?_) (fun E i h' q _ => (mQ_no q).elim)
    obtain ⟨s61, E63, rfl, H⟩ := hq62
    cases E63
    refine ew_aload_n dX7_readPair_52 rfl lm0 ?_
    refine ew_callV (d := d + 7) (as := []) rfl dX7_readPair_53 me_isName rfl (ci := 1) rfl rfl (mh_o _ _) (Or.inl q1629) q1631 qs64 (Nat.le_of_ble_eq_true rfl) (Nat.le_refl 0) (Nat.le_refl 0) (S_isName (d := d + 0) H) (fun o h' hq65 _ => ?_) (fun E i h' q _ => (mQi_no q).elim)
    obtain ⟨r67, s64, E66, rfl, H⟩ := hq65
    cases E66
    refine ew_if_ne (tgt := 65) dX7_readPair_56 (by decide) (fun c68 => ?_) (fun c68 => ?_)
    · replace H := H.2 c68
      refine ew_aload_n dX7_readPair_65 rfl lm0 ?_
      refine mw_gA dX7_readPair_66 (e_fl.a q1417) mf_11 rfl ?_
      refine ew_iload_n dX7_readPair_69 rfl lm2 ?_
      refine ew_iload_n dX7_readPair_70 rfl lm3 ?_
      obtain ⟨v69, H⟩ := H
      refine ew_iadd dX7_readPair_71 v69 ?_
      refine ew_aload_n dX7_readPair_72 rfl lm0 ?_
      refine ew_callV (d := d + 7) (as := []) rfl dX7_readPair_73 me_termHere rfl (ci := 1) rfl rfl (mh_o _ _) (Or.inl q1644) q1646 qs67 (Nat.le_of_ble_eq_true rfl) (Nat.le_refl 0) (Nat.le_refl 0) (S_termHere (d := d + 6) H) (fun o h' hq71 _ => ?_) (fun E i h' q _ => (mQi_no q).elim)
      obtain ⟨r73, s70, E72, rfl, H⟩ := hq71
      cases E72
      obtain ⟨v76, H⟩ := H
      refine mw_iast dX7_readPair_76 rfl v76.1 v76.2 (fun s74 e75 => ?_)
      replace H := H s74 e75
      refine ew_aload_n dX7_readPair_77 rfl lm0 ?_
      refine mw_gA dX7_readPair_78 (e_fl.a q1417) mf_11 rfl ?_
      refine ew_iload_n dX7_readPair_81 rfl lm2 ?_
      refine ew_iload_n dX7_readPair_82 rfl lm3 ?_
      obtain ⟨v77, H⟩ := H
      refine ew_iadd dX7_readPair_83 v77 ?_
      obtain ⟨v78, H⟩ := H
      refine mw_iald dX7_readPair_84 rfl v78.1 v78.2 ?_
      refine ew_iconst dX7_readPair_85 (inI_of rfl) ?_
      refine ew_icmp_ne (tgt := 95) dX7_readPair_86 (by decide) (fun c79 => ?_) (fun c79 => ?_)
      · replace H := H.2 c79
        obtain ⟨v80, H⟩ := H
        refine ew_iinc dX7_readPair_95 lm3 (by decide) v80 (lv' := [(3, aI (x3 + 1)), (0, aR (some mT)), (1, aI x1), (2, aI x2)]) rfl ?_
        refine ew_sub (List.forall_mem_cons.mpr ⟨lm1, (List.forall_mem_cons.mpr ⟨lm2, (List.forall_mem_cons.mpr ⟨lm3, (List.forall_mem_cons.mpr ⟨lm0, e_nm⟩)⟩)⟩)⟩) ?_
        refine ew_goto (tgt := 43) dX7_readPair_98 (by decide) ?_
        exact ew_sub (List.forall_mem_cons.mpr ⟨lm0, (List.forall_mem_cons.mpr ⟨lm1, (List.forall_mem_cons.mpr ⟨lm2, (List.forall_mem_cons.mpr ⟨lm3, e_nm⟩)⟩)⟩)⟩) H
      · replace H := H.1 c79
        refine ew_aload_n dX7_readPair_89 rfl lm0 ?_
        refine ew_iconst dX7_readPair_90 (inI_of rfl) ?_
        refine ew_callV (d := d + 7) (as := [aI 3]) rfl dX7_readPair_91 me_errs rfl (ci := 1) rfl rfl (mh_o _ _) (Or.inl q1625) q1627 qs63 (Nat.le_of_ble_eq_true rfl) (Nat.le_refl 0) (Nat.le_refl 0) (S_errs (d := d + 7) H) (fun o h' hq82 _ => ?_) (fun E i h' q _ => (mQi_no q).elim)
        obtain ⟨r84, s81, E83, rfl, H⟩ := hq82
        cases E83
        obtain ⟨v85, H⟩ := H
        exact ew_ret (o := some (aI r84)) rfl ⟨_, _, rfl, rfl, H⟩ ⟨dX7_readPair_94, .boolean, rfl, Or.inr (Or.inl rfl), by rcases v85 with z | z <;> rw [z] <;> decide⟩
    · replace H := H.1 c68
      refine ew_aload_n dX7_readPair_59 rfl lm0 ?_
      refine ew_iconst dX7_readPair_60 (inI_of rfl) ?_
      refine ew_callV (d := d + 7) (as := [aI 1]) rfl dX7_readPair_61 me_errs rfl (ci := 1) rfl rfl (mh_o _ _) (Or.inl q1625) q1627 qs63 (Nat.le_of_ble_eq_true rfl) (Nat.le_refl 0) (Nat.le_refl 0) (S_errs (d := d + 7) H) (fun o h' hq87 _ => ?_) (fun E i h' q _ => (mQi_no q).elim)
      obtain ⟨r89, s86, E88, rfl, H⟩ := hq87
      cases E88
      obtain ⟨v90, H⟩ := H
      exact ew_ret (o := some (aI r89)) rfl ⟨_, _, rfl, rfl, H⟩ ⟨dX7_readPair_64, .boolean, rfl, Or.inr (Or.inl rfl), by rcases v90 with z | z <;> rw [z] <;> decide⟩
set_option maxHeartbeats 4000000 in
theorem T_readPair_E (d : Nat) (g : AH) (K : Int → MS → Prop) (a : Int) (s0 : MS) (H : B_readPair_E (W_readPair_43 d g K) K a s0) : EW mm_readPair (d + 8) 0 0 (mQi g K) 0 [(0, aR (some mT)), (1, aI a)] [] (mh s0 g) := by
  refine ew_iload_n dX7_readPair_0 rfl lm1 ?_
  refine ew_if_eq (tgt := 16) dX7_readPair_1 (by decide) (fun c1 => ?_) (fun c1 => ?_)
  · replace H := H.1 c1
    refine ew_aload_n dX7_readPair_16 rfl lm0 ?_
    refine mw_gI dX7_readPair_17 (e_fl.a q1429) mf_23 rfl ?_
    refine ew_bipush dX7_readPair_20 (inI_of rfl) (by decide) ?_
    refine ew_icmp_ne (tgt := 31) dX7_readPair_22 (by decide) (fun c2 => ?_) (fun c2 => ?_)
    · replace H := H.2 c2
      refine ew_iconst dX7_readPair_31 (inI_of rfl) ?_
      refine ew_bipush dX7_readPair_32 (inI_of rfl) (by decide) ?_
      refine ew_aload_n dX7_readPair_34 rfl lm0 ?_
      refine mw_gI dX7_readPair_35 (e_fl.a q1430) mf_24 rfl ?_
      obtain ⟨v3, H⟩ := H
      refine ew_iadd dX7_readPair_38 v3 ?_
      obtain ⟨v4, H⟩ := H
      refine ew_imul dX7_readPair_39 v4 ?_
      refine ew_istore_n dX7_readPair_40 rfl (by decide) (lv' := [(2, aI (4 * (48 + (s0.1 24)))), (0, aR (some mT)), (1, aI a)]) rfl ?_
      refine ew_sub (List.forall_mem_cons.mpr ⟨lm1, (List.forall_mem_cons.mpr ⟨lm2, (List.forall_mem_cons.mpr ⟨lm0, e_nm⟩)⟩)⟩) ?_
      refine ew_iconst dX7_readPair_41 (inI_of rfl) ?_
      refine ew_istore_n dX7_readPair_42 rfl (by decide) (lv' := [(3, aI 0), (0, aR (some mT)), (1, aI a), (2, aI (4 * (48 + (s0.1 24))))]) rfl ?_
      refine ew_sub (List.forall_mem_cons.mpr ⟨lm1, (List.forall_mem_cons.mpr ⟨lm2, (List.forall_mem_cons.mpr ⟨lm3, (List.forall_mem_cons.mpr ⟨lm0, e_nm⟩)⟩)⟩)⟩) ?_
      exact ew_sub (List.forall_mem_cons.mpr ⟨lm0, (List.forall_mem_cons.mpr ⟨lm1, (List.forall_mem_cons.mpr ⟨lm2, (List.forall_mem_cons.mpr ⟨lm3, e_nm⟩)⟩)⟩)⟩) H
    · replace H := H.1 c2
      refine ew_aload_n dX7_readPair_25 rfl lm0 ?_
      refine ew_iconst dX7_readPair_26 (inI_of rfl) ?_
      refine ew_callV (d := d + 7) (as := [aI 4]) rfl dX7_readPair_27 me_errs rfl (ci := 1) rfl rfl (mh_o _ _) (Or.inl q1625) q1627 qs63 (Nat.le_of_ble_eq_true rfl) (Nat.le_refl 0) (Nat.le_refl 0) (S_errs (d := d + 7) H) (fun o h' hq6 _ => ?_) (fun E i h' q _ => (mQi_no q).elim)
      obtain ⟨r8, s5, E7, rfl, H⟩ := hq6
      cases E7
      obtain ⟨v9, H⟩ := H
      exact ew_ret (o := some (aI r8)) rfl ⟨_, _, rfl, rfl, H⟩ ⟨dX7_readPair_30, .boolean, rfl, Or.inr (Or.inl rfl), by rcases v9 with z | z <;> rw [z] <;> decide⟩
  · replace H := H.2 c1
    refine ew_aload_n dX7_readPair_4 rfl lm0 ?_
    refine mw_gI dX7_readPair_5 (e_fl.a q1428) mf_22 rfl ?_
    refine ew_bipush dX7_readPair_8 (inI_of rfl) (by decide) ?_
    refine ew_icmp_ne (tgt := 31) dX7_readPair_10 (by decide) (fun c10 => ?_) (fun c10 => ?_)
    · replace H := H.2 c10
      refine ew_iconst dX7_readPair_31 (inI_of rfl) ?_
      refine ew_bipush dX7_readPair_32 (inI_of rfl) (by decide) ?_
      refine ew_aload_n dX7_readPair_34 rfl lm0 ?_
      refine mw_gI dX7_readPair_35 (e_fl.a q1430) mf_24 rfl ?_
      obtain ⟨v11, H⟩ := H
      refine ew_iadd dX7_readPair_38 v11 ?_
      obtain ⟨v12, H⟩ := H
      refine ew_imul dX7_readPair_39 v12 ?_
      refine ew_istore_n dX7_readPair_40 rfl (by decide) (lv' := [(2, aI (4 * (48 + (s0.1 24)))), (0, aR (some mT)), (1, aI a)]) rfl ?_
      refine ew_sub (List.forall_mem_cons.mpr ⟨lm1, (List.forall_mem_cons.mpr ⟨lm2, (List.forall_mem_cons.mpr ⟨lm0, e_nm⟩)⟩)⟩) ?_
      refine ew_iconst dX7_readPair_41 (inI_of rfl) ?_
      refine ew_istore_n dX7_readPair_42 rfl (by decide) (lv' := [(3, aI 0), (0, aR (some mT)), (1, aI a), (2, aI (4 * (48 + (s0.1 24))))]) rfl ?_
      refine ew_sub (List.forall_mem_cons.mpr ⟨lm1, (List.forall_mem_cons.mpr ⟨lm2, (List.forall_mem_cons.mpr ⟨lm3, (List.forall_mem_cons.mpr ⟨lm0, e_nm⟩)⟩)⟩)⟩) ?_
      exact ew_sub (List.forall_mem_cons.mpr ⟨lm0, (List.forall_mem_cons.mpr ⟨lm1, (List.forall_mem_cons.mpr ⟨lm2, (List.forall_mem_cons.mpr ⟨lm3, e_nm⟩)⟩)⟩)⟩) H
    · replace H := H.1 c10
      refine ew_goto (tgt := 25) dX7_readPair_13 (by decide) ?_
      refine ew_aload_n dX7_readPair_25 rfl lm0 ?_
      refine ew_iconst dX7_readPair_26 (inI_of rfl) ?_
      refine ew_callV (d := d + 7) (as := [aI 4]) rfl dX7_readPair_27 me_errs rfl (ci := 1) rfl rfl (mh_o _ _) (Or.inl q1625) q1627 qs63 (Nat.le_of_ble_eq_true rfl) (Nat.le_refl 0) (Nat.le_refl 0) (S_errs (d := d + 7) H) (fun o h' hq14 _ => ?_) (fun E i h' q _ => (mQi_no q).elim)
      obtain ⟨r16, s13, E15, rfl, H⟩ := hq14
      cases E15
      obtain ⟨v17, H⟩ := H
      exact ew_ret (o := some (aI r16)) rfl ⟨_, _, rfl, rfl, H⟩ ⟨dX7_readPair_30, .boolean, rfl, Or.inr (Or.inl rfl), by rcases v17 with z | z <;> rw [z] <;> decide⟩
def C_readPair (a : Int) (s0 : MS) (K : Int → MS → Prop) : Prop := ∀ (X43 : Int → Int → Int → MS → Prop), (∀ (x1 : Int) (x2 : Int) (x3 : Int) (s0 : MS), B_readPair_43 X43 K x1 x2 x3 s0 → X43 x1 x2 x3 s0) → B_readPair_E X43 K a s0
theorem S_readPair {d : Nat} {g : AH} {K : Int → MS → Prop} {a : Int} {s0 : MS} (H : C_readPair a s0 K) : Sp mm_readPair (d + 8) 0 0 [aR (some mT), aI a] (mh s0 g) (mQi g K) :=
  ew_sp rfl (Nat.le_of_ble_eq_true rfl) (T_readPair_E d g K a s0 (H _ (fun x1 x2 x3 s0 H => T_readPair_43 d g K x1 x2 x3 s0 H)))
