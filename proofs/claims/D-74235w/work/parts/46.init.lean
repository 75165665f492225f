/-! CONSTRUCTOR of the reference (gen/init4.py) -/
set_option maxRecDepth 100000
def mm0 : MS := (fun k => if k = 3 then -1 else 0, fun _ _ => 0)
def md0 : Nat → AV := fun k => if k < 56 then (if mK k = 0 ∨ mK k = 4 then aI 0 else aR none) else mF mm0 k
abbrev mm_X7_init : EM := (yX7_init, cX7_init, 1, (Option.none : Option Jvm.ClassFile.FieldType), [])
theorem me_X7_init : e_mth mm_X7_init 0 := ⟨rfl, q1404, q117, by decide +kernel, by decide⟩
set_option maxHeartbeats 4000000 in
theorem S_new_m {d : Nat} {g : AH} (hr : ∀ k, g (0, 1, k) = none) : Sp mm_X7_init (d + 1) 29 7054 [aR (some mT)] (hup g mT (kO 1 md0)) (fun o h' => o = Sum.inl none ∧ h' = mh mm0 g) := by
  refine ew_sp rfl (Nat.le_of_ble_eq_true rfl) ?_
  refine ew_aload_n dX7_init_0 rfl lm0 ?_
  refine ew_objInit (d := d) dX7_init_1 q1405 q147 q148 (Nat.le_of_ble_eq_true rfl) ?_
  refine ew_aload_n dX7_init_4 rfl lm0 ?_
  refine ew_iconst dX7_init_5 (inI_of rfl) ?_
  refine ew_put dX7_init_6 (e_fl.a q1409) mf_3 (hup_self _ _ _) lm0 (ty := .int) (by decide +kernel) trivial ?_
  rw [hup_hup]
  refine ew_aload_n dX7_init_9 rfl lm0 ?_
  refine ew_sipush dX7_init_10 (inI_of rfl) (by decide) ?_
  refine ew_newIB (t := 0) (N := 500) (i := (0, 1, 4)) dX7_init_13 rfl (by decide) q302 rfl (by decide) ((hup_ne (by decide)).trans (hr _)) (by decide) (by decide) (by decide) ?_
  refine ew_putF dX7_init_15 q1410 mf_4 rfl ((hup_ne (by decide)).trans (hup_self _ _ _)) lm0 (ty := .array .int) (by decide +kernel) e_fitA ?_
  rw [hup_x (by decide)]
  refine ew_aload_n dX7_init_18 rfl lm0 ?_
  refine ew_bipush dX7_init_19 (inI_of rfl) (by decide) ?_
  refine ew_newIB (t := 0) (N := 16) (i := (0, 1, 7)) dX7_init_21 rfl (by decide) q302 rfl (by decide) ((hup_ne (by decide)).trans ((hup_ne (by decide)).trans (hr _))) (by decide) (by decide) (by decide) ?_
  refine ew_putF dX7_init_23 q1413 mf_7 rfl ((hup_ne (by decide)).trans (hup_self _ _ _)) lm0 (ty := .array .int) (by decide +kernel) e_fitA ?_
  rw [hup_x (by decide)]
  refine ew_aload_n dX7_init_26 rfl lm0 ?_
  refine ew_bipush dX7_init_27 (inI_of rfl) (by decide) ?_
  refine ew_newIB (t := 0) (N := 96) (i := (0, 1, 10)) dX7_init_29 rfl (by decide) q302 rfl (by decide) ((hup_ne (by decide)).trans ((hup_ne (by decide)).trans ((hup_ne (by decide)).trans (hr _)))) (by decide) (by decide) (by decide) ?_
  refine ew_putF dX7_init_31 q1416 mf_10 rfl ((hup_ne (by decide)).trans (hup_self _ _ _)) lm0 (ty := .array .int) (by decide +kernel) e_fitA ?_
  rw [hup_x (by decide)]
  refine ew_aload_n dX7_init_34 rfl lm0 ?_
  refine ew_sipush dX7_init_35 (inI_of rfl) (by decide) ?_
  refine ew_newIB (t := 0) (N := 384) (i := (0, 1, 11)) dX7_init_38 rfl (by decide) q302 rfl (by decide) ((hup_ne (by decide)).trans ((hup_ne (by decide)).trans ((hup_ne (by decide)).trans ((hup_ne (by decide)).trans (hr _))))) (by decide) (by decide) (by decide) ?_
  refine ew_putF dX7_init_40 q1417 mf_11 rfl ((hup_ne (by decide)).trans (hup_self _ _ _)) lm0 (ty := .array .int) (by decide +kernel) e_fitA ?_
  rw [hup_x (by decide)]
  refine ew_aload_n dX7_init_43 rfl lm0 ?_
  refine ew_sipush dX7_init_44 (inI_of rfl) (by decide) ?_
  refine ew_newIB (t := 0) (N := 288) (i := (0, 1, 12)) dX7_init_47 rfl (by decide) q302 rfl (by decide) ((hup_ne (by decide)).trans ((hup_ne (by decide)).trans ((hup_ne (by decide)).trans ((hup_ne (by decide)).trans ((hup_ne (by decide)).trans (hr _)))))) (by decide) (by decide) (by decide) ?_
  refine ew_putF dX7_init_49 q1418 mf_12 rfl ((hup_ne (by decide)).trans (hup_self _ _ _)) lm0 (ty := .array .int) (by decide +kernel) e_fitA ?_
  rw [hup_x (by decide)]
  refine ew_aload_n dX7_init_52 rfl lm0 ?_
  refine ew_bipush dX7_init_53 (inI_of rfl) (by decide) ?_
  refine ew_newIB (t := 0) (N := 48) (i := (0, 1, 25)) dX7_init_55 rfl (by decide) q302 rfl (by decide) ((hup_ne (by decide)).trans ((hup_ne (by decide)).trans ((hup_ne (by decide)).trans ((hup_ne (by decide)).trans ((hup_ne (by decide)).trans ((hup_ne (by decide)).trans (hr _))))))) (by decide) (by decide) (by decide) ?_
  refine ew_putF dX7_init_57 q1431 mf_25 rfl ((hup_ne (by decide)).trans (hup_self _ _ _)) lm0 (ty := .array .int) (by decide +kernel) e_fitA ?_
  rw [hup_x (by decide)]
  refine ew_aload_n dX7_init_60 rfl lm0 ?_
  refine ew_bipush dX7_init_61 (inI_of rfl) (by decide) ?_
  refine ew_newIB (t := 0) (N := 24) (i := (0, 1, 28)) dX7_init_63 rfl (by decide) q302 rfl (by decide) ((hup_ne (by decide)).trans ((hup_ne (by decide)).trans ((hup_ne (by decide)).trans ((hup_ne (by decide)).trans ((hup_ne (by decide)).trans ((hup_ne (by decide)).trans ((hup_ne (by decide)).trans (hr _)))))))) (by decide) (by decide) (by decide) ?_
  refine ew_putF dX7_init_65 q1434 mf_28 rfl ((hup_ne (by decide)).trans (hup_self _ _ _)) lm0 (ty := .array .int) (by decide +kernel) e_fitA ?_
  rw [hup_x (by decide)]
  refine ew_aload_n dX7_init_68 rfl lm0 ?_
  refine ew_bipush dX7_init_69 (inI_of rfl) (by decide) ?_
  refine ew_newIB (t := 0) (N := 72) (i := (0, 1, 29)) dX7_init_71 rfl (by decide) q302 rfl (by decide) ((hup_ne (by decide)).trans ((hup_ne (by decide)).trans ((hup_ne (by decide)).trans ((hup_ne (by decide)).trans ((hup_ne (by decide)).trans ((hup_ne (by decide)).trans ((hup_ne (by decide)).trans ((hup_ne (by decide)).trans (hr _))))))))) (by decide) (by decide) (by decide) ?_
  refine ew_putF dX7_init_73 q1435 mf_29 rfl ((hup_ne (by decide)).trans (hup_self _ _ _)) lm0 (ty := .array .int) (by decide +kernel) e_fitA ?_
  rw [hup_x (by decide)]
  refine ew_aload_n dX7_init_76 rfl lm0 ?_
  refine ew_bipush dX7_init_77 (inI_of rfl) (by decide) ?_
  refine ew_newIB (t := 0) (N := 13) (i := (0, 1, 31)) dX7_init_79 rfl (by decide) q302 rfl (by decide) ((hup_ne (by decide)).trans ((hup_ne (by decide)).trans ((hup_ne (by decide)).trans ((hup_ne (by decide)).trans ((hup_ne (by decide)).trans ((hup_ne (by decide)).trans ((hup_ne (by decide)).trans ((hup_ne (by decide)).trans ((hup_ne (by decide)).trans (hr _)))))))))) (by decide) (by decide) (by decide) ?_
  refine ew_putF dX7_init_81 q1437 mf_31 rfl ((hup_ne (by decide)).trans (hup_self _ _ _)) lm0 (ty := .array .int) (by decide +kernel) e_fitA ?_
  rw [hup_x (by decide)]
  refine ew_aload_n dX7_init_84 rfl lm0 ?_
  refine ew_bipush dX7_init_85 (inI_of rfl) (by decide) ?_
  refine ew_newIB (t := 0) (N := 13) (i := (0, 1, 32)) dX7_init_87 rfl (by decide) q302 rfl (by decide) ((hup_ne (by decide)).trans ((hup_ne (by decide)).trans ((hup_ne (by decide)).trans ((hup_ne (by decide)).trans ((hup_ne (by decide)).trans ((hup_ne (by decide)).trans ((hup_ne (by decide)).trans ((hup_ne (by decide)).trans ((hup_ne (by decide)).trans ((hup_ne (by decide)).trans (hr _))))))))))) (by decide) (by decide) (by decide) ?_
  refine ew_putF dX7_init_89 q1438 mf_32 rfl ((hup_ne (by decide)).trans (hup_self _ _ _)) lm0 (ty := .array .int) (by decide +kernel) e_fitA ?_
  rw [hup_x (by decide)]
  refine ew_aload_n dX7_init_92 rfl lm0 ?_
  refine ew_bipush dX7_init_93 (inI_of rfl) (by decide) ?_
  refine ew_newIB (t := 0) (N := 8) (i := (0, 1, 34)) dX7_init_95 rfl (by decide) q302 rfl (by decide) ((hup_ne (by decide)).trans ((hup_ne (by decide)).trans ((hup_ne (by decide)).trans ((hup_ne (by decide)).trans ((hup_ne (by decide)).trans ((hup_ne (by decide)).trans ((hup_ne (by decide)).trans ((hup_ne (by decide)).trans ((hup_ne (by decide)).trans ((hup_ne (by decide)).trans ((hup_ne (by decide)).trans (hr _)))))))))))) (by decide) (by decide) (by decide) ?_
  refine ew_putF dX7_init_97 q1440 mf_34 rfl ((hup_ne (by decide)).trans (hup_self _ _ _)) lm0 (ty := .array .int) (by decide +kernel) e_fitA ?_
  rw [hup_x (by decide)]
  refine ew_aload_n dX7_init_100 rfl lm0 ?_
  refine ew_bipush dX7_init_101 (inI_of rfl) (by decide) ?_
  refine ew_newIB (t := 0) (N := 8) (i := (0, 1, 35)) dX7_init_103 rfl (by decide) q302 rfl (by decide) ((hup_ne (by decide)).trans ((hup_ne (by decide)).trans ((hup_ne (by decide)).trans ((hup_ne (by decide)).trans ((hup_ne (by decide)).trans ((hup_ne (by decide)).trans ((hup_ne (by decide)).trans ((hup_ne (by decide)).trans ((hup_ne (by decide)).trans ((hup_ne (by decide)).trans ((hup_ne (by decide)).trans ((hup_ne (by decide)).trans (hr _))))))))))))) (by decide) (by decide) (by decide) ?_
  refine ew_putF dX7_init_105 q1441 mf_35 rfl ((hup_ne (by decide)).trans (hup_self _ _ _)) lm0 (ty := .array .int) (by decide +kernel) e_fitA ?_
  rw [hup_x (by decide)]
  refine ew_aload_n dX7_init_108 rfl lm0 ?_
  refine ew_bipush dX7_init_109 (inI_of rfl) (by decide) ?_
  refine ew_newIB (t := 0) (N := 24) (i := (0, 1, 36)) dX7_init_111 rfl (by decide) q302 rfl (by decide) ((hup_ne (by decide)).trans ((hup_ne (by decide)).trans ((hup_ne (by decide)).trans ((hup_ne (by decide)).trans ((hup_ne (by decide)).trans ((hup_ne (by decide)).trans ((hup_ne (by decide)).trans ((hup_ne (by decide)).trans ((hup_ne (by decide)).trans ((hup_ne (by decide)).trans ((hup_ne (by decide)).trans ((hup_ne (by decide)).trans ((hup_ne (by decide)).trans (hr _)))))))))))))) (by decide) (by decide) (by decide) ?_
  refine ew_putF dX7_init_113 q1442 mf_36 rfl ((hup_ne (by decide)).trans (hup_self _ _ _)) lm0 (ty := .array .int) (by decide +kernel) e_fitA ?_
  rw [hup_x (by decide)]
  refine ew_aload_n dX7_init_116 rfl lm0 ?_
  refine ew_bipush dX7_init_117 (inI_of rfl) (by decide) ?_
  refine ew_newIB (t := 0) (N := 24) (i := (0, 1, 37)) dX7_init_119 rfl (by decide) q302 rfl (by decide) ((hup_ne (by decide)).trans ((hup_ne (by decide)).trans ((hup_ne (by decide)).trans ((hup_ne (by decide)).trans ((hup_ne (by decide)).trans ((hup_ne (by decide)).trans ((hup_ne (by decide)).trans ((hup_ne (by decide)).trans ((hup_ne (by decide)).trans ((hup_ne (by decide)).trans ((hup_ne (by decide)).trans ((hup_ne (by decide)).trans ((hup_ne (by decide)).trans ((hup_ne (by decide)).trans (hr _))))))))))))))) (by decide) (by decide) (by decide) ?_
  refine ew_putF dX7_init_121 q1443 mf_37 rfl ((hup_ne (by decide)).trans (hup_self _ _ _)) lm0 (ty := .array .int) (by decide +kernel) e_fitA ?_
  rw [hup_x (by decide)]
  refine ew_aload_n dX7_init_124 rfl lm0 ?_
  refine ew_bipush dX7_init_125 (inI_of rfl) (by decide) ?_
  refine ew_newIB (t := 0) (N := 24) (i := (0, 1, 38)) dX7_init_127 rfl (by decide) q302 rfl (by decide) ((hup_ne (by decide)).trans ((hup_ne (by decide)).trans ((hup_ne (by decide)).trans ((hup_ne (by decide)).trans ((hup_ne (by decide)).trans ((hup_ne (by decide)).trans ((hup_ne (by decide)).trans ((hup_ne (by decide)).trans ((hup_ne (by decide)).trans ((hup_ne (by decide)).trans ((hup_ne (by decide)).trans ((hup_ne (by decide)).trans ((hup_ne (by decide)).trans ((hup_ne (by decide)).trans ((hup_ne (by decide)).trans (hr _)))))))))))))))) (by decide) (by decide) (by decide) ?_
  refine ew_putF dX7_init_129 q1444 mf_38 rfl ((hup_ne (by decide)).trans (hup_self _ _ _)) lm0 (ty := .array .int) (by decide +kernel) e_fitA ?_
  rw [hup_x (by decide)]
  refine ew_aload_n dX7_init_132 rfl lm0 ?_
  refine ew_bipush dX7_init_133 (inI_of rfl) (by decide) ?_
  refine ew_newIB (t := 0) (N := 24) (i := (0, 1, 40)) dX7_init_135 rfl (by decide) q302 rfl (by decide) ((hup_ne (by decide)).trans ((hup_ne (by decide)).trans ((hup_ne (by decide)).trans ((hup_ne (by decide)).trans ((hup_ne (by decide)).trans ((hup_ne (by decide)).trans ((hup_ne (by decide)).trans ((hup_ne (by decide)).trans ((hup_ne (by decide)).trans ((hup_ne (by decide)).trans ((hup_ne (by decide)).trans ((hup_ne (by decide)).trans ((hup_ne (by decide)).trans ((hup_ne (by decide)).trans ((hup_ne (by decide)).trans ((hup_ne (by decide)).trans (hr _))))))))))))))))) (by decide) (by decide) (by decide) ?_
  refine ew_putF dX7_init_137 q1446 mf_40 rfl ((hup_ne (by decide)).trans (hup_self _ _ _)) lm0 (ty := .array .int) (by decide +kernel) e_fitA ?_
  rw [hup_x (by decide)]
  refine ew_aload_n dX7_init_140 rfl lm0 ?_
  refine ew_bipush dX7_init_141 (inI_of rfl) (by decide) ?_
  refine ew_newIB (t := 0) (N := 24) (i := (0, 1, 41)) dX7_init_143 rfl (by decide) q302 rfl (by decide) ((hup_ne (by decide)).trans ((hup_ne (by decide)).trans ((hup_ne (by decide)).trans ((hup_ne (by decide)).trans ((hup_ne (by decide)).trans ((hup_ne (by decide)).trans ((hup_ne (by decide)).trans ((hup_ne (by decide)).trans ((hup_ne (by decide)).trans ((hup_ne (by decide)).trans ((hup_ne (by decide)).trans ((hup_ne (by decide)).trans ((hup_ne (by decide)).trans ((hup_ne (by decide)).trans ((hup_ne (by decide)).trans ((hup_ne (by decide)).trans ((hup_ne (by decide)).trans (hr _)))))))))))))))))) (by decide) (by decide) (by decide) ?_
  refine ew_putF dX7_init_145 q1447 mf_41 rfl ((hup_ne (by decide)).trans (hup_self _ _ _)) lm0 (ty := .array .int) (by decide +kernel) e_fitA ?_
  rw [hup_x (by decide)]
  refine ew_aload_n dX7_init_148 rfl lm0 ?_
  refine ew_bipush dX7_init_149 (inI_of rfl) (by decide) ?_
  refine ew_newIB (t := 0) (N := 24) (i := (0, 1, 42)) dX7_init_151 rfl (by decide) q302 rfl (by decide) ((hup_ne (by decide)).trans ((hup_ne (by decide)).trans ((hup_ne (by decide)).trans ((hup_ne (by decide)).trans ((hup_ne (by decide)).trans ((hup_ne (by decide)).trans ((hup_ne (by decide)).trans ((hup_ne (by decide)).trans ((hup_ne (by decide)).trans ((hup_ne (by decide)).trans ((hup_ne (by decide)).trans ((hup_ne (by decide)).trans ((hup_ne (by decide)).trans ((hup_ne (by decide)).trans ((hup_ne (by decide)).trans ((hup_ne (by decide)).trans ((hup_ne (by decide)).trans ((hup_ne (by decide)).trans (hr _))))))))))))))))))) (by decide) (by decide) (by decide) ?_
  refine ew_putF dX7_init_153 q1448 mf_42 rfl ((hup_ne (by decide)).trans (hup_self _ _ _)) lm0 (ty := .array .int) (by decide +kernel) e_fitA ?_
  rw [hup_x (by decide)]
  refine ew_aload_n dX7_init_156 rfl lm0 ?_
  refine ew_bipush dX7_init_157 (inI_of rfl) (by decide) ?_
  refine ew_newIB (t := 0) (N := 24) (i := (0, 1, 43)) dX7_init_159 rfl (by decide) q302 rfl (by decide) ((hup_ne (by decide)).trans ((hup_ne (by decide)).trans ((hup_ne (by decide)).trans ((hup_ne (by decide)).trans ((hup_ne (by decide)).trans ((hup_ne (by decide)).trans ((hup_ne (by decide)).trans ((hup_ne (by decide)).trans ((hup_ne (by decide)).trans ((hup_ne (by decide)).trans ((hup_ne (by decide)).trans ((hup_ne (by decide)).trans ((hup_ne (by decide)).trans ((hup_ne (by decide)).trans ((hup_ne (by decide)).trans ((hup_ne (by decide)).trans ((hup_ne (by decide)).trans ((hup_ne (by decide)).trans ((hup_ne (by decide)).trans (hr _)))))))))))))))))))) (by decide) (by decide) (by decide) ?_
  refine ew_putF dX7_init_161 q1449 mf_43 rfl ((hup_ne (by decide)).trans (hup_self _ _ _)) lm0 (ty := .array .int) (by decide +kernel) e_fitA ?_
  rw [hup_x (by decide)]
  refine ew_aload_n dX7_init_164 rfl lm0 ?_
  refine ew_bipush dX7_init_165 (inI_of rfl) (by decide) ?_
  refine ew_newIB (t := 0) (N := 24) (i := (0, 1, 44)) dX7_init_167 rfl (by decide) q302 rfl (by decide) ((hup_ne (by decide)).trans ((hup_ne (by decide)).trans ((hup_ne (by decide)).trans ((hup_ne (by decide)).trans ((hup_ne (by decide)).trans ((hup_ne (by decide)).trans ((hup_ne (by decide)).trans ((hup_ne (by decide)).trans ((hup_ne (by decide)).trans ((hup_ne (by decide)).trans ((hup_ne (by decide)).trans ((hup_ne (by decide)).trans ((hup_ne (by decide)).trans ((hup_ne (by decide)).trans ((hup_ne (by decide)).trans ((hup_ne (by decide)).trans ((hup_ne (by decide)).trans ((hup_ne (by decide)).trans ((hup_ne (by decide)).trans ((hup_ne (by decide)).trans (hr _))))))))))))))))))))) (by decide) (by decide) (by decide) ?_
  refine ew_putF dX7_init_169 q1450 mf_44 rfl ((hup_ne (by decide)).trans (hup_self _ _ _)) lm0 (ty := .array .int) (by decide +kernel) e_fitA ?_
  rw [hup_x (by decide)]
  refine ew_aload_n dX7_init_172 rfl lm0 ?_
  refine ew_bipush dX7_init_173 (inI_of rfl) (by decide) ?_
  refine ew_newIB (t := 0) (N := 24) (i := (0, 1, 45)) dX7_init_175 rfl (by decide) q302 rfl (by decide) ((hup_ne (by decide)).trans ((hup_ne (by decide)).trans ((hup_ne (by decide)).trans ((hup_ne (by decide)).trans ((hup_ne (by decide)).trans ((hup_ne (by decide)).trans ((hup_ne (by decide)).trans ((hup_ne (by decide)).trans ((hup_ne (by decide)).trans ((hup_ne (by decide)).trans ((hup_ne (by decide)).trans ((hup_ne (by decide)).trans ((hup_ne (by decide)).trans ((hup_ne (by decide)).trans ((hup_ne (by decide)).trans ((hup_ne (by decide)).trans ((hup_ne (by decide)).trans ((hup_ne (by decide)).trans ((hup_ne (by decide)).trans ((hup_ne (by decide)).trans ((hup_ne (by decide)).trans (hr _)))))))))))))))))))))) (by decide) (by decide) (by decide) ?_
  refine ew_putF dX7_init_177 q1451 mf_45 rfl ((hup_ne (by decide)).trans (hup_self _ _ _)) lm0 (ty := .array .int) (by decide +kernel) e_fitA ?_
  rw [hup_x (by decide)]
  refine ew_aload_n dX7_init_180 rfl lm0 ?_
  refine ew_sipush dX7_init_181 (inI_of rfl) (by decide) ?_
  refine ew_newIB (t := 1) (N := 4096) (i := (0, 1, 46)) dX7_init_184 rfl (by decide) q303 rfl (by decide) ((hup_ne (by decide)).trans ((hup_ne (by decide)).trans ((hup_ne (by decide)).trans ((hup_ne (by decide)).trans ((hup_ne (by decide)).trans ((hup_ne (by decide)).trans ((hup_ne (by decide)).trans ((hup_ne (by decide)).trans ((hup_ne (by decide)).trans ((hup_ne (by decide)).trans ((hup_ne (by decide)).trans ((hup_ne (by decide)).trans ((hup_ne (by decide)).trans ((hup_ne (by decide)).trans ((hup_ne (by decide)).trans ((hup_ne (by decide)).trans ((hup_ne (by decide)).trans ((hup_ne (by decide)).trans ((hup_ne (by decide)).trans ((hup_ne (by decide)).trans ((hup_ne (by decide)).trans ((hup_ne (by decide)).trans (hr _))))))))))))))))))))))) (by decide) (by decide) (by decide) ?_
  refine ew_putF dX7_init_186 q1452 mf_46 rfl ((hup_ne (by decide)).trans (hup_self _ _ _)) lm0 (ty := .array .boolean) (by decide +kernel) e_fitA ?_
  rw [hup_x (by decide)]
  refine ew_aload_n dX7_init_189 rfl lm0 ?_
  refine ew_bipush dX7_init_190 (inI_of rfl) (by decide) ?_
  refine ew_newIB (t := 0) (N := 24) (i := (0, 1, 47)) dX7_init_192 rfl (by decide) q302 rfl (by decide) ((hup_ne (by decide)).trans ((hup_ne (by decide)).trans ((hup_ne (by decide)).trans ((hup_ne (by decide)).trans ((hup_ne (by decide)).trans ((hup_ne (by decide)).trans ((hup_ne (by decide)).trans ((hup_ne (by decide)).trans ((hup_ne (by decide)).trans ((hup_ne (by decide)).trans ((hup_ne (by decide)).trans ((hup_ne (by decide)).trans ((hup_ne (by decide)).trans ((hup_ne (by decide)).trans ((hup_ne (by decide)).trans ((hup_ne (by decide)).trans ((hup_ne (by decide)).trans ((hup_ne (by decide)).trans ((hup_ne (by decide)).trans ((hup_ne (by decide)).trans ((hup_ne (by decide)).trans ((hup_ne (by decide)).trans ((hup_ne (by decide)).trans (hr _)))))))))))))))))))))))) (by decide) (by decide) (by decide) ?_
  refine ew_putF dX7_init_194 q1453 mf_47 rfl ((hup_ne (by decide)).trans (hup_self _ _ _)) lm0 (ty := .array .int) (by decide +kernel) e_fitA ?_
  rw [hup_x (by decide)]
  refine ew_aload_n dX7_init_197 rfl lm0 ?_
  refine ew_bipush dX7_init_198 (inI_of rfl) (by decide) ?_
  refine ew_newIB (t := 0) (N := 24) (i := (0, 1, 48)) dX7_init_200 rfl (by decide) q302 rfl (by decide) ((hup_ne (by decide)).trans ((hup_ne (by decide)).trans ((hup_ne (by decide)).trans ((hup_ne (by decide)).trans ((hup_ne (by decide)).trans ((hup_ne (by decide)).trans ((hup_ne (by decide)).trans ((hup_ne (by decide)).trans ((hup_ne (by decide)).trans ((hup_ne (by decide)).trans ((hup_ne (by decide)).trans ((hup_ne (by decide)).trans ((hup_ne (by decide)).trans ((hup_ne (by decide)).trans ((hup_ne (by decide)).trans ((hup_ne (by decide)).trans ((hup_ne (by decide)).trans ((hup_ne (by decide)).trans ((hup_ne (by decide)).trans ((hup_ne (by decide)).trans ((hup_ne (by decide)).trans ((hup_ne (by decide)).trans ((hup_ne (by decide)).trans ((hup_ne (by decide)).trans (hr _))))))))))))))))))))))))) (by decide) (by decide) (by decide) ?_
  refine ew_putF dX7_init_202 q1454 mf_48 rfl ((hup_ne (by decide)).trans (hup_self _ _ _)) lm0 (ty := .array .int) (by decide +kernel) e_fitA ?_
  rw [hup_x (by decide)]
  refine ew_aload_n dX7_init_205 rfl lm0 ?_
  refine ew_sipush dX7_init_206 (inI_of rfl) (by decide) ?_
  refine ew_newLB (N := 576) (i := (0, 1, 49)) dX7_init_209 q389 rfl (by decide) ((hup_ne (by decide)).trans ((hup_ne (by decide)).trans ((hup_ne (by decide)).trans ((hup_ne (by decide)).trans ((hup_ne (by decide)).trans ((hup_ne (by decide)).trans ((hup_ne (by decide)).trans ((hup_ne (by decide)).trans ((hup_ne (by decide)).trans ((hup_ne (by decide)).trans ((hup_ne (by decide)).trans ((hup_ne (by decide)).trans ((hup_ne (by decide)).trans ((hup_ne (by decide)).trans ((hup_ne (by decide)).trans ((hup_ne (by decide)).trans ((hup_ne (by decide)).trans ((hup_ne (by decide)).trans ((hup_ne (by decide)).trans ((hup_ne (by decide)).trans ((hup_ne (by decide)).trans ((hup_ne (by decide)).trans ((hup_ne (by decide)).trans ((hup_ne (by decide)).trans ((hup_ne (by decide)).trans (hr _)))))))))))))))))))))))))) (by decide) (by decide) (by decide) ?_
  refine ew_putF dX7_init_211 q1455 mf_49 rfl ((hup_ne (by decide)).trans (hup_self _ _ _)) lm0 (ty := .array .long) (by decide +kernel) e_fitA ?_
  rw [hup_x (by decide)]
  refine ew_aload_n dX7_init_214 rfl lm0 ?_
  refine ew_sipush dX7_init_215 (inI_of rfl) (by decide) ?_
  refine ew_newLB (N := 576) (i := (0, 1, 50)) dX7_init_218 q389 rfl (by decide) ((hup_ne (by decide)).trans ((hup_ne (by decide)).trans ((hup_ne (by decide)).trans ((hup_ne (by decide)).trans ((hup_ne (by decide)).trans ((hup_ne (by decide)).trans ((hup_ne (by decide)).trans ((hup_ne (by decide)).trans ((hup_ne (by decide)).trans ((hup_ne (by decide)).trans ((hup_ne (by decide)).trans ((hup_ne (by decide)).trans ((hup_ne (by decide)).trans ((hup_ne (by decide)).trans ((hup_ne (by decide)).trans ((hup_ne (by decide)).trans ((hup_ne (by decide)).trans ((hup_ne (by decide)).trans ((hup_ne (by decide)).trans ((hup_ne (by decide)).trans ((hup_ne (by decide)).trans ((hup_ne (by decide)).trans ((hup_ne (by decide)).trans ((hup_ne (by decide)).trans ((hup_ne (by decide)).trans ((hup_ne (by decide)).trans (hr _))))))))))))))))))))))))))) (by decide) (by decide) (by decide) ?_
  refine ew_putF dX7_init_220 q1456 mf_50 rfl ((hup_ne (by decide)).trans (hup_self _ _ _)) lm0 (ty := .array .long) (by decide +kernel) e_fitA ?_
  rw [hup_x (by decide)]
  refine ew_aload_n dX7_init_223 rfl lm0 ?_
  refine ew_bipush dX7_init_224 (inI_of rfl) (by decide) ?_
  refine ew_newIB (t := 0) (N := 24) (i := (0, 1, 51)) dX7_init_226 rfl (by decide) q302 rfl (by decide) ((hup_ne (by decide)).trans ((hup_ne (by decide)).trans ((hup_ne (by decide)).trans ((hup_ne (by decide)).trans ((hup_ne (by decide)).trans ((hup_ne (by decide)).trans ((hup_ne (by decide)).trans ((hup_ne (by decide)).trans ((hup_ne (by decide)).trans ((hup_ne (by decide)).trans ((hup_ne (by decide)).trans ((hup_ne (by decide)).trans ((hup_ne (by decide)).trans ((hup_ne (by decide)).trans ((hup_ne (by decide)).trans ((hup_ne (by decide)).trans ((hup_ne (by decide)).trans ((hup_ne (by decide)).trans ((hup_ne (by decide)).trans ((hup_ne (by decide)).trans ((hup_ne (by decide)).trans ((hup_ne (by decide)).trans ((hup_ne (by decide)).trans ((hup_ne (by decide)).trans ((hup_ne (by decide)).trans ((hup_ne (by decide)).trans ((hup_ne (by decide)).trans (hr _)))))))))))))))))))))))))))) (by decide) (by decide) (by decide) ?_
  refine ew_putF dX7_init_228 q1457 mf_51 rfl ((hup_ne (by decide)).trans (hup_self _ _ _)) lm0 (ty := .array .int) (by decide +kernel) e_fitA ?_
  rw [hup_x (by decide)]
  refine ew_aload_n dX7_init_231 rfl lm0 ?_
  refine ew_bipush dX7_init_232 (inI_of rfl) (by decide) ?_
  refine ew_newIB (t := 0) (N := 24) (i := (0, 1, 53)) dX7_init_234 rfl (by decide) q302 rfl (by decide) ((hup_ne (by decide)).trans ((hup_ne (by decide)).trans ((hup_ne (by decide)).trans ((hup_ne (by decide)).trans ((hup_ne (by decide)).trans ((hup_ne (by decide)).trans ((hup_ne (by decide)).trans ((hup_ne (by decide)).trans ((hup_ne (by decide)).trans ((hup_ne (by decide)).trans ((hup_ne (by decide)).trans ((hup_ne (by decide)).trans ((hup_ne (by decide)).trans ((hup_ne (by decide)).trans ((hup_ne (by decide)).trans ((hup_ne (by decide)).trans ((hup_ne (by decide)).trans ((hup_ne (by decide)).trans ((hup_ne (by decide)).trans ((hup_ne (by decide)).trans ((hup_ne (by decide)).trans ((hup_ne (by decide)).trans ((hup_ne (by decide)).trans ((hup_ne (by decide)).trans ((hup_ne (by decide)).trans ((hup_ne (by decide)).trans ((hup_ne (by decide)).trans ((hup_ne (by decide)).trans (hr _))))))))))))))))))))))))))))) (by decide) (by decide) (by decide) ?_
  refine ew_putF dX7_init_236 q1459 mf_53 rfl ((hup_ne (by decide)).trans (hup_self _ _ _)) lm0 (ty := .array .int) (by decide +kernel) e_fitA ?_
  rw [hup_x (by decide)]
  refine ew_aload_n dX7_init_239 rfl lm0 ?_
  refine ew_bipush dX7_init_240 (inI_of rfl) (by decide) ?_
  refine ew_newIB (t := 0) (N := 24) (i := (0, 1, 54)) dX7_init_242 rfl (by decide) q302 rfl (by decide) ((hup_ne (by decide)).trans ((hup_ne (by decide)).trans ((hup_ne (by decide)).trans ((hup_ne (by decide)).trans ((hup_ne (by decide)).trans ((hup_ne (by decide)).trans ((hup_ne (by decide)).trans ((hup_ne (by decide)).trans ((hup_ne (by decide)).trans ((hup_ne (by decide)).trans ((hup_ne (by decide)).trans ((hup_ne (by decide)).trans ((hup_ne (by decide)).trans ((hup_ne (by decide)).trans ((hup_ne (by decide)).trans ((hup_ne (by decide)).trans ((hup_ne (by decide)).trans ((hup_ne (by decide)).trans ((hup_ne (by decide)).trans ((hup_ne (by decide)).trans ((hup_ne (by decide)).trans ((hup_ne (by decide)).trans ((hup_ne (by decide)).trans ((hup_ne (by decide)).trans ((hup_ne (by decide)).trans ((hup_ne (by decide)).trans ((hup_ne (by decide)).trans ((hup_ne (by decide)).trans ((hup_ne (by decide)).trans (hr _)))))))))))))))))))))))))))))) (by decide) (by decide) (by decide) ?_
  refine ew_putF dX7_init_244 q1460 mf_54 rfl ((hup_ne (by decide)).trans (hup_self _ _ _)) lm0 (ty := .array .int) (by decide +kernel) e_fitA ?_
  rw [hup_x (by decide)]
  refine ew_ret (o := none) rfl ⟨rfl, ?_⟩ ⟨rfl, dX7_init_247⟩
  funext i
  by_cases c1 : i.1 = 0 ∧ i.2.1 = 1
  · obtain ⟨k, rfl⟩ : ∃ k, i = (0, 1, k) := ⟨i.2.2, by obtain ⟨a, b, c⟩ := i; simp at c1; simp [c1]⟩
    rw [mh_at]
    simp only [lm_x, hr]
    by_cases e4 : k = 4
    · subst e4
      rfl
    by_cases e7 : k = 7
    · subst e7
      rfl
    by_cases e10 : k = 10
    · subst e10
      rfl
    by_cases e11 : k = 11
    · subst e11
      rfl
    by_cases e12 : k = 12
    · subst e12
      rfl
    by_cases e25 : k = 25
    · subst e25
      rfl
    by_cases e28 : k = 28
    · subst e28
      rfl
    by_cases e29 : k = 29
    · subst e29
      rfl
    by_cases e31 : k = 31
    · subst e31
      rfl
    by_cases e32 : k = 32
    · subst e32
      rfl
    by_cases e34 : k = 34
    · subst e34
      rfl
    by_cases e35 : k = 35
    · subst e35
      rfl
    by_cases e36 : k = 36
    · subst e36
      rfl
    by_cases e37 : k = 37
    · subst e37
      rfl
    by_cases e38 : k = 38
    · subst e38
      rfl
    by_cases e40 : k = 40
    · subst e40
      rfl
    by_cases e41 : k = 41
    · subst e41
      rfl
    by_cases e42 : k = 42
    · subst e42
      rfl
    by_cases e43 : k = 43
    · subst e43
      rfl
    by_cases e44 : k = 44
    · subst e44
      rfl
    by_cases e45 : k = 45
    · subst e45
      rfl
    by_cases e46 : k = 46
    · subst e46
      rfl
    by_cases e47 : k = 47
    · subst e47
      rfl
    by_cases e48 : k = 48
    · subst e48
      rfl
    by_cases e49 : k = 49
    · subst e49
      rfl
    by_cases e50 : k = 50
    · subst e50
      rfl
    by_cases e51 : k = 51
    · subst e51
      rfl
    by_cases e53 : k = 53
    · subst e53
      rfl
    by_cases e54 : k = 54
    · subst e54
      rfl
    by_cases e99 : k = 99
    · subst e99
      refine congrArg (fun f => some (kO 1 f)) (funext fun x => ?_)
      by_cases hx : x < 56
      · rcases (show x = 0 ∨ x = 1 ∨ x = 2 ∨ x = 3 ∨ x = 4 ∨ x = 5 ∨ x = 6 ∨ x = 7 ∨ x = 8 ∨ x = 9 ∨ x = 10 ∨ x = 11 ∨ x = 12 ∨ x = 13 ∨ x = 14 ∨ x = 15 ∨ x = 16 ∨ x = 17 ∨ x = 18 ∨ x = 19 ∨ x = 20 ∨ x = 21 ∨ x = 22 ∨ x = 23 ∨ x = 24 ∨ x = 25 ∨ x = 26 ∨ x = 27 ∨ x = 28 ∨ x = 29 ∨ x = 30 ∨ x = 31 ∨ x = 32 ∨ x = 33 ∨ x = 34 ∨ x = 35 ∨ x = 36 ∨ x = 37 ∨ x = 38 ∨ x = 39 ∨ x = 40 ∨ x = 41 ∨ x = 42 ∨ x = 43 ∨ x = 44 ∨ x = 45 ∨ x = 46 ∨ x = 47 ∨ x = 48 ∨ x = 49 ∨ x = 50 ∨ x = 51 ∨ x = 52 ∨ x = 53 ∨ x = 54 ∨ x = 55 by omega) with rfl | rfl | rfl | rfl | rfl | rfl | rfl | rfl | rfl | rfl | rfl | rfl | rfl | rfl | rfl | rfl | rfl | rfl | rfl | rfl | rfl | rfl | rfl | rfl | rfl | rfl | rfl | rfl | rfl | rfl | rfl | rfl | rfl | rfl | rfl | rfl | rfl | rfl | rfl | rfl | rfl | rfl | rfl | rfl | rfl | rfl | rfl | rfl | rfl | rfl | rfl | rfl | rfl | rfl | rfl | rfl <;> rfl
      · rw [fup_ne (by omega), fup_ne (by omega), fup_ne (by omega), fup_ne (by omega), fup_ne (by omega), fup_ne (by omega), fup_ne (by omega), fup_ne (by omega), fup_ne (by omega), fup_ne (by omega), fup_ne (by omega), fup_ne (by omega), fup_ne (by omega), fup_ne (by omega), fup_ne (by omega), fup_ne (by omega), fup_ne (by omega), fup_ne (by omega), fup_ne (by omega), fup_ne (by omega), fup_ne (by omega), fup_ne (by omega), fup_ne (by omega), fup_ne (by omega), fup_ne (by omega), fup_ne (by omega), fup_ne (by omega), fup_ne (by omega), fup_ne (by omega), fup_ne (by omega)]
        exact if_neg hx
    have hn : mC mm0 k = none := by
      have hk : mK k = 0 ∨ mK k = 4 := by
        unfold mK
        split <;> first | exact Or.inl rfl | exact Or.inr rfl | (exfalso; omega)
      unfold mC
      rw [if_neg e99]
      rcases hk with hk | hk <;> (rw [hk]; rfl)
    rw [hn]
    simp only [e4, e7, e10, e11, e12, e25, e28, e29, e31, e32, e34, e35, e36, e37, e38, e40, e41, e42, e43, e44, e45, e46, e47, e48, e49, e50, e51, e53, e54, e99, if_false]
  · have nx : ∀ k, i ≠ (0, 1, k) := fun k e => c1 (by rw [e]; exact ⟨rfl, rfl⟩)
    have R : mh mm0 g i = g i := if_neg c1
    rw [R, hup_ne (nx _), hup_ne (nx _), hup_ne (nx _), hup_ne (nx _), hup_ne (nx _), hup_ne (nx _), hup_ne (nx _), hup_ne (nx _), hup_ne (nx _), hup_ne (nx _), hup_ne (nx _), hup_ne (nx _), hup_ne (nx _), hup_ne (nx _), hup_ne (nx _), hup_ne (nx _), hup_ne (nx _), hup_ne (nx _), hup_ne (nx _), hup_ne (nx _), hup_ne (nx _), hup_ne (nx _), hup_ne (nx _), hup_ne (nx _), hup_ne (nx _), hup_ne (nx _), hup_ne (nx _), hup_ne (nx _), hup_ne (nx _), hup_ne (nx _)]
