/-! ReasonCloser.fewest, core: with the lambdas (by hand) -/
set_option maxRecDepth 100000
abbrev mm_X1_fewest : EM := (yX1_fewest, cX1_fewest, 4, (Option.some .int), [])
theorem me_X1_fewest : e_mth mm_X1_fewest 2 := ⟨rfl, q1187, q108, by decide +kernel, by decide⟩
abbrev mm_X1_core : EM := (yX1_core, cX1_core, 1, (Option.some .int), [])
theorem me_X1_core : e_mth mm_X1_core 0 := ⟨rfl, q1231, q108, by decide +kernel, by decide⟩
theorem askP0 {d : Nat} {V : XV} {g : AH} {lI : EId} {a b : Int} (hl : g lI = some (kO 100 (fun k => if k = 0 then aI a else aI b))) (hn : lI.1 = 1) : askP d V g lI (fun s K' => C_X1_lambda_fewest_0 a b s (fun r => (r = 0 ∨ r = 1) ∧ K' r)) := by
  intro Q kc ks lv s K' H k
  refine ew_ask0 (d := d + 6) (rest := []) (mc := 0) (ms := 0) dX1_fewestBy_39 q1201 ((xh_g (xC_1 hn)).trans hl) (Nat.zero_le _) (Nat.zero_le _) (Nat.zero_le _) (S_X1_lambda_fewest_0 (d := d + 5) H) (fun x h' q => cQ_no q) (fun o h' q => ?_) (fun o h' q _ => ?_)
  · obtain ⟨n, e, -, h01, -⟩ := q
    cases e
    exact ⟨n, rfl, h01⟩
  · obtain ⟨n, e, rfl, -, hK⟩ := q
    cases e
    exact k n hK
theorem askP1 {d : Nat} {V : XV} {g : AH} {lI : EId} (hl : g lI = some (kO 101 (fun _ => aR (some xT)))) (hn : lI.1 = 1) : askP d V g lI (fun s K' => C_X1_lambda_core_1 s (fun r => (r = 0 ∨ r = 1) ∧ K' r)) := by
  intro Q kc ks lv s K' H k
  refine ew_ask1 (d := d + 6) (rest := []) (mc := 0) (ms := 0) dX1_fewestBy_39 q1201 ((xh_g (xC_1 hn)).trans hl) rfl xh_x (Nat.zero_le _) (Nat.zero_le _) (Nat.zero_le _) (S_X1_lambda_core_1 (d := d + 2) H) (fun x h' q => cQ_no q) (fun o h' q => ?_) (fun o h' q _ => ?_)
  · obtain ⟨n, e, -, h01, -⟩ := q
    cases e
    exact ⟨n, rfl, h01⟩
  · obtain ⟨n, e, rfl, -, hK⟩ := q
    cases e
    exact k n hK
def C_X1_fewest (a b : Int) (s0 : XS) (K : Int → XS → Prop) : Prop := C_X1_why a b s0 (fun r1 => (r1 ≤ 0 → C_X1_fewestBy_ (fun s K' => C_X1_lambda_fewest_0 a b s (fun r => (r = 0 ∨ r = 1) ∧ K' r)) s0 (fun r2 s2 => C_X1_fine r2 s2 K)) ∧ (¬ r1 ≤ 0 → C_X1_refused r1 s0 K))
theorem S_X1_fewest {d : Nat} {V : XV} {g : AH} {K : Int → XS → Prop} {a b : Int} {s0 : XS} (hg : xf 49 g) (hr : xfree V g) (H : C_X1_fewest a b s0 K) : Sp mm_X1_fewest (d + 49) 2 4 [aR (some xT), aI a, aI b] (xh V s0 g) (xQi V g K) := by
  refine Sp.forget hr tQi_x (ew_sp rfl (Nat.le_of_ble_eq_true rfl) ?_)
  unfold C_X1_fewest at H
  refine ew_aload_n dX1_fewest_0 rfl lm0 ?_
  refine ew_iload_n dX1_fewest_1 rfl lm1 ?_
  refine ew_iload_n dX1_fewest_2 rfl lm2 ?_
  refine ew_callV (d := d + 48) (as := [aI a, aI b]) rfl dX1_fewest_3 me_X1_why rfl (ci := 0) rfl rfl xh_x (Or.inl q1157) q1159 qs35 (Nat.le_of_ble_eq_true rfl) (Nat.le_of_ble_eq_true rfl) (Nat.le_of_ble_eq_true rfl) (S_X1_why (d := d + 45) (xf.le hg (Nat.le_of_ble_eq_true rfl)) hr H) (fun o h' hq _ => ?_) (fun E i h' q _ => (cQ_no q).elim)
  obtain ⟨r1, E4, rfl, H⟩ := hq
  cases E4
  refine ew_istore_n dX1_fewest_6 rfl (by decide) (lv' := [(3, aI r1), (0, aR (some xT)), (1, aI a), (2, aI b)]) rfl ?_
  refine ew_iload_n dX1_fewest_7 rfl lm0 ?_
  refine ew_if_le (tgt := 19) dX1_fewest_8 (by decide) (fun c => ?_) (fun c => ?_)
  · replace H := H.1 c
    refine ew_aload_n dX1_fewest_19 rfl lm1 ?_
    refine ew_aload_n dX1_fewest_20 rfl lm1 ?_
    refine ew_iload_n dX1_fewest_21 rfl lm2 ?_
    refine ew_iload_n dX1_fewest_22 rfl lm3 ?_
    refine ew_mk0 (kc := 0) (ks := 0) (i := (1, 49, 0)) rfl dX1_fewest_23 ((xh_g (xC_1 rfl)).trans (hg _ rfl (Nat.le_refl _))) (by decide) (by omega) (Nat.le_of_ble_eq_true rfl) ?_
    rw [xh_upg (xC_1 rfl)]
    refine ew_callV (d := d + 48) (as := [aR (some (1, 49, 0))]) rfl dX1_fewest_28 me_X1_fewestBy rfl (ci := 0) rfl rfl xh_x (Or.inl q1190) q1192 qs39 (Nat.le_of_ble_eq_true rfl) (Nat.zero_le _) (Nat.zero_le _) (S_X1_fewestBy_ (d := d + 40) (askP0 (hup_self _ _ _) rfl) H) (fun o h' hq _ => ?_) (fun E i h' q _ => (xQi_no q).elim)
    obtain ⟨r2, s2, E5, rfl, H⟩ := hq
    cases E5
    refine ew_callV (d := d + 48) (as := [aI r2]) rfl dX1_fewest_31 me_X1_fine rfl (ci := 0) rfl rfl xh_x (Or.inl q1032) q1034 qs24 (Nat.le_of_ble_eq_true rfl) (Nat.zero_le _) (Nat.zero_le _) (S_X1_fine (d := d + 48) H) (fun o h' hq7 _ => ?_) (fun E i h' q _ => (xQi_no q).elim)
    obtain ⟨r5, s6, E8, rfl, H⟩ := hq7
    cases E8
    exact ew_ret (o := some (aI r5)) rfl ⟨_, _, _, rfl, rfl, eX.hup eX.rf rfl (hg _ rfl (Nat.le_refl _)), H⟩ ⟨dX1_fewest_34, .int, rfl, Or.inl rfl, rfl⟩
  · replace H := H.2 c
    refine ew_aload_n dX1_fewest_11 rfl lm1 ?_
    refine ew_iload_n dX1_fewest_12 rfl lm0 ?_
    refine ew_callV (d := d + 48) (as := [aI r1]) rfl dX1_fewest_13 me_X1_refused rfl (ci := 0) rfl rfl xh_x (Or.inl q406) q408 qs1 (Nat.le_of_ble_eq_true rfl) (Nat.zero_le _) (Nat.zero_le _) (S_X1_refused (d := d + 48) H) (fun o h' hq _ => ?_) (fun E i h' q _ => (xQi_no q).elim)
    obtain ⟨n, s, E6, rfl, H⟩ := hq
    cases E6
    refine ew_goto (tgt := 34) dX1_fewest_16 (by decide) ?_
    exact ew_ret (o := some (aI n)) rfl ⟨_, _, _, rfl, rfl, eX.rf, H⟩ ⟨dX1_fewest_34, .int, rfl, Or.inl rfl, rfl⟩
def C_X1_core (s0 : XS) (K : Int → XS → Prop) : Prop := C_X1_clash 4 s0 (fun r1 => (r1 = -2 → K (-2) s0) ∧ (¬ r1 = -2 → C_X1_fewestBy_ (fun s K' => C_X1_lambda_core_1 s (fun r => (r = 0 ∨ r = 1) ∧ K' r)) s0 K))
theorem S_X1_core {d : Nat} {V : XV} {g : AH} {K : Int → XS → Prop} {s0 : XS} (hg : xf 49 g) (hr : xfree V g) (H : C_X1_core s0 K) : Sp mm_X1_core (d + 49) 1 1 [aR (some xT)] (xh V s0 g) (xQi V g K) := by
  refine Sp.forget hr tQi_x (ew_sp rfl (Nat.le_of_ble_eq_true rfl) ?_)
  unfold C_X1_core at H
  refine ew_aload_n dX1_core_0 rfl lm0 ?_
  refine ew_aload_n dX1_core_1 rfl lm0 ?_
  refine xw_get (v := aR (some (sI V 4 99))) dX1_core_2 (e_fl.a q334) xf_6 rfl ?_
  refine ew_callV (d := d + 48) (as := [aR (some (sI V 4 99))]) rfl dX1_core_5 me_X1_clash rfl (ci := 0) rfl rfl xh_x (Or.inl q1062) q1064 qs27 (Nat.le_of_ble_eq_true rfl) (Nat.zero_le _) (Nat.zero_le _) (S_X1_clash (d := d + 45) (by decide) H) (fun o h' hq3 _ => ?_) (fun E i h' q _ => (cQ_no q).elim)
  obtain ⟨r1, E4, rfl, H⟩ := hq3
  cases E4
  refine ew_bipush dX1_core_8 (inI_of rfl) (by decide) ?_
  refine ew_icmp_ne (tgt := 18) dX1_core_10 (by decide) (fun c => ?_) (fun c => ?_)
  · replace H := H.2 c
    refine ew_aload_n dX1_core_18 rfl lm0 ?_
    refine ew_aload_n dX1_core_19 rfl lm0 ?_
    refine ew_mk1 (kc := 0) (ks := 0) (i := (1, 49, 0)) rfl dX1_core_20 ((xh_g (xC_1 rfl)).trans (hg _ rfl (Nat.le_refl _))) (by decide) (by omega) (Nat.le_of_ble_eq_true rfl) ?_
    rw [xh_upg (xC_1 rfl)]
    refine ew_callV (d := d + 48) (as := [aR (some (1, 49, 0))]) rfl dX1_core_25 me_X1_fewestBy rfl (ci := 0) rfl rfl xh_x (Or.inl q1190) q1192 qs39 (Nat.le_of_ble_eq_true rfl) (Nat.zero_le _) (Nat.zero_le _) (S_X1_fewestBy_ (d := d + 40) (askP1 (hup_self _ _ _) rfl) H) (fun o h' hq _ => ?_) (fun E i h' q _ => (xQi_no q).elim)
    obtain ⟨r2, s2, E5, rfl, H⟩ := hq
    cases E5
    exact ew_ret (o := some (aI r2)) rfl ⟨_, _, _, rfl, rfl, eX.hup eX.rf rfl (hg _ rfl (Nat.le_refl _)), H⟩ ⟨dX1_core_28, .int, rfl, Or.inl rfl, rfl⟩
  · replace H := H.1 c
    refine ew_bipush dX1_core_13 (inI_of rfl) (by decide) ?_
    refine ew_goto (tgt := 28) dX1_core_15 (by decide) ?_
    exact ew_ret (o := some (aI (-2))) rfl ⟨_, _, _, rfl, rfl, eX.rf, H⟩ ⟨dX1_core_28, .int, rfl, Or.inl rfl, rfl⟩
