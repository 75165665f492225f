/-! java.util.ArrayList: made; its iterator (gen/lists.py) -/
set_option maxRecDepth 100000
def al0 : Nat → AV := fun k => match k with
  | 1 => aR none
  | _ => aI 0
theorem al0_m {x : Int} (hx : x = 0) : fup al0 0 (aI x) = al0 := by
  subst hx
  funext k
  match k with
  | 0 => rfl
  | 1 => rfl
  | n + 2 => rfl
theorem al0_e {E : EId} : fup al0 1 (aR (some E)) = al E 0 0 := by
  funext k
  match k with
  | 0 => rfl
  | 1 => rfl
  | 2 => rfl
  | n + 3 => rfl
/-- an iterator's fields -/
def itf (c r m : Int) (L : Option EId) : Nat → AV := fun k => match k with
  | 0 => aI c
  | 1 => aI r
  | 2 => aI m
  | 3 => aR L
  | _ => aI 0
theorem it_c {c r m x : Int} {L : Option EId} : fup (itf c r m L) 0 (aI x) = itf x r m L := by
  funext k
  match k with
  | 0 => rfl
  | 1 => rfl
  | 2 => rfl
  | 3 => rfl
  | n + 4 => rfl
theorem it_r {c r m x : Int} {L : Option EId} : fup (itf c r m L) 1 (aI x) = itf c x m L := by
  funext k
  match k with
  | 0 => rfl
  | 1 => rfl
  | 2 => rfl
  | 3 => rfl
  | n + 4 => rfl
theorem it_m {c r m x : Int} {L : Option EId} : fup (itf c r m L) 2 (aI x) = itf c r x L := by
  funext k
  match k with
  | 0 => rfl
  | 1 => rfl
  | 2 => rfl
  | 3 => rfl
  | n + 4 => rfl
theorem it_L {c r m : Int} {L L' : Option EId} : fup (itf c r m L) 3 (aR L') = itf c r m L' := by
  funext k
  match k with
  | 0 => rfl
  | 1 => rfl
  | 2 => rfl
  | 3 => rfl
  | n + 4 => rfl
theorem tf_0 : e_fd [12] 0 "java/util/ArrayList$Itr" "cursor" "I" false := e_fd1 (r := (RJ16, TJ16, 4)) rfl (by decide) rfl
theorem tf_1 : e_fd [12] 1 "java/util/ArrayList$Itr" "lastRet" "I" false := e_fd1 (r := (RJ16, TJ16, 4)) rfl (by decide) rfl
theorem tf_2 : e_fd [12] 2 "java/util/ArrayList$Itr" "expectedModCount" "I" false := e_fd1 (r := (RJ16, TJ16, 4)) rfl (by decide) rfl
theorem tf_3 : e_fd [12] 3 "java/util/ArrayList$Itr" "this$0" "Ljava/util/ArrayList;" true := e_fd1 (r := (RJ16, TJ16, 4)) rfl (by decide) rfl
section AL2
variable {d : Nat} {h : AH} {L E I : EId} {z m x c r : Int} {n N : Nat} {f : Int → Option EId} {fs : Nat → AV}

theorem A_aci : Sp mm_J0_init (d + 1) 0 0 [aR (some L)] h (fun o h' => o = Sum.inl none ∧ h' = h) := by
  refine ew_sp rfl (Nat.le_of_ble_eq_true rfl) ?_
  refine ew_aload_n dJ0_init_0 rfl lm0 ?_
  refine ew_objInit (d := d) dJ0_init_1 q166 q147 q148 (Nat.le_of_ble_eq_true rfl) ?_
  exact ew_ret (o := none) rfl ⟨rfl, rfl⟩ ⟨rfl, dJ0_init_4⟩
theorem A_ali (hL : h L = some (kO 11 al0)) : Sp mm_J1_init (d + 2) 0 0 [aR (some L)] h (fun o h' => o = Sum.inl none ∧ h' = h) := by
  refine ew_sp rfl (Nat.le_of_ble_eq_true rfl) ?_
  refine ew_aload_n dJ1_init_0 rfl lm0 ?_
  refine ew_callI (d := d + 1) (as := []) rfl dJ1_init_1 me_J0_init rfl rfl rfl (Or.inl q163) q164 (Nat.le_of_ble_eq_true rfl) (Nat.le_refl 0) (Nat.le_refl 0) (A_aci (d := d)) (fun o h' hq _ => ?_) (fun E i h' q _ => by cases q.1)
  obtain ⟨E2, rfl⟩ := hq
  cases E2
  refine ew_aload_n dJ1_init_4 rfl lm0 ?_
  refine ew_iconst dJ1_init_5 (inI_of rfl) ?_
  refine ew_put dJ1_init_6 (e_fl.a q175) af_0 hL lm0 (ty := .int) (by decide +kernel) trivial ?_
  rw [al0_m rfl, hup_eq hL]
  exact ew_ret (o := none) rfl ⟨rfl, rfl⟩ ⟨rfl, dJ1_init_9⟩
theorem A_init (hL : h L = some (kO 11 al0)) (h0 : 0 < N) (hN : N ≤ 10000) (hf : h E = none) (hf9 : E.1 ≠ 9) : Sp mm_J2_init (d + 3) 1 N [aR (some L), aI N] h (fun o h' => o = Sum.inl none ∧ h' = hup (hup h E (kQ 0 N (fun _ => none))) L (kO 11 (al E 0 0))) := by
  have hne : L ≠ E := fun q => by rw [q, hf] at hL; cases hL
  refine ew_sp rfl (Nat.le_of_ble_eq_true rfl) ?_
  refine ew_aload_n dJ2_init_0 rfl lm0 ?_
  refine ew_callI (d := d + 2) (as := []) rfl dJ2_init_1 me_J1_init rfl rfl rfl (Or.inl q160) q161 (Nat.le_of_ble_eq_true rfl) (Nat.zero_le _) (Nat.zero_le _) (A_ali (d := d) hL) (fun o h' hq _ => ?_) (fun E i h' q _ => by cases q.1)
  obtain ⟨E2, rfl⟩ := hq
  cases E2
  refine ew_iload_n dJ2_init_4 rfl lm1 ?_
  refine ew_if_le (tgt := 19) dJ2_init_5 (by decide) (fun c => absurd c (by omega)) (fun _ => ?_)
  refine ew_aload_n dJ2_init_8 rfl lm0 ?_
  refine ew_iload_n dJ2_init_9 rfl lm1 ?_
  refine ew_anewB (i := E) (N := N) dJ2_init_10 q167 rfl hN hf hf9 (Nat.le_refl 1) (Nat.le_refl N) ?_
  refine ew_put dJ2_init_13 (e_fl.a q171) af_1 (by rw [hup_ne hne]; exact hL) lm0 (ty := .array (.object "java/lang/Object")) (by decide +kernel) trivial ?_
  rw [al0_e]
  refine ew_goto (tgt := 60) dJ2_init_16 (by decide) ?_
  exact ew_ret (o := none) rfl ⟨rfl, rfl⟩ ⟨rfl, dJ2_init_60⟩
theorem A_itinit (hL : h L = some (kO 11 (al E z m))) (hI : h I = some (kO 12 (itf 0 0 0 none))) : Sp mm_J16_init (d + 1) 0 0 [aR (some I), aR (some L)] h (fun o h' => o = Sum.inl none ∧ h' = hup h I (kO 12 (itf 0 (-1) m (some L)))) := by
  have hne : L ≠ I := fun q => by rw [q, hI] at hL; cases hL
  refine ew_sp rfl (Nat.le_of_ble_eq_true rfl) ?_
  refine ew_aload_n dJ16_init_0 rfl lm0 ?_
  refine ew_aload_n dJ16_init_1 rfl lm1 ?_
  refine ew_putF dJ16_init_2 q891 tf_3 rfl hI lm0 (ty := .object "java/util/ArrayList") (by decide +kernel) trivial ?_
  rw [it_L]
  refine ew_aload_n dJ16_init_5 rfl lm0 ?_
  refine ew_objInit (d := d) dJ16_init_6 q887 q147 q148 (Nat.le_of_ble_eq_true rfl) ?_
  refine ew_aload_n dJ16_init_9 rfl lm0 ?_
  refine ew_iconst dJ16_init_10 (inI_of rfl) ?_
  refine ew_put dJ16_init_11 (e_fl.a q889) tf_1 (hup_self _ _ _) lm0 (ty := .int) (by decide +kernel) trivial ?_
  rw [it_r, hup_hup]
  refine ew_aload_n dJ16_init_14 rfl lm0 ?_
  refine ew_aload_n dJ16_init_15 rfl lm0 ?_
  refine ew_get dJ16_init_16 (e_fl.a q891) tf_3 (hup_self _ _ _) lm0 ?_
  refine ew_get dJ16_init_19 (e_fl.b q176 q177) af_0 (by rw [hup_ne hne]; exact hL) lm0 ?_
  refine ew_put dJ16_init_22 (e_fl.a q890) tf_2 (hup_self _ _ _) lm0 (ty := .int) (by decide +kernel) trivial ?_
  refine ew_ret (o := none) rfl ⟨rfl, ?_⟩ ⟨rfl, dJ16_init_25⟩
  rw [show fup (itf 0 (-1) 0 (some L)) 2 (al E z m 0) = itf 0 (-1) m (some L) from it_m, hup_hup]
theorem A_iter (hL : h L = some (kO 11 (al E z m))) (hf : h I = none) (hf9 : I.1 ≠ 9) : Sp mm_J2_iterator (d + 2) 1 4 [aR (some L)] h (fun o h' => o = Sum.inl (some (aR (some I))) ∧ h' = hup h I (kO 12 (itf 0 (-1) m (some L)))) := by
  have hne : L ≠ I := fun q => by rw [q, hf] at hL; cases hL
  refine ew_sp rfl (Nat.le_of_ble_eq_true rfl) ?_
  refine ew_newB (i := I) (ci := 12) (n := 4) (fs := itf 0 0 0 none) (r := (RJ16, TJ16, 4)) dJ2_iterator_0 rfl rfl q882 q883 q138 (fun k hk => ?_) hf hf9 (Nat.le_refl 1) (Nat.le_refl 4) ?_
  · rcases (show k = 0 ∨ k = 1 ∨ k = 2 ∨ k = 3 by omega) with rfl | rfl | rfl | rfl
    · exact ⟨.int, by decide +kernel, rfl⟩
    · exact ⟨.int, by decide +kernel, rfl⟩
    · exact ⟨.int, by decide +kernel, rfl⟩
    · exact ⟨.object "java/util/ArrayList", by decide +kernel, rfl⟩
  refine ew_dup dJ2_iterator_3 rfl ?_
  refine ew_aload_n dJ2_iterator_4 rfl lm0 ?_
  refine ew_callI (d := d + 1) (as := [aR (some L)]) rfl dJ2_iterator_5 me_J16_init rfl rfl rfl (Or.inl q884) q885 (Nat.le_of_ble_eq_true rfl) (Nat.le_refl 0) (Nat.le_refl 0) (A_itinit (d := d) (by rw [hup_ne hne]; exact hL) (hup_self _ _ _)) (fun o h' hq _ => ?_) (fun E i h' q _ => by cases q.1)
  obtain ⟨E2, rfl⟩ := hq
  cases E2
  rw [hup_hup]
  exact ew_ret (o := some (aR (some I))) rfl ⟨rfl, rfl⟩ ⟨dJ2_iterator_8, _, rfl, Or.inl ⟨_, rfl⟩⟩
theorem A_hasNext (hI : h I = some (kO 12 (itf c r m (some L)))) (hL : h L = some (kO 11 (al E z m))) : Sp mm_J16_hasNext (d + 0) 0 0 [aR (some I)] h (fun o h' => o = Sum.inl (some (aI (if c = z then 0 else 1))) ∧ h' = h) := by
  refine ew_sp rfl (Nat.le_of_ble_eq_true rfl) ?_
  refine ew_aload_n dJ16_hasNext_0 rfl lm0 ?_
  refine ew_get dJ16_hasNext_1 (e_fl.a q888) tf_0 hI lm0 ?_
  refine ew_aload_n dJ16_hasNext_4 rfl lm0 ?_
  refine ew_get dJ16_hasNext_5 (e_fl.a q891) tf_3 hI lm0 ?_
  refine ew_get dJ16_hasNext_8 (e_fl.c q173) af_2 hL lm0 ?_
  refine ew_icmp_eq (tgt := 18) dJ16_hasNext_11 (by decide) (fun e => ?_) (fun e => ?_)
  · refine ew_iconst dJ16_hasNext_18 (inI_of rfl) ?_
    exact ew_ret (o := some (aI 0)) rfl ⟨by rw [if_pos e], rfl⟩ ⟨dJ16_hasNext_19, .boolean, rfl, Or.inr (Or.inl rfl), by decide⟩
  · refine ew_iconst dJ16_hasNext_14 (inI_of rfl) ?_
    refine ew_goto (tgt := 19) dJ16_hasNext_15 (by decide) ?_
    exact ew_ret (o := some (aI 1)) rfl ⟨by rw [if_neg e], rfl⟩ ⟨dJ16_hasNext_19, .boolean, rfl, Or.inr (Or.inl rfl), by decide⟩
theorem A_chk (hI : h I = some (kO 12 (itf c r m (some L)))) (hL : h L = some (kO 11 (al E z m))) : Sp mm_J16_checkForComodification (d + 0) 0 0 [aR (some I)] h (fun o h' => o = Sum.inl none ∧ h' = h) := by
  refine ew_sp rfl (Nat.le_of_ble_eq_true rfl) ?_
  refine ew_aload_n dJ16_checkForComodification_0 rfl lm0 ?_
  refine ew_get dJ16_checkForComodification_1 (e_fl.a q891) tf_3 hI lm0 ?_
  refine ew_get dJ16_checkForComodification_4 (e_fl.b q176 q177) af_0 hL lm0 ?_
  refine ew_aload_n dJ16_checkForComodification_7 rfl lm0 ?_
  refine ew_get dJ16_checkForComodification_8 (e_fl.a q890) tf_2 hI lm0 ?_
  refine ew_icmp_eq (tgt := 22) dJ16_checkForComodification_11 (by decide) (fun e => ?_) (fun e => absurd rfl e)
  exact ew_ret (o := none) rfl ⟨rfl, rfl⟩ ⟨rfl, dJ16_checkForComodification_22⟩
theorem A_next (hI : h I = some (kO 12 (itf c r m (some L)))) (hL : h L = some (kO 11 (al E z m))) (hE : h E = some (kQ 0 n f)) (h0 : 0 ≤ c) (h1 : c < z) (h2 : z ≤ n) (hn2 : n ≤ 5000) : Sp mm_J16_next (d + 1) 0 0 [aR (some I)] h (fun o h' => o = Sum.inl (some (aR (f c))) ∧ h' = hup h I (kO 12 (itf (c + 1) c m (some L)))) := by
  have hne : E ≠ I := fun q => by rw [q, hI] at hE; cases hE
  refine ew_sp rfl (Nat.le_of_ble_eq_true rfl) ?_
  refine ew_aload_n dJ16_next_0 rfl lm0 ?_
  refine ew_callV (d := d) (ci := 12) (as := []) rfl dJ16_next_1 me_J16_checkForComodification rfl rfl rfl hI (Or.inl q920) q921 q922 (Nat.le_of_ble_eq_true rfl) (Nat.le_refl _) (Nat.le_refl _) (A_chk (d := d) hI hL) (fun o h' hq _ => ?_) (fun E i h' q _ => by cases q.1)
  obtain ⟨E2, rfl⟩ := hq
  cases E2
  refine ew_aload_n dJ16_next_4 rfl lm0 ?_
  refine ew_get dJ16_next_5 (e_fl.a q888) tf_0 hI lm0 ?_
  refine ew_istore_n dJ16_next_8 rfl (by decide) (lv' := [(1, aI c), (0, aR (some I))]) rfl ?_
  refine ew_iload_n dJ16_next_9 rfl lm0 ?_
  refine ew_aload_n dJ16_next_10 rfl lm1 ?_
  refine ew_get dJ16_next_11 (e_fl.a q891) tf_3 hI lm0 ?_
  refine ew_get dJ16_next_14 (e_fl.c q173) af_2 hL lm0 ?_
  refine ew_icmp_lt (tgt := 28) dJ16_next_17 (by decide) (fun _ => ?_) (fun e => absurd h1 e)
  refine ew_aload_n dJ16_next_28 rfl lm1 ?_
  refine ew_get dJ16_next_29 (e_fl.a q891) tf_3 hI lm0 ?_
  refine ew_get dJ16_next_32 (e_fl.a q172) af_1 hL lm0 ?_
  refine ew_astore_n dJ16_next_35 rfl (by decide) (lv' := [(2, aR (some E)), (1, aI c), (0, aR (some I))]) rfl ?_
  refine ew_iload_n dJ16_next_36 rfl lm1 ?_
  refine ew_aload_n dJ16_next_37 rfl lm0 ?_
  refine ew_alen (n := n) dJ16_next_38 hE (Or.inr (Or.inr ⟨_, _, rfl⟩)) (by omega) ?_
  refine ew_icmp_lt (tgt := 50) dJ16_next_39 (by decide) (fun _ => ?_) (fun e => absurd (by omega) e)
  refine ew_aload_n dJ16_next_50 rfl lm2 ?_
  refine ew_iload_n dJ16_next_51 rfl lm1 ?_
  refine ew_iconst dJ16_next_52 (inI_of rfl) ?_
  refine ew_iadd dJ16_next_53 (by constructor <;> omega) ?_
  refine ew_put dJ16_next_54 (e_fl.a q888) tf_0 hI lm0 (ty := .int) (by decide +kernel) trivial ?_
  rw [it_c]
  refine ew_aload_n dJ16_next_57 rfl lm0 ?_
  refine ew_aload_n dJ16_next_58 rfl lm2 ?_
  refine ew_iload_n dJ16_next_59 rfl lm1 ?_
  refine ew_dup_x1 dJ16_next_60 rfl rfl ?_
  refine ew_put dJ16_next_61 (e_fl.a q889) tf_1 (hup_self _ _ _) lm0 (ty := .int) (by decide +kernel) trivial ?_
  rw [it_r, hup_hup]
  refine ew_aald dJ16_next_64 (by rw [hup_ne hne]; exact hE) h0 (by omega) ?_
  exact ew_ret (o := some (aR (f c))) rfl ⟨rfl, rfl⟩ ⟨dJ16_next_65, _, rfl, Or.inl ⟨_, rfl⟩⟩
end AL2
