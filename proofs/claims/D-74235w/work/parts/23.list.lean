/-! java.util.ArrayList over abstract heaps (gen/lists.py) -/
set_option maxRecDepth 100000
/-- a list's fields: how often it was changed, its array, its size -/
def al (E : EId) (z m : Int) : Nat → AV := fun k => match k with
  | 0 => aI m
  | 1 => aR (some E)
  | 2 => aI z
  | _ => aI 0
theorem al_z {E : EId} {z m x : Int} : fup (al E z m) 2 (aI x) = al E x m := by
  funext k
  match k with
  | 0 => rfl
  | 1 => rfl
  | 2 => rfl
  | n + 3 => rfl
theorem al_m {E : EId} {z m x : Int} : fup (al E z m) 0 (aI x) = al E z x := by
  funext k
  match k with
  | 0 => rfl
  | 1 => rfl
  | 2 => rfl
  | n + 3 => rfl
theorem al_e {E E' : EId} {z m : Int} : fup (al E z m) 1 (aR (some E')) = al E' z m := by
  funext k
  match k with
  | 0 => rfl
  | 1 => rfl
  | 2 => rfl
  | n + 3 => rfl
theorem hup_hup {h : AH} {i : EId} {c c' : ACell} : hup (hup h i c) i c' = hup h i c' := by
  funext j
  unfold hup
  split <;> rfl
theorem hup_eq {h : AH} {i : EId} {c : ACell} (hi : h i = some c) : hup h i c = h := by
  funext j
  unfold hup
  split
  · next e => rw [e, hi]
  · rfl
theorem hup_comm {h : AH} {i j : EId} {c c' : ACell} (hne : i ≠ j) : hup (hup h i c) j c' = hup (hup h j c') i c := by
  funext k
  unfold hup
  by_cases e1 : k = i
  · have e2 : k ≠ j := fun q => hne (e1.symm.trans q)
    rw [if_neg e2, if_pos e1, if_pos e1]
  · rw [if_neg e1, if_neg e1]
theorem hup_x {h : AH} {i j : EId} {c0 c1 q : ACell} (hne : i ≠ j) : hup (hup (hup h i c0) j q) i c1 = hup (hup h j q) i c1 := by rw [hup_comm hne, hup_hup]
theorem af_0 : e_fd [11] 0 "java/util/AbstractList" "modCount" "I" false := e_fd1 (r := (RJ2, TJ2, 3)) rfl (by decide) rfl
theorem af_1 : e_fd [11] 1 "java/util/ArrayList" "elementData" "[Ljava/lang/Object;" false := e_fd1 (r := (RJ2, TJ2, 3)) rfl (by decide) rfl
theorem af_2 : e_fd [11] 2 "java/util/ArrayList" "size" "I" false := e_fd1 (r := (RJ2, TJ2, 3)) rfl (by decide) rfl
theorem e_el.hup {h : AH} {y L : EId} {fs : Nat → AV} (hy : e_el h y) : e_el (hup h L (kO 11 fs)) y := by
  rcases hy with ⟨ci, fs, hi, hc⟩ | hi
  · by_cases e : y = L
    · exact Or.inl ⟨_, _, by rw [e, hup_self], by decide⟩
    · exact Or.inl ⟨ci, fs, by rw [hup_ne e]; exact hi, hc⟩
  · exact Or.inr hi
theorem j11_ck {a b : Int} {K : Int → Prop} (h0 : 0 ≤ a) (h1 : a < b) (k : K a) : C_J11_checkIndex a b K := ⟨fun q => by omega, fun _ => ⟨fun _ => k, fun q => q h1⟩⟩

abbrev mm_J2_size : EM := (yJ2_size, cJ2_size, 1, (Option.some .int), [])
theorem me_J2_size : e_mth mm_J2_size 0 := ⟨rfl, q672, q112, by decide +kernel, by decide⟩

abbrev mm_J2_get : EM := (yJ2_get, cJ2_get, 2, (Option.some (.object "java/lang/Object")), [])
theorem me_J2_get : e_mth mm_J2_get 1 := ⟨rfl, q695, q112, by decide +kernel, by decide⟩

abbrev mm_J2_elementData : EM := (yJ2_elementData, cJ2_elementData, 2, (Option.some (.object "java/lang/Object")), [])
theorem me_J2_elementData : e_mth mm_J2_elementData 1 := ⟨rfl, q703, q112, by decide +kernel, by decide⟩

abbrev mm_J2_add : EM := (yJ2_add, cJ2_add, 2, (Option.some .boolean), [])
theorem me_J2_add : e_mth mm_J2_add 1 := ⟨rfl, q734, q112, by decide +kernel, by decide⟩

abbrev mm_J2_add_2 : EM := (yJ2_add_2, cJ2_add_2, 4, (Option.none : Option Jvm.ClassFile.FieldType), [])
theorem me_J2_add_2 : e_mth mm_J2_add_2 3 := ⟨rfl, q738, q112, by decide +kernel, by decide⟩

abbrev mm_J2_grow : EM := (yJ2_grow, cJ2_grow, 1, (Option.some (.array (.object "java/lang/Object"))), [])
theorem me_J2_grow : e_mth mm_J2_grow 0 := ⟨rfl, q742, q112, by decide +kernel, by decide⟩

abbrev mm_J2_grow_2 : EM := (yJ2_grow_2, cJ2_grow_2, 4, (Option.some (.array (.object "java/lang/Object"))), [])
theorem me_J2_grow_2 : e_mth mm_J2_grow_2 1 := ⟨rfl, q746, q112, by decide +kernel, by decide⟩

abbrev mm_J2_iterator : EM := (yJ2_iterator, cJ2_iterator, 1, (Option.some (.object "java/util/Iterator")), [])
theorem me_J2_iterator : e_mth mm_J2_iterator 0 := ⟨rfl, q881, q112, by decide +kernel, by decide⟩

abbrev mm_J2_remove : EM := (yJ2_remove, cJ2_remove, 4, (Option.some (.object "java/lang/Object")), [])
theorem me_J2_remove : e_mth mm_J2_remove 1 := ⟨rfl, q1375, q112, by decide +kernel, by decide⟩

abbrev mm_J2_fastRemove : EM := (yJ2_fastRemove, cJ2_fastRemove, 4, (Option.none : Option Jvm.ClassFile.FieldType), [])
theorem me_J2_fastRemove : e_mth mm_J2_fastRemove 2 := ⟨rfl, q1379, q112, by decide +kernel, by decide⟩

abbrev mm_J2_init : EM := (yJ2_init, cJ2_init, 2, (Option.none : Option Jvm.ClassFile.FieldType), [])
theorem me_J2_init : e_mth mm_J2_init 1 := ⟨rfl, q159, q112, by decide +kernel, by decide⟩

abbrev mm_J1_init : EM := (yJ1_init, cJ1_init, 1, (Option.none : Option Jvm.ClassFile.FieldType), [])
theorem me_J1_init : e_mth mm_J1_init 0 := ⟨rfl, q162, q111, by decide +kernel, by decide⟩

abbrev mm_J0_init : EM := (yJ0_init, cJ0_init, 1, (Option.none : Option Jvm.ClassFile.FieldType), [])
theorem me_J0_init : e_mth mm_J0_init 0 := ⟨rfl, q165, q110, by decide +kernel, by decide⟩

abbrev mm_J13_copyOf : EM := (yJ13_copyOf, cJ13_copyOf, 2, (Option.some (.array (.object "java/lang/Object"))), [])
theorem me_J13_copyOf : e_mth mm_J13_copyOf 2 := ⟨rfl, q759, q131, by decide +kernel, by decide⟩

abbrev mm_J13_copyOf_2 : EM := (yJ13_copyOf_2, cJ13_copyOf_2, 4, (Option.some (.array (.object "java/lang/Object"))), [])
theorem me_J13_copyOf_2 : e_mth mm_J13_copyOf_2 3 := ⟨rfl, q781, q131, by decide +kernel, by decide⟩

abbrev mm_J16_init : EM := (yJ16_init, cJ16_init, 2, (Option.none : Option Jvm.ClassFile.FieldType), [])
theorem me_J16_init : e_mth mm_J16_init 1 := ⟨rfl, q886, q138, by decide +kernel, by decide⟩

abbrev mm_J16_hasNext : EM := (yJ16_hasNext, cJ16_hasNext, 1, (Option.some .boolean), [])
theorem me_J16_hasNext : e_mth mm_J16_hasNext 0 := ⟨rfl, q910, q138, by decide +kernel, by decide⟩

abbrev mm_J16_next : EM := (yJ16_next, cJ16_next, 3, (Option.some (.object "java/lang/Object")), [])
theorem me_J16_next : e_mth mm_J16_next 0 := ⟨rfl, q919, q138, by decide +kernel, by decide⟩

abbrev mm_J16_checkForComodification : EM := (yJ16_checkForComodification, cJ16_checkForComodification, 1, (Option.none : Option Jvm.ClassFile.FieldType), [])
theorem me_J16_checkForComodification : e_mth mm_J16_checkForComodification 0 := ⟨rfl, q923, q138, by decide +kernel, by decide⟩

section AL
variable {d : Nat} {h : AH} {L E : EId} {z m x : Int} {n : Nat} {f : Int → Option EId}

theorem A_size (hL : h L = some (kO 11 (al E z m))) : Sp mm_J2_size (d + 0) 0 0 [aR (some L)] h (fun o h' => o = Sum.inl (some (aI z)) ∧ h' = h) := by
  refine ew_sp rfl (Nat.le_of_ble_eq_true rfl) ?_
  refine ew_aload_n dJ2_size_0 rfl lm0 ?_
  refine ew_get dJ2_size_1 (e_fl.a q174) af_2 hL lm0 ?_
  exact ew_ret (o := some (aI z)) rfl ⟨rfl, rfl⟩ ⟨dJ2_size_4, .int, rfl, Or.inl rfl, rfl⟩
theorem A_eld (hL : h L = some (kO 11 (al E z m))) (hE : h E = some (kQ 0 n f)) (h0 : 0 ≤ x) (h1 : x < n) : Sp mm_J2_elementData (d + 0) 0 0 [aR (some L), aI x] h (fun o h' => o = Sum.inl (some (aR (f x))) ∧ h' = h) := by
  refine ew_sp rfl (Nat.le_of_ble_eq_true rfl) ?_
  refine ew_aload_n dJ2_elementData_0 rfl lm0 ?_
  refine ew_get dJ2_elementData_1 (e_fl.a q171) af_1 hL lm0 ?_
  refine ew_iload_n dJ2_elementData_4 rfl lm1 ?_
  refine ew_aald dJ2_elementData_5 hE h0 h1 ?_
  exact ew_ret (o := some (aR (f x))) rfl ⟨rfl, rfl⟩ ⟨dJ2_elementData_6, _, rfl, Or.inl ⟨_, rfl⟩⟩
theorem A_get (hL : h L = some (kO 11 (al E z m))) (hE : h E = some (kQ 0 n f)) (h0 : 0 ≤ x) (h1 : x < z) (hz : z ≤ n) : Sp mm_J2_get (d + 2) 0 0 [aR (some L), aI x] h (fun o h' => o = Sum.inl (some (aR (f x))) ∧ h' = h) := by
  refine ew_sp rfl (Nat.le_of_ble_eq_true rfl) ?_
  refine ew_iload_n dJ2_get_0 rfl lm1 ?_
  refine ew_aload_n dJ2_get_1 rfl lm0 ?_
  refine ew_get dJ2_get_2 (e_fl.a q174) af_2 hL lm0 ?_
  refine ew_callS (d := d + 1) (as := [aI x, aI z]) rfl dJ2_get_5 me_J11_checkIndex rfl (Or.inl q696) q697 (Nat.le_of_ble_eq_true rfl) (Nat.zero_le _) (Nat.zero_le _) (S_J11_checkIndex (d := d) (K := fun r => r = x) (j11_ck h0 h1 rfl)) (fun o h' hq _ => ?_) (fun E i h' q _ => (cQ_no q).elim)
  obtain ⟨r, E1, rfl, rfl⟩ := hq
  cases E1
  refine ew_pop dJ2_get_8 rfl ?_
  refine ew_aload_n dJ2_get_9 rfl lm0 ?_
  refine ew_iload_n dJ2_get_10 rfl lm1 ?_
  refine ew_callV (d := d + 1) (ci := 11) (as := [aI r]) rfl dJ2_get_11 me_J2_elementData rfl rfl rfl hL (Or.inl q700) q701 q702 (Nat.le_of_ble_eq_true rfl) (Nat.zero_le _) (Nat.zero_le _) (A_eld (d := d + 1) hL hE h0 (by omega)) (fun o h' hq _ => ?_) (fun E i h' q _ => by cases q.1)
  obtain ⟨E1, rfl⟩ := hq
  cases E1
  exact ew_ret (o := some (aR (f r))) rfl ⟨rfl, rfl⟩ ⟨dJ2_get_14, _, rfl, Or.inl ⟨_, rfl⟩⟩
theorem A_copyOf2 {N : Nat} {E1 : EId} (hE : h E = some (kQ 0 n f)) (hel : ∀ j : Int, 0 ≤ j → j < n → ∀ y, f j = some y → e_el h y) (hN : n ≤ N) (hN2 : N ≤ 10000) (hf1 : h E1 = none) (hf9 : E1.1 ≠ 9) : Sp mm_J13_copyOf_2 (d + 1) 1 N [aR (some E), aI N, aR (some (9, 19, 0))] h (fun o h' => o = Sum.inl (some (aR (some E1))) ∧ h' = hup h E1 (kQ 0 N (icpy f (fun _ => none) 0 0 n))) := by
  have hne : E ≠ E1 := fun q => by rw [q, hf1] at hE; cases hE
  refine ew_sp rfl (Nat.le_of_ble_eq_true rfl) ?_
  refine ew_aload_n dJ13_copyOf_2_0 rfl lm2 ?_
  refine ew_ldcM dJ13_copyOf_2_1 q782 ?_
  refine ew_acmp_neS (tgt := 13) dJ13_copyOf_2_3 (by decide) ?_
  refine ew_iload_n dJ13_copyOf_2_6 rfl lm1 ?_
  refine ew_anewB (i := E1) (N := N) dJ13_copyOf_2_7 q783 rfl hN2 hf1 hf9 (Nat.le_refl 1) (Nat.le_refl N) ?_
  refine ew_goto (tgt := 24) dJ13_copyOf_2_10 (by decide) ?_
  refine ew_astore_n dJ13_copyOf_2_24 rfl (by decide) (lv' := [(3, aR (some E1)), (0, aR (some E)), (1, aI N), (2, aR (some (9, 19, 0)))]) rfl ?_
  refine ew_aload_n dJ13_copyOf_2_25 rfl lm1 ?_
  refine ew_iconst dJ13_copyOf_2_26 (inI_of rfl) ?_
  refine ew_aload_n dJ13_copyOf_2_27 rfl lm0 ?_
  refine ew_iconst dJ13_copyOf_2_28 (inI_of rfl) ?_
  refine ew_aload_n dJ13_copyOf_2_29 rfl lm1 ?_
  refine ew_alen (n := n) dJ13_copyOf_2_30 (by rw [hup_ne hne]; exact hE) (Or.inr (Or.inr ⟨_, _, rfl⟩)) (by omega) ?_
  refine ew_iload_n dJ13_copyOf_2_31 rfl lm2 ?_
  refine ew_min (d := d) dJ13_copyOf_2_32 q784 (Nat.le_of_ble_eq_true rfl) ?_
  rw [show jmin (n : Int) N = n by unfold jmin; rw [if_neg (by omega)]]
  refine ew_copyq (d := d) (n0 := n) (n1 := N) dJ13_copyOf_2_35 q785 (by rw [hup_ne hne]; exact hE) (hup_self _ _ _) (by omega) (by omega) (by omega) (by omega) (by omega) (Nat.le_of_ble_eq_true rfl) (fun j j0 j1 y hy => ?_) ?_
  · rcases hel j j0 (by omega) y hy with ⟨ci, fs, hi, hc⟩ | hi
    · exact Or.inl ⟨ci, fs, by rw [hup_ne (fun q => by rw [q, hf1] at hi; cases hi)]; exact hi, hc⟩
    · exact Or.inr hi
  rw [hup_hup]
  refine ew_aload_n dJ13_copyOf_2_38 rfl lm0 ?_
  exact ew_ret (o := some (aR (some E1))) rfl ⟨rfl, rfl⟩ ⟨dJ13_copyOf_2_39, _, rfl, Or.inr ⟨_, rfl⟩⟩
theorem A_copyOf {N : Nat} {E1 : EId} (hE : h E = some (kQ 0 n f)) (hel : ∀ j : Int, 0 ≤ j → j < n → ∀ y, f j = some y → e_el h y) (hN : n ≤ N) (hN2 : N ≤ 10000) (hf1 : h E1 = none) (hf9 : E1.1 ≠ 9) : Sp mm_J13_copyOf (d + 2) 1 N [aR (some E), aI N] h (fun o h' => o = Sum.inl (some (aR (some E1))) ∧ h' = hup h E1 (kQ 0 N (icpy f (fun _ => none) 0 0 n))) := by
  refine ew_sp rfl (Nat.le_of_ble_eq_true rfl) ?_
  refine ew_aload_n dJ13_copyOf_0 rfl lm0 ?_
  refine ew_iload_n dJ13_copyOf_1 rfl lm1 ?_
  refine ew_aload_n dJ13_copyOf_2 rfl lm0 ?_
  refine ew_getC (d := d + 1) dJ13_copyOf_3 q760 hE (Nat.le_of_ble_eq_true rfl) ?_
  refine ew_callS (d := d + 1) (as := [aR (some E), aI N, aR (some (9, 19, 0))]) rfl dJ13_copyOf_6 me_J13_copyOf_2 rfl (Or.inl q779) q780 (Nat.le_of_ble_eq_true rfl) (Nat.le_refl 1) (Nat.le_refl N) (A_copyOf2 (d := d) hE hel hN hN2 hf1 hf9) (fun o h' hq _ => ?_) (fun E i h' q _ => by cases q.1)
  obtain ⟨E1, rfl⟩ := hq
  cases E1
  exact ew_ret (o := some (aR (some _))) rfl ⟨rfl, rfl⟩ ⟨dJ13_copyOf_9, _, rfl, Or.inr ⟨_, rfl⟩⟩
/-- how great the next array is -/
def al_N (n : Nat) : Nat := n + max 1 (n / 2)
theorem A_grow2 {E1 : EId} (hL : h L = some (kO 11 (al E z m))) (hE : h E = some (kQ 0 n f)) (hel : ∀ j : Int, 0 ≤ j → j < n → ∀ y, f j = some y → e_el h y) (hn : 0 < n) (hn2 : n ≤ 5000) (hz : x = n + 1) (hf1 : h E1 = none) (hf9 : E1.1 ≠ 9) : Sp mm_J2_grow_2 (d + 3) 1 (al_N n) [aR (some L), aI x] h (fun o h' => o = Sum.inl (some (aR (some E1))) ∧ h' = hup (hup h E1 (kQ 0 (al_N n) (icpy f (fun _ => none) 0 0 n))) L (kO 11 (al E1 z m))) := by
  have hne : L ≠ E1 := fun q => by rw [q, hf1] at hL; cases hL
  have hN : al_N n ≤ 10000 := by unfold al_N; omega
  have hN0 : n ≤ al_N n := by unfold al_N; omega
  have hs : jshr (n : Int) 1 = ((n / 2 : Nat) : Int) := jshr_1 (by omega)
  refine ew_sp rfl (Nat.le_of_ble_eq_true rfl) ?_
  refine ew_aload_n dJ2_grow_2_0 rfl lm0 ?_
  refine ew_get dJ2_grow_2_1 (e_fl.a q171) af_1 hL lm0 ?_
  refine ew_alen (n := n) dJ2_grow_2_4 hE (Or.inr (Or.inr ⟨_, _, rfl⟩)) (by omega) ?_
  refine ew_istore_n dJ2_grow_2_5 rfl (by decide) (lv' := [(2, aI n), (0, aR (some L)), (1, aI x)]) rfl ?_
  refine ew_iload_n dJ2_grow_2_6 rfl lm0 ?_
  refine ew_if_gt (tgt := 20) dJ2_grow_2_7 (by decide) (fun _ => ?_) (fun c => absurd (by omega) c)
  refine ew_iload_n dJ2_grow_2_20 rfl lm0 ?_
  refine ew_iload_n dJ2_grow_2_21 rfl lm2 ?_
  refine ew_iload_n dJ2_grow_2_22 rfl lm0 ?_
  refine ew_isub dJ2_grow_2_23 (by constructor <;> omega) ?_
  refine ew_iload_n dJ2_grow_2_24 rfl lm0 ?_
  refine ew_iconst dJ2_grow_2_25 (inI_of rfl) ?_
  refine ew_ishr dJ2_grow_2_26 ?_
  rw [hs]
  refine ew_callS (d := d + 2) (as := [aI n, aI (x - n), aI ((n / 2 : Nat) : Int)]) rfl dJ2_grow_2_27 me_J12_newLength rfl (Or.inl q749) q750 (Nat.le_of_ble_eq_true rfl) (Nat.zero_le _) (Nat.zero_le _) (S_J12_newLength (d := d + 1) (K := fun r => r = (al_N n : Int)) ?_) (fun o h' hq _ => ?_) (fun E i h' q _ => (cQ_no q).elim)
  · have e : (n : Int) + jmax (x - n) ((n / 2 : Nat) : Int) = (al_N n : Int) := by unfold jmax al_N; split <;> omega
    refine ⟨?_, ?_⟩
    · rw [e]; constructor <;> omega
    · rw [e]; exact ⟨fun q => by omega, fun _ => ⟨fun q => by omega, fun _ => rfl⟩⟩
  obtain ⟨r, E1, rfl, rfl⟩ := hq
  cases E1
  refine ew_istore_n dJ2_grow_2_30 rfl (by decide) (lv' := [(3, aI (al_N n)), (2, aI n), (0, aR (some L)), (1, aI x)]) rfl ?_
  refine ew_aload_n dJ2_grow_2_31 rfl lm2 ?_
  refine ew_aload_n dJ2_grow_2_32 rfl lm2 ?_
  refine ew_get dJ2_grow_2_33 (e_fl.a q171) af_1 hL lm0 ?_
  refine ew_iload_n dJ2_grow_2_36 rfl lm0 ?_
  refine ew_callS (d := d + 2) (as := [aR (some E), aI (al_N n)]) rfl dJ2_grow_2_37 me_J13_copyOf rfl (Or.inl q757) q758 (Nat.le_of_ble_eq_true rfl) (Nat.le_refl 1) (Nat.le_refl _) (A_copyOf (d := d) (N := al_N n) hE hel hN0 hN hf1 hf9) (fun o h' hq _ => ?_) (fun E i h' q _ => by cases q.1)
  obtain ⟨E1, rfl⟩ := hq
  cases E1
  refine ew_dup_x1 dJ2_grow_2_40 rfl rfl ?_
  refine ew_put dJ2_grow_2_41 (e_fl.a q171) af_1 (by rw [hup_ne hne]; exact hL) lm0 (ty := .array (.object "java/lang/Object")) (by decide +kernel) trivial ?_
  rw [al_e]
  exact ew_ret (o := some (aR (some _))) rfl ⟨rfl, rfl⟩ ⟨dJ2_grow_2_44, _, rfl, Or.inr ⟨_, rfl⟩⟩
theorem A_grow {E1 : EId} (hL : h L = some (kO 11 (al E z m))) (hE : h E = some (kQ 0 n f)) (hel : ∀ j : Int, 0 ≤ j → j < n → ∀ y, f j = some y → e_el h y) (hn : 0 < n) (hn2 : n ≤ 5000) (hz : z = n) (hf1 : h E1 = none) (hf9 : E1.1 ≠ 9) : Sp mm_J2_grow (d + 4) 1 (al_N n) [aR (some L)] h (fun o h' => o = Sum.inl (some (aR (some E1))) ∧ h' = hup (hup h E1 (kQ 0 (al_N n) (icpy f (fun _ => none) 0 0 n))) L (kO 11 (al E1 z m))) := by
  refine ew_sp rfl (Nat.le_of_ble_eq_true rfl) ?_
  refine ew_aload_n dJ2_grow_0 rfl lm0 ?_
  refine ew_aload_n dJ2_grow_1 rfl lm0 ?_
  refine ew_get dJ2_grow_2 (e_fl.a q174) af_2 hL lm0 ?_
  refine ew_iconst dJ2_grow_5 (inI_of rfl) ?_
  refine ew_iadd dJ2_grow_6 (by constructor <;> omega) ?_
  refine ew_callV (d := d + 3) (ci := 11) (as := [aI (z + 1)]) rfl dJ2_grow_7 me_J2_grow_2 rfl rfl rfl hL (Or.inl q743) q745 qs16 (Nat.le_of_ble_eq_true rfl) (Nat.le_refl 1) (Nat.le_refl _) (A_grow2 (d := d) hL hE hel hn hn2 (by omega) hf1 hf9) (fun o h' hq _ => ?_) (fun E i h' q _ => by cases q.1)
  obtain ⟨E1, rfl⟩ := hq
  cases E1
  exact ew_ret (o := some (aR (some _))) rfl ⟨rfl, rfl⟩ ⟨dJ2_grow_10, _, rfl, Or.inr ⟨_, rfl⟩⟩
/-- put at the end, room being there -/
theorem A_add2 {y : EId} (hL : h L = some (kO 11 (al E z m))) (hE : h E = some (kQ 0 n f)) (hy : e_el h y) (h0 : 0 ≤ z) (h1 : z < n) (hn2 : n ≤ 5000) (hne : L ≠ E) : Sp mm_J2_add_2 (d + 5) 0 0 [aR (some L), aR (some y), aR (some E), aI z] h (fun o h' => o = Sum.inl none ∧ h' = hup (hup h E (kQ 0 n (iup f z (some y)))) L (kO 11 (al E (z + 1) m))) := by
  refine ew_sp rfl (Nat.le_of_ble_eq_true rfl) ?_
  refine ew_iload_n dJ2_add_2_0 rfl lm3 ?_
  refine ew_aload_n dJ2_add_2_1 rfl lm2 ?_
  refine ew_alen (n := n) dJ2_add_2_2 hE (Or.inr (Or.inr ⟨_, _, rfl⟩)) (by omega) ?_
  refine ew_icmp_ne (tgt := 11) dJ2_add_2_3 (by decide) (fun _ => ?_) (fun c => absurd c (by omega))
  refine ew_aload_n dJ2_add_2_11 rfl lm2 ?_
  refine ew_iload_n dJ2_add_2_12 rfl lm3 ?_
  refine ew_aload_n dJ2_add_2_13 rfl lm1 ?_
  refine ew_aast (d := d + 4) dJ2_add_2_14 hE h0 h1 hy ?_
  refine ew_aload_n dJ2_add_2_15 rfl lm0 ?_
  refine ew_iload_n dJ2_add_2_16 rfl lm3 ?_
  refine ew_iconst dJ2_add_2_17 (inI_of rfl) ?_
  refine ew_iadd dJ2_add_2_18 (by constructor <;> omega) ?_
  refine ew_put dJ2_add_2_19 (e_fl.a q174) af_2 (by rw [hup_ne hne]; exact hL) lm0 (ty := .int) (by decide +kernel) trivial ?_
  rw [al_z]
  exact ew_ret (o := none) rfl ⟨rfl, rfl⟩ ⟨rfl, dJ2_add_2_22⟩
/-- put at the end, the array being full -/
theorem A_add2G {y E1 : EId} (hL : h L = some (kO 11 (al E z m))) (hE : h E = some (kQ 0 n f)) (hel : ∀ j : Int, 0 ≤ j → j < n → ∀ y, f j = some y → e_el h y) (hy : e_el h y) (hn : 0 < n) (hn2 : n ≤ 5000) (hz : z = n) (hf1 : h E1 = none) (hf9 : E1.1 ≠ 9) : Sp mm_J2_add_2 (d + 5) 1 (al_N n) [aR (some L), aR (some y), aR (some E), aI z] h (fun o h' => o = Sum.inl none ∧ h' = hup (hup h E1 (kQ 0 (al_N n) (iup (icpy f (fun _ => none) 0 0 n) z (some y)))) L (kO 11 (al E1 (z + 1) m))) := by
  have hne : L ≠ E1 := fun q => by rw [q, hf1] at hL; cases hL
  have hN0 : n < al_N n := by unfold al_N; omega
  refine ew_sp rfl (Nat.le_of_ble_eq_true rfl) ?_
  refine ew_iload_n dJ2_add_2_0 rfl lm3 ?_
  refine ew_aload_n dJ2_add_2_1 rfl lm2 ?_
  refine ew_alen (n := n) dJ2_add_2_2 hE (Or.inr (Or.inr ⟨_, _, rfl⟩)) (by omega) ?_
  refine ew_icmp_ne (tgt := 11) dJ2_add_2_3 (by decide) (fun c => absurd hz c) (fun _ => ?_)
  refine ew_aload_n dJ2_add_2_6 rfl lm0 ?_
  refine ew_callV (d := d + 4) (ci := 11) (as := []) rfl dJ2_add_2_7 me_J2_grow rfl rfl rfl hL (Or.inl q739) q741 qs15 (Nat.le_of_ble_eq_true rfl) (Nat.le_refl 1) (Nat.le_refl _) (A_grow (d := d) hL hE hel hn hn2 hz hf1 hf9) (fun o h' hq _ => ?_) (fun E i h' q _ => by cases q.1)
  obtain ⟨E2, rfl⟩ := hq
  cases E2
  refine ew_astore_n dJ2_add_2_10 rfl (by decide) (lv' := [(2, aR (some E1)), (0, aR (some L)), (1, aR (some y)), (3, aI z)]) rfl ?_
  refine ew_aload_n dJ2_add_2_11 rfl lm0 ?_
  refine ew_iload_n dJ2_add_2_12 rfl lm3 ?_
  refine ew_aload_n dJ2_add_2_13 rfl lm2 ?_
  refine ew_aast (d := d + 4) dJ2_add_2_14 (by rw [hup_ne (Ne.symm hne)]; exact hup_self _ _ _) (by omega) (by omega) ?_ ?_
  · rcases hy with ⟨ci, fs, hi, hc⟩ | hi
    · by_cases e : y = L
      · exact Or.inl ⟨_, _, by rw [e, hup_self], by decide⟩
      · exact Or.inl ⟨ci, fs, by rw [hup_ne e, hup_ne (fun q => by rw [q, hf1] at hi; cases hi)]; exact hi, hc⟩
    · exact Or.inr hi
  refine ew_aload_n dJ2_add_2_15 rfl lm1 ?_
  refine ew_iload_n dJ2_add_2_16 rfl lm3 ?_
  refine ew_iconst dJ2_add_2_17 (inI_of rfl) ?_
  refine ew_iadd dJ2_add_2_18 (by constructor <;> omega) ?_
  refine ew_put dJ2_add_2_19 (e_fl.a q174) af_2 (by rw [hup_ne hne]; exact hup_self _ _ _) lm0 (ty := .int) (by decide +kernel) trivial ?_
  rw [al_z, hup_comm hne, hup_hup, hup_hup]
  exact ew_ret (o := none) rfl ⟨rfl, rfl⟩ ⟨rfl, dJ2_add_2_22⟩

theorem A_add {y : EId} (hL : h L = some (kO 11 (al E z m))) (hE : h E = some (kQ 0 n f)) (h1 : z < n) (hy : e_el h y) (h0 : 0 ≤ z) (hm : -1000000 ≤ m ∧ m ≤ 1000000) (hne : L ≠ E) (hn2 : n ≤ 5000) : Sp mm_J2_add (d + 6) 0 0 [aR (some L), aR (some y)] h (fun o h' => o = Sum.inl (some (aI 1)) ∧ h' = hup (hup h E (kQ 0 n (iup f z (some y)))) L (kO 11 (al E (z + 1) (m + 1)))) := by
  have hy' : ∀ c, e_el (hup h L (kO 11 c)) y := by
    intro c
    rcases hy with ⟨ci, fs, hi, hc⟩ | hi
    · by_cases e : y = L
      · exact Or.inl ⟨_, _, by rw [e, hup_self], by decide⟩
      · exact Or.inl ⟨ci, fs, by rw [hup_ne e]; exact hi, hc⟩
    · exact Or.inr hi
  refine ew_sp rfl (Nat.le_of_ble_eq_true rfl) ?_
  refine ew_aload_n dJ2_add_0 rfl lm0 ?_
  refine ew_dup dJ2_add_1 rfl ?_
  refine ew_get dJ2_add_2 (e_fl.b q178 q177) af_0 hL lm0 ?_
  refine ew_iconst dJ2_add_5 (inI_of rfl) ?_
  refine ew_iadd dJ2_add_6 (by constructor <;> omega) ?_
  refine ew_put dJ2_add_7 (e_fl.b q178 q177) af_0 hL lm0 (ty := .int) (by decide +kernel) trivial ?_
  rw [al_m]
  refine ew_aload_n dJ2_add_10 rfl lm0 ?_
  refine ew_aload_n dJ2_add_11 rfl lm1 ?_
  refine ew_aload_n dJ2_add_12 rfl lm0 ?_
  refine ew_get dJ2_add_13 (e_fl.a q171) af_1 (hup_self _ _ _) lm0 ?_
  refine ew_aload_n dJ2_add_16 rfl lm0 ?_
  refine ew_get dJ2_add_17 (e_fl.a q174) af_2 (hup_self _ _ _) lm0 ?_
  refine ew_callV (d := d + 5) (ci := 11) (as := [aR (some y), aR (some E), aI z]) rfl dJ2_add_20 me_J2_add_2 rfl rfl rfl (hup_self _ _ _) (Or.inl q735) q737 qs14 (Nat.le_of_ble_eq_true rfl) (Nat.le_refl _) (Nat.le_refl _) (A_add2 (d := d) (hup_self _ _ _) (by rw [hup_ne (Ne.symm hne)]; exact hE) (hy' _) h0 h1 hn2 hne) (fun o h' hq _ => ?_) (fun E i h' q _ => by cases q.1)
  obtain ⟨E2, rfl⟩ := hq
  cases E2
  refine ew_iconst dJ2_add_23 (inI_of rfl) ?_
  rw [hup_x hne]
  exact ew_ret (o := some (aI 1)) rfl ⟨rfl, rfl⟩ ⟨dJ2_add_24, .boolean, rfl, Or.inr (Or.inl rfl), by decide⟩

theorem A_addG {y E1 : EId} (hL : h L = some (kO 11 (al E z m))) (hE : h E = some (kQ 0 n f)) (hel : ∀ j : Int, 0 ≤ j → j < n → ∀ y, f j = some y → e_el h y) (hn : 0 < n) (hz : z = n) (hf1 : h E1 = none) (hf9 : E1.1 ≠ 9) (hy : e_el h y) (h0 : 0 ≤ z) (hm : -1000000 ≤ m ∧ m ≤ 1000000) (hne : L ≠ E) (hn2 : n ≤ 5000) : Sp mm_J2_add (d + 6) 1 (al_N n) [aR (some L), aR (some y)] h (fun o h' => o = Sum.inl (some (aI 1)) ∧ h' = hup (hup h E1 (kQ 0 (al_N n) (iup (icpy f (fun _ => none) 0 0 n) z (some y)))) L (kO 11 (al E1 (z + 1) (m + 1)))) := by
  have hy' : ∀ c, e_el (hup h L (kO 11 c)) y := by
    intro c
    rcases hy with ⟨ci, fs, hi, hc⟩ | hi
    · by_cases e : y = L
      · exact Or.inl ⟨_, _, by rw [e, hup_self], by decide⟩
      · exact Or.inl ⟨ci, fs, by rw [hup_ne e]; exact hi, hc⟩
    · exact Or.inr hi
  refine ew_sp rfl (Nat.le_of_ble_eq_true rfl) ?_
  refine ew_aload_n dJ2_add_0 rfl lm0 ?_
  refine ew_dup dJ2_add_1 rfl ?_
  refine ew_get dJ2_add_2 (e_fl.b q178 q177) af_0 hL lm0 ?_
  refine ew_iconst dJ2_add_5 (inI_of rfl) ?_
  refine ew_iadd dJ2_add_6 (by constructor <;> omega) ?_
  refine ew_put dJ2_add_7 (e_fl.b q178 q177) af_0 hL lm0 (ty := .int) (by decide +kernel) trivial ?_
  rw [al_m]
  refine ew_aload_n dJ2_add_10 rfl lm0 ?_
  refine ew_aload_n dJ2_add_11 rfl lm1 ?_
  refine ew_aload_n dJ2_add_12 rfl lm0 ?_
  refine ew_get dJ2_add_13 (e_fl.a q171) af_1 (hup_self _ _ _) lm0 ?_
  refine ew_aload_n dJ2_add_16 rfl lm0 ?_
  refine ew_get dJ2_add_17 (e_fl.a q174) af_2 (hup_self _ _ _) lm0 ?_
  refine ew_callV (d := d + 5) (ci := 11) (as := [aR (some y), aR (some E), aI z]) rfl dJ2_add_20 me_J2_add_2 rfl rfl rfl (hup_self _ _ _) (Or.inl q735) q737 qs14 (Nat.le_of_ble_eq_true rfl) (Nat.le_refl _) (Nat.le_refl _) (A_add2G (d := d) (hup_self _ _ _) (by rw [hup_ne (Ne.symm hne)]; exact hE) (fun j j0 j1 y hy => (hel j j0 j1 y hy).hup) (hy' _) hn hn2 hz (by rw [hup_ne (fun q => by rw [← q, hf1] at hL; cases hL)]; exact hf1) hf9) (fun o h' hq _ => ?_) (fun E i h' q _ => by cases q.1)
  obtain ⟨E2, rfl⟩ := hq
  cases E2
  refine ew_iconst dJ2_add_23 (inI_of rfl) ?_
  rw [hup_x (fun q => by rw [q, hf1] at hL; cases hL)]
  exact ew_ret (o := some (aI 1)) rfl ⟨rfl, rfl⟩ ⟨dJ2_add_24, .boolean, rfl, Or.inr (Or.inl rfl), by decide⟩

/-- the last one goes -/
theorem A_frem (hL : h L = some (kO 11 (al E z m))) (hE : h E = some (kQ 0 n f)) (hx : x = z - 1) (h0 : 0 < z) (h1 : z ≤ n) (hn2 : n ≤ 5000) (hm : -1000000 ≤ m ∧ m ≤ 1000000) (hne : L ≠ E) : Sp mm_J2_fastRemove (d + 1) 0 0 [aR (some L), aR (some E), aI x] h (fun o h' => o = Sum.inl none ∧ h' = hup (hup h E (kQ 0 n (iup f x none))) L (kO 11 (al E x (m + 1)))) := by
  subst hx
  refine ew_sp rfl (Nat.le_of_ble_eq_true rfl) ?_
  refine ew_aload_n dJ2_fastRemove_0 rfl lm0 ?_
  refine ew_dup dJ2_fastRemove_1 rfl ?_
  refine ew_get dJ2_fastRemove_2 (e_fl.b q178 q177) af_0 hL lm0 ?_
  refine ew_iconst dJ2_fastRemove_5 (inI_of rfl) ?_
  refine ew_iadd dJ2_fastRemove_6 (by constructor <;> omega) ?_
  refine ew_put dJ2_fastRemove_7 (e_fl.b q178 q177) af_0 hL lm0 (ty := .int) (by decide +kernel) trivial ?_
  rw [al_m]
  refine ew_aload_n dJ2_fastRemove_10 rfl lm0 ?_
  refine ew_get dJ2_fastRemove_11 (e_fl.a q174) af_2 (hup_self _ _ _) lm0 ?_
  refine ew_iconst dJ2_fastRemove_14 (inI_of rfl) ?_
  refine ew_isub dJ2_fastRemove_15 (by constructor <;> omega) ?_
  refine ew_dup dJ2_fastRemove_16 rfl ?_
  refine ew_istore_n dJ2_fastRemove_17 rfl (by decide) (lv' := [(3, aI (z - 1)), (0, aR (some L)), (1, aR (some E)), (2, aI (z - 1))]) rfl ?_
  refine ew_iload_n dJ2_fastRemove_18 rfl lm3 ?_
  refine ew_icmp_le (tgt := 34) dJ2_fastRemove_19 (by decide) (fun _ => ?_) (fun c => absurd (by omega) c)
  refine ew_aload_n dJ2_fastRemove_34 rfl lm2 ?_
  refine ew_aload_n dJ2_fastRemove_35 rfl lm1 ?_
  refine ew_iload_n dJ2_fastRemove_36 rfl lm0 ?_
  refine ew_dup_x1 dJ2_fastRemove_37 rfl rfl ?_
  refine ew_put dJ2_fastRemove_38 (e_fl.a q174) af_2 (hup_self _ _ _) lm0 (ty := .int) (by decide +kernel) trivial ?_
  rw [al_z, hup_hup]
  refine ew_null dJ2_fastRemove_41 ?_
  refine ew_aastN (d := d) dJ2_fastRemove_42 (by rw [hup_ne (Ne.symm hne)]; exact hE) (by omega) (by omega) ?_
  rw [hup_comm hne]
  exact ew_ret (o := none) rfl ⟨rfl, rfl⟩ ⟨rfl, dJ2_fastRemove_43⟩
theorem A_rem (hL : h L = some (kO 11 (al E z m))) (hE : h E = some (kQ 0 n f)) (hx : x = z - 1) (h0 : 0 < z) (h1 : z ≤ n) (hn2 : n ≤ 5000) (hm : -1000000 ≤ m ∧ m ≤ 1000000) (hne : L ≠ E) : Sp mm_J2_remove (d + 2) 0 0 [aR (some L), aI x] h (fun o h' => o = Sum.inl (some (aR (f x))) ∧ h' = hup (hup h E (kQ 0 n (iup f x none))) L (kO 11 (al E x (m + 1)))) := by
  refine ew_sp rfl (Nat.le_of_ble_eq_true rfl) ?_
  refine ew_iload_n dJ2_remove_0 rfl lm1 ?_
  refine ew_aload_n dJ2_remove_1 rfl lm0 ?_
  refine ew_get dJ2_remove_2 (e_fl.a q174) af_2 hL lm0 ?_
  refine ew_callS (d := d + 1) (as := [aI x, aI z]) rfl dJ2_remove_5 me_J11_checkIndex rfl (Or.inl q696) q697 (Nat.le_of_ble_eq_true rfl) (Nat.zero_le _) (Nat.zero_le _) (S_J11_checkIndex (d := d) (K := fun r => r = x) (j11_ck (by omega) (by omega) rfl)) (fun o h' hq _ => ?_) (fun E i h' q _ => (cQ_no q).elim)
  obtain ⟨r, E1, rfl, rfl⟩ := hq
  cases E1
  refine ew_pop dJ2_remove_8 rfl ?_
  refine ew_aload_n dJ2_remove_9 rfl lm0 ?_
  refine ew_get dJ2_remove_10 (e_fl.a q171) af_1 hL lm0 ?_
  refine ew_astore_n dJ2_remove_13 rfl (by decide) (lv' := [(2, aR (some E)), (0, aR (some L)), (1, aI r)]) rfl ?_
  refine ew_aload_n dJ2_remove_14 rfl lm0 ?_
  refine ew_iload_n dJ2_remove_15 rfl lm2 ?_
  refine ew_aald dJ2_remove_16 hE (by omega) (by omega) ?_
  refine ew_astore_n dJ2_remove_17 rfl (by decide) (lv' := [(3, aR (f r)), (2, aR (some E)), (0, aR (some L)), (1, aI r)]) rfl ?_
  refine ew_aload_n dJ2_remove_18 rfl lm2 ?_
  refine ew_aload_n dJ2_remove_19 rfl lm1 ?_
  refine ew_iload_n dJ2_remove_20 rfl lm3 ?_
  refine ew_callV (d := d + 1) (ci := 11) (as := [aR (some E), aI r]) rfl dJ2_remove_21 me_J2_fastRemove rfl rfl rfl hL (Or.inl q1376) q1378 qs54 (Nat.le_of_ble_eq_true rfl) (Nat.le_refl _) (Nat.le_refl _) (A_frem (d := d) hL hE hx h0 h1 hn2 hm hne) (fun o h' hq _ => ?_) (fun E i h' q _ => by cases q.1)
  obtain ⟨E2, rfl⟩ := hq
  cases E2
  refine ew_aload_n dJ2_remove_24 rfl lm0 ?_
  exact ew_ret (o := some (aR (f r))) rfl ⟨rfl, rfl⟩ ⟨dJ2_remove_25, _, rfl, Or.inl ⟨_, rfl⟩⟩
end AL
