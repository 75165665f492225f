/-! CONSTRUCTORS of the book, the reader, the object, the reference (gen/init2.py) -/
set_option maxRecDepth 100000
def rr0 (n : Int) : MS := (fun k => if k = 0 then n else 0, fun _ _ => 0)
def bset (V : XV) (r : MS) (g : AH) : AH := fun i => if i.1 = 10 + V 9 ∧ i.2.1 < 20 then bor (bC V r i.2.1 i.2.2) (g i) else g i
theorem bset_b {V : XV} {r : MS} {g : AH} {a b : Nat} (h : a < 20) : bset V r g (bI V a b) = bor (bC V r a b) (g (bI V a b)) := if_pos ⟨rfl, h⟩
theorem bset_n {V : XV} {r : MS} {g : AH} {i : EId} (h : ¬ breg V i) : bset V r g i = g i := if_neg h
theorem bx_b {V : XV} {a b a' b' : Nat} {h : AH} {c : ACell} : hup h (bI V a b) c (bI V a' b') = if a' = a ∧ b' = b then some c else h (bI V a' b') := by
  by_cases e : a' = a ∧ b' = b
  · rw [if_pos e, e.1, e.2, hup_self]
  · rw [if_neg e, hup_ne (bI_ne e)]
theorem xec_0 {V : XV} {j : Nat} {n : Int} : xec V (rr0 n) j 0 = fun _ => none := by
  funext x
  unfold xec
  have e : (rr0 n).1 (50 + j) = 0 := if_neg (by omega)
  have e2 : (rr0 n).1 (30 + j) = 0 := if_neg (by omega)
  rw [e, e2]
  exact if_neg (fun w => by have := w.2; simp at this; omega)
def bf0 (V : XV) : Nat → AV := fun k => if k < 5 then aR none else bF V k
theorem bC0_none {V : XV} {n : Int} {reg k : Nat} (h1 : ¬ (reg = 1 ∧ k = 0)) (h2 : ∀ j, j < 5 → ¬ (reg = 2 ∧ k = j)) (h3 : ∀ j, j < 5 → ¬ (reg = 3 + j ∧ k = 0)) : bC V (rr0 n) reg k = none := by
  unfold bC
  have z : ∀ m, ((rr0 n).1 (m + 1)).toNat = 0 := fun m => rfl
  split
  · exact if_neg (fun e => h1 ⟨rfl, e⟩)
  · exact if_neg (fun e => by
      have a := h2 0 (by decide); have b := h2 1 (by decide); have c := h2 2 (by decide); have d := h2 3 (by decide); have f := h2 4 (by decide)
      omega)
  · exact if_neg (fun e => h3 0 (by decide) ⟨rfl, Nat.le_zero.mp e.2⟩)
  · exact if_neg (fun e => h3 1 (by decide) ⟨rfl, Nat.le_zero.mp e.2⟩)
  · exact if_neg (fun e => h3 2 (by decide) ⟨rfl, Nat.le_zero.mp e.2⟩)
  · exact if_neg (fun e => h3 3 (by decide) ⟨rfl, Nat.le_zero.mp e.2⟩)
  · exact if_neg (fun e => h3 4 (by decide) ⟨rfl, Nat.le_zero.mp e.2⟩)
  · exact if_neg (fun e => Nat.not_lt_zero _ e)
  · exact if_neg (fun e => Nat.not_lt_zero _ e)
  · exact if_neg (fun e => Nat.not_lt_zero _ e)
  · exact if_neg (fun e => Nat.not_lt_zero _ e)
  · exact if_neg (fun e => Nat.not_lt_zero _ e)
  · rfl
section INIB
variable {d : Nat} {h : AH} {V : XV}
abbrev mm_X2_init : EM := (yX2_init, cX2_init, 1, (Option.none : Option Jvm.ClassFile.FieldType), [])
theorem me_X2_init : e_mth mm_X2_init 0 := ⟨rfl, q153, q109, by decide +kernel, by decide⟩
theorem A_bk (hf : rfr V h) (n : Int) : Sp mm_X2_init (d + 4) 10 43 [aR (some (bI V 1 0))] (hup h (bI V 1 0) (kO 2 (bf0 V))) (fun o h' => o = Sum.inl none ∧ h' = bset V (rr0 n) h) := by
  refine ew_sp rfl (Nat.le_of_ble_eq_true rfl) ?_
  refine ew_aload_n dX2_init_0 rfl lm0 ?_
  refine ew_objInit (d := d + 3) dX2_init_1 q154 q147 q148 (Nat.le_of_ble_eq_true rfl) ?_
  refine ew_aload_n dX2_init_4 rfl lm0 ?_
  refine ew_newB (i := bI V 2 0) (ci := 11) (n := 3) (fs := al0) (r := (RJ2, TJ2, 3)) dX2_init_5 rfl rfl q155 q156 q112 (fun k hk => ?_) (by simp only [bx_b]; simp; exact hf 2 0 (by decide)) b9 (by decide) (by decide) ?_
  · rcases (show k = 0 ∨ k = 1 ∨ k = 2 by omega) with rfl | rfl | rfl
    · exact ⟨.int, by decide +kernel, rfl⟩
    · exact ⟨.array (.object "java/lang/Object"), by decide +kernel, rfl⟩
    · exact ⟨.int, by decide +kernel, rfl⟩
  refine ew_dup dX2_init_8 rfl ?_
  refine ew_iconst dX2_init_9 (inI_of rfl) ?_
  refine ew_callI (d := d + 3) (as := [aI 4]) rfl dX2_init_10 me_J2_init rfl rfl rfl (Or.inl q157) q158 (Nat.le_of_ble_eq_true rfl) (by decide) (by decide) (A_init (d := d) (N := 4) (E := bI V 3 0) (hup_self _ _ _) (by decide) (by decide) (by simp only [bx_b]; simp; exact hf 3 0 (by decide)) b9) (fun o h' hq _ => ?_) (fun E i h' q _ => by cases q.1)
  obtain ⟨E1, rfl⟩ := hq
  cases E1
  rw [hup_x (bI_ne (by decide))]
  refine ew_putF dX2_init_13 q187 bf_0 rfl (by simp only [bx_b]; rfl) lm0 (ty := .object "java/util/List") (by decide +kernel) e_fitR ?_
  rw [show hup (hup (hup (hup h (bI V 1 0) (kO 2 (bf0 V))) (bI V 3 0) (kQ 0 4 (fun _ => none))) (bI V 2 0) (kO 11 (al (bI V 3 0) 0 0))) (bI V 1 0) (kO 2 (fup (bf0 V) 0 (aR (some (bI V 2 0))))) = hup (hup (hup h (bI V 3 0) (kQ 0 4 (fun _ => none))) (bI V 2 0) (kO 11 (al (bI V 3 0) 0 0))) (bI V 1 0) (kO 2 (fup (bf0 V) 0 (aR (some (bI V 2 0))))) by rw [hup_comm (bI_ne (by decide) : (bI V 2 0 : EId) ≠ (bI V 1 0)), hup_x (bI_ne (by decide)), hup_comm (bI_ne (by decide) : (bI V 1 0) ≠ (bI V 2 0 : EId))]]
  refine ew_aload_n dX2_init_16 rfl lm0 ?_
  refine ew_newB (i := bI V 2 1) (ci := 11) (n := 3) (fs := al0) (r := (RJ2, TJ2, 3)) dX2_init_17 rfl rfl q155 q156 q112 (fun k hk => ?_) (by simp only [bx_b]; simp; exact hf 2 1 (by decide)) b9 (by decide) (by decide) ?_
  · rcases (show k = 0 ∨ k = 1 ∨ k = 2 by omega) with rfl | rfl | rfl
    · exact ⟨.int, by decide +kernel, rfl⟩
    · exact ⟨.array (.object "java/lang/Object"), by decide +kernel, rfl⟩
    · exact ⟨.int, by decide +kernel, rfl⟩
  refine ew_dup dX2_init_20 rfl ?_
  refine ew_bipush dX2_init_21 (inI_of rfl) (by decide) ?_
  refine ew_callI (d := d + 3) (as := [aI 8]) rfl dX2_init_23 me_J2_init rfl rfl rfl (Or.inl q157) q158 (Nat.le_of_ble_eq_true rfl) (by decide) (by decide) (A_init (d := d) (N := 8) (E := bI V 4 0) (hup_self _ _ _) (by decide) (by decide) (by simp only [bx_b]; simp; exact hf 4 0 (by decide)) b9) (fun o h' hq _ => ?_) (fun E i h' q _ => by cases q.1)
  obtain ⟨E1, rfl⟩ := hq
  cases E1
  rw [hup_x (bI_ne (by decide))]
  refine ew_putF dX2_init_26 q190 bf_1 rfl (by simp only [bx_b]; rfl) lm0 (ty := .object "java/util/List") (by decide +kernel) e_fitR ?_
  rw [show hup (hup (hup (hup (hup (hup h (bI V 3 0) (kQ 0 4 (fun _ => none))) (bI V 2 0) (kO 11 (al (bI V 3 0) 0 0))) (bI V 1 0) (kO 2 (fup (bf0 V) 0 (aR (some (bI V 2 0)))))) (bI V 4 0) (kQ 0 8 (fun _ => none))) (bI V 2 1) (kO 11 (al (bI V 4 0) 0 0))) (bI V 1 0) (kO 2 (fup (fup (bf0 V) 0 (aR (some (bI V 2 0)))) 1 (aR (some (bI V 2 1))))) = hup (hup (hup (hup (hup h (bI V 3 0) (kQ 0 4 (fun _ => none))) (bI V 2 0) (kO 11 (al (bI V 3 0) 0 0))) (bI V 4 0) (kQ 0 8 (fun _ => none))) (bI V 2 1) (kO 11 (al (bI V 4 0) 0 0))) (bI V 1 0) (kO 2 (fup (fup (bf0 V) 0 (aR (some (bI V 2 0)))) 1 (aR (some (bI V 2 1))))) by rw [hup_comm (bI_ne (by decide) : (bI V 2 1 : EId) ≠ (bI V 1 0)), hup_x (bI_ne (by decide)), hup_comm (bI_ne (by decide) : (bI V 1 0) ≠ (bI V 2 1 : EId))]]
  refine ew_aload_n dX2_init_29 rfl lm0 ?_
  refine ew_newB (i := bI V 2 2) (ci := 11) (n := 3) (fs := al0) (r := (RJ2, TJ2, 3)) dX2_init_30 rfl rfl q155 q156 q112 (fun k hk => ?_) (by simp only [bx_b]; simp; exact hf 2 2 (by decide)) b9 (by decide) (by decide) ?_
  · rcases (show k = 0 ∨ k = 1 ∨ k = 2 by omega) with rfl | rfl | rfl
    · exact ⟨.int, by decide +kernel, rfl⟩
    · exact ⟨.array (.object "java/lang/Object"), by decide +kernel, rfl⟩
    · exact ⟨.int, by decide +kernel, rfl⟩
  refine ew_dup dX2_init_33 rfl ?_
  refine ew_iconst dX2_init_34 (inI_of rfl) ?_
  refine ew_callI (d := d + 3) (as := [aI 4]) rfl dX2_init_35 me_J2_init rfl rfl rfl (Or.inl q157) q158 (Nat.le_of_ble_eq_true rfl) (by decide) (by decide) (A_init (d := d) (N := 4) (E := bI V 5 0) (hup_self _ _ _) (by decide) (by decide) (by simp only [bx_b]; simp; exact hf 5 0 (by decide)) b9) (fun o h' hq _ => ?_) (fun E i h' q _ => by cases q.1)
  obtain ⟨E1, rfl⟩ := hq
  cases E1
  rw [hup_x (bI_ne (by decide))]
  refine ew_putF dX2_init_38 q193 bf_2 rfl (by simp only [bx_b]; rfl) lm0 (ty := .object "java/util/List") (by decide +kernel) e_fitR ?_
  rw [show hup (hup (hup (hup (hup (hup (hup (hup h (bI V 3 0) (kQ 0 4 (fun _ => none))) (bI V 2 0) (kO 11 (al (bI V 3 0) 0 0))) (bI V 4 0) (kQ 0 8 (fun _ => none))) (bI V 2 1) (kO 11 (al (bI V 4 0) 0 0))) (bI V 1 0) (kO 2 (fup (fup (bf0 V) 0 (aR (some (bI V 2 0)))) 1 (aR (some (bI V 2 1)))))) (bI V 5 0) (kQ 0 4 (fun _ => none))) (bI V 2 2) (kO 11 (al (bI V 5 0) 0 0))) (bI V 1 0) (kO 2 (fup (fup (fup (bf0 V) 0 (aR (some (bI V 2 0)))) 1 (aR (some (bI V 2 1)))) 2 (aR (some (bI V 2 2))))) = hup (hup (hup (hup (hup (hup (hup h (bI V 3 0) (kQ 0 4 (fun _ => none))) (bI V 2 0) (kO 11 (al (bI V 3 0) 0 0))) (bI V 4 0) (kQ 0 8 (fun _ => none))) (bI V 2 1) (kO 11 (al (bI V 4 0) 0 0))) (bI V 5 0) (kQ 0 4 (fun _ => none))) (bI V 2 2) (kO 11 (al (bI V 5 0) 0 0))) (bI V 1 0) (kO 2 (fup (fup (fup (bf0 V) 0 (aR (some (bI V 2 0)))) 1 (aR (some (bI V 2 1)))) 2 (aR (some (bI V 2 2))))) by rw [hup_comm (bI_ne (by decide) : (bI V 2 2 : EId) ≠ (bI V 1 0)), hup_x (bI_ne (by decide)), hup_comm (bI_ne (by decide) : (bI V 1 0) ≠ (bI V 2 2 : EId))]]
  refine ew_aload_n dX2_init_41 rfl lm0 ?_
  refine ew_newB (i := bI V 2 3) (ci := 11) (n := 3) (fs := al0) (r := (RJ2, TJ2, 3)) dX2_init_42 rfl rfl q155 q156 q112 (fun k hk => ?_) (by simp only [bx_b]; simp; exact hf 2 3 (by decide)) b9 (by decide) (by decide) ?_
  · rcases (show k = 0 ∨ k = 1 ∨ k = 2 by omega) with rfl | rfl | rfl
    · exact ⟨.int, by decide +kernel, rfl⟩
    · exact ⟨.array (.object "java/lang/Object"), by decide +kernel, rfl⟩
    · exact ⟨.int, by decide +kernel, rfl⟩
  refine ew_dup dX2_init_45 rfl ?_
  refine ew_iconst dX2_init_46 (inI_of rfl) ?_
  refine ew_callI (d := d + 3) (as := [aI 4]) rfl dX2_init_47 me_J2_init rfl rfl rfl (Or.inl q157) q158 (Nat.le_of_ble_eq_true rfl) (by decide) (by decide) (A_init (d := d) (N := 4) (E := bI V 6 0) (hup_self _ _ _) (by decide) (by decide) (by simp only [bx_b]; simp; exact hf 6 0 (by decide)) b9) (fun o h' hq _ => ?_) (fun E i h' q _ => by cases q.1)
  obtain ⟨E1, rfl⟩ := hq
  cases E1
  rw [hup_x (bI_ne (by decide))]
  refine ew_putF dX2_init_50 q196 bf_3 rfl (by simp only [bx_b]; rfl) lm0 (ty := .object "java/util/List") (by decide +kernel) e_fitR ?_
  rw [show hup (hup (hup (hup (hup (hup (hup (hup (hup (hup h (bI V 3 0) (kQ 0 4 (fun _ => none))) (bI V 2 0) (kO 11 (al (bI V 3 0) 0 0))) (bI V 4 0) (kQ 0 8 (fun _ => none))) (bI V 2 1) (kO 11 (al (bI V 4 0) 0 0))) (bI V 5 0) (kQ 0 4 (fun _ => none))) (bI V 2 2) (kO 11 (al (bI V 5 0) 0 0))) (bI V 1 0) (kO 2 (fup (fup (fup (bf0 V) 0 (aR (some (bI V 2 0)))) 1 (aR (some (bI V 2 1)))) 2 (aR (some (bI V 2 2)))))) (bI V 6 0) (kQ 0 4 (fun _ => none))) (bI V 2 3) (kO 11 (al (bI V 6 0) 0 0))) (bI V 1 0) (kO 2 (fup (fup (fup (fup (bf0 V) 0 (aR (some (bI V 2 0)))) 1 (aR (some (bI V 2 1)))) 2 (aR (some (bI V 2 2)))) 3 (aR (some (bI V 2 3))))) = hup (hup (hup (hup (hup (hup (hup (hup (hup h (bI V 3 0) (kQ 0 4 (fun _ => none))) (bI V 2 0) (kO 11 (al (bI V 3 0) 0 0))) (bI V 4 0) (kQ 0 8 (fun _ => none))) (bI V 2 1) (kO 11 (al (bI V 4 0) 0 0))) (bI V 5 0) (kQ 0 4 (fun _ => none))) (bI V 2 2) (kO 11 (al (bI V 5 0) 0 0))) (bI V 6 0) (kQ 0 4 (fun _ => none))) (bI V 2 3) (kO 11 (al (bI V 6 0) 0 0))) (bI V 1 0) (kO 2 (fup (fup (fup (fup (bf0 V) 0 (aR (some (bI V 2 0)))) 1 (aR (some (bI V 2 1)))) 2 (aR (some (bI V 2 2)))) 3 (aR (some (bI V 2 3))))) by rw [hup_comm (bI_ne (by decide) : (bI V 2 3 : EId) ≠ (bI V 1 0)), hup_x (bI_ne (by decide)), hup_comm (bI_ne (by decide) : (bI V 1 0) ≠ (bI V 2 3 : EId))]]
  refine ew_aload_n dX2_init_53 rfl lm0 ?_
  refine ew_newB (i := bI V 2 4) (ci := 11) (n := 3) (fs := al0) (r := (RJ2, TJ2, 3)) dX2_init_54 rfl rfl q155 q156 q112 (fun k hk => ?_) (by simp only [bx_b]; simp; exact hf 2 4 (by decide)) b9 (by decide) (by decide) ?_
  · rcases (show k = 0 ∨ k = 1 ∨ k = 2 by omega) with rfl | rfl | rfl
    · exact ⟨.int, by decide +kernel, rfl⟩
    · exact ⟨.array (.object "java/lang/Object"), by decide +kernel, rfl⟩
    · exact ⟨.int, by decide +kernel, rfl⟩
  refine ew_dup dX2_init_57 rfl ?_
  refine ew_bipush dX2_init_58 (inI_of rfl) (by decide) ?_
  refine ew_callI (d := d + 3) (as := [aI 8]) rfl dX2_init_60 me_J2_init rfl rfl rfl (Or.inl q157) q158 (Nat.le_of_ble_eq_true rfl) (by decide) (by decide) (A_init (d := d) (N := 8) (E := bI V 7 0) (hup_self _ _ _) (by decide) (by decide) (by simp only [bx_b]; simp; exact hf 7 0 (by decide)) b9) (fun o h' hq _ => ?_) (fun E i h' q _ => by cases q.1)
  obtain ⟨E1, rfl⟩ := hq
  cases E1
  rw [hup_x (bI_ne (by decide))]
  refine ew_putF dX2_init_63 q199 bf_4 rfl (by simp only [bx_b]; rfl) lm0 (ty := .object "java/util/List") (by decide +kernel) e_fitR ?_
  rw [show hup (hup (hup (hup (hup (hup (hup (hup (hup (hup (hup (hup h (bI V 3 0) (kQ 0 4 (fun _ => none))) (bI V 2 0) (kO 11 (al (bI V 3 0) 0 0))) (bI V 4 0) (kQ 0 8 (fun _ => none))) (bI V 2 1) (kO 11 (al (bI V 4 0) 0 0))) (bI V 5 0) (kQ 0 4 (fun _ => none))) (bI V 2 2) (kO 11 (al (bI V 5 0) 0 0))) (bI V 6 0) (kQ 0 4 (fun _ => none))) (bI V 2 3) (kO 11 (al (bI V 6 0) 0 0))) (bI V 1 0) (kO 2 (fup (fup (fup (fup (bf0 V) 0 (aR (some (bI V 2 0)))) 1 (aR (some (bI V 2 1)))) 2 (aR (some (bI V 2 2)))) 3 (aR (some (bI V 2 3)))))) (bI V 7 0) (kQ 0 8 (fun _ => none))) (bI V 2 4) (kO 11 (al (bI V 7 0) 0 0))) (bI V 1 0) (kO 2 (fup (fup (fup (fup (fup (bf0 V) 0 (aR (some (bI V 2 0)))) 1 (aR (some (bI V 2 1)))) 2 (aR (some (bI V 2 2)))) 3 (aR (some (bI V 2 3)))) 4 (aR (some (bI V 2 4))))) = hup (hup (hup (hup (hup (hup (hup (hup (hup (hup (hup h (bI V 3 0) (kQ 0 4 (fun _ => none))) (bI V 2 0) (kO 11 (al (bI V 3 0) 0 0))) (bI V 4 0) (kQ 0 8 (fun _ => none))) (bI V 2 1) (kO 11 (al (bI V 4 0) 0 0))) (bI V 5 0) (kQ 0 4 (fun _ => none))) (bI V 2 2) (kO 11 (al (bI V 5 0) 0 0))) (bI V 6 0) (kQ 0 4 (fun _ => none))) (bI V 2 3) (kO 11 (al (bI V 6 0) 0 0))) (bI V 7 0) (kQ 0 8 (fun _ => none))) (bI V 2 4) (kO 11 (al (bI V 7 0) 0 0))) (bI V 1 0) (kO 2 (fup (fup (fup (fup (fup (bf0 V) 0 (aR (some (bI V 2 0)))) 1 (aR (some (bI V 2 1)))) 2 (aR (some (bI V 2 2)))) 3 (aR (some (bI V 2 3)))) 4 (aR (some (bI V 2 4))))) by rw [hup_comm (bI_ne (by decide) : (bI V 2 4 : EId) ≠ (bI V 1 0)), hup_x (bI_ne (by decide)), hup_comm (bI_ne (by decide) : (bI V 1 0) ≠ (bI V 2 4 : EId))]]
  refine ew_ret (o := none) rfl ⟨rfl, ?_⟩ ⟨rfl, dX2_init_66⟩
  funext i
  by_cases hi : breg V i
  · obtain ⟨reg, k, hr, rfl⟩ : ∃ reg k, reg < 20 ∧ i = bI V reg k := ⟨i.2.1, i.2.2, hi.2, breg_eq hi⟩
    rw [bset_b hr, hf reg k hr]
    simp only [bx_b, hf reg k hr]
    by_cases e1 : reg = 1 ∧ k = 0
    · obtain ⟨rfl, rfl⟩ := e1
      refine congrArg (fun f => some (kO 2 f)) (funext fun x => ?_)
      by_cases hx : x < 5
      · rcases (show x = 0 ∨ x = 1 ∨ x = 2 ∨ x = 3 ∨ x = 4 by omega) with rfl | rfl | rfl | rfl | rfl <;> rfl
      · rw [fup_ne (by omega), fup_ne (by omega), fup_ne (by omega), fup_ne (by omega), fup_ne (by omega)]
        exact if_neg hx
    by_cases e20 : reg = 2 ∧ k = 0
    · obtain ⟨rfl, rfl⟩ := e20
      rfl
    by_cases e30 : reg = 3 ∧ k = 0
    · obtain ⟨rfl, rfl⟩ := e30
      rw [show bC V (rr0 n) 3 0 = some (kQ 0 (xcap 0 0) (xec V (rr0 n) 0 0)) from rfl, xec_0]
      rfl
    by_cases e21 : reg = 2 ∧ k = 1
    · obtain ⟨rfl, rfl⟩ := e21
      rfl
    by_cases e31 : reg = 4 ∧ k = 0
    · obtain ⟨rfl, rfl⟩ := e31
      rw [show bC V (rr0 n) 4 0 = some (kQ 0 (xcap 1 0) (xec V (rr0 n) 1 0)) from rfl, xec_0]
      rfl
    by_cases e22 : reg = 2 ∧ k = 2
    · obtain ⟨rfl, rfl⟩ := e22
      rfl
    by_cases e32 : reg = 5 ∧ k = 0
    · obtain ⟨rfl, rfl⟩ := e32
      rw [show bC V (rr0 n) 5 0 = some (kQ 0 (xcap 2 0) (xec V (rr0 n) 2 0)) from rfl, xec_0]
      rfl
    by_cases e23 : reg = 2 ∧ k = 3
    · obtain ⟨rfl, rfl⟩ := e23
      rfl
    by_cases e33 : reg = 6 ∧ k = 0
    · obtain ⟨rfl, rfl⟩ := e33
      rw [show bC V (rr0 n) 6 0 = some (kQ 0 (xcap 3 0) (xec V (rr0 n) 3 0)) from rfl, xec_0]
      rfl
    by_cases e24 : reg = 2 ∧ k = 4
    · obtain ⟨rfl, rfl⟩ := e24
      rfl
    by_cases e34 : reg = 7 ∧ k = 0
    · obtain ⟨rfl, rfl⟩ := e34
      rw [show bC V (rr0 n) 7 0 = some (kQ 0 (xcap 4 0) (xec V (rr0 n) 4 0)) from rfl, xec_0]
      rfl
    rw [bC0_none e1 (fun j hj => by rcases (show j = 0 ∨ j = 1 ∨ j = 2 ∨ j = 3 ∨ j = 4 by omega) with rfl | rfl | rfl | rfl | rfl <;> assumption) (fun j hj => by rcases (show j = 0 ∨ j = 1 ∨ j = 2 ∨ j = 3 ∨ j = 4 by omega) with rfl | rfl | rfl | rfl | rfl <;> assumption)]
    simp only [e1, e20, e21, e22, e23, e24, e30, e31, e32, e33, e34, if_false]
    rfl
  · rw [bset_n hi]
    have ne : ∀ a b, a < 20 → i ≠ bI V a b := fun a b ha e => hi (by rw [e]; exact bI_reg ha)
    rw [hup_ne (ne _ _ (by decide)), hup_ne (ne _ _ (by decide)), hup_ne (ne _ _ (by decide)), hup_ne (ne _ _ (by decide)), hup_ne (ne _ _ (by decide)), hup_ne (ne _ _ (by decide)), hup_ne (ne _ _ (by decide)), hup_ne (ne _ _ (by decide)), hup_ne (ne _ _ (by decide)), hup_ne (ne _ _ (by decide)), hup_ne (ne _ _ (by decide))]
end INIB
