/-! CONSTRUCTORS of the sheets and the book (gen/init.py) -/
set_option maxRecDepth 100000
def idf (t : Int) : Int → Int := fun x => if 0 ≤ x ∧ x < t then x else 0
def upf (t : Int) : Int → Int := fun x => if 0 ≤ x ∧ x < t then -1 else 0
theorem idf_up {t : Int} (ht : 0 ≤ t) : iup (idf t) t t = idf (t + 1) := by
  funext x
  unfold iup idf
  by_cases e : x = t
  · rw [if_pos e, if_pos ⟨by omega, by omega⟩, e]
  · rw [if_neg e]
    by_cases c : 0 ≤ x ∧ x < t
    · rw [if_pos c, if_pos ⟨by omega, by omega⟩]
    · rw [if_neg c, if_neg (fun q => c ⟨q.1, by omega⟩)]
theorem upf_up {t : Int} (ht : 0 ≤ t) : iup (upf t) t (-1) = upf (t + 1) := by
  funext x
  unfold iup upf
  by_cases e : x = t
  · rw [if_pos e, if_pos ⟨by omega, by omega⟩]
  · rw [if_neg e]
    by_cases c : 0 ≤ x ∧ x < t
    · rw [if_pos c, if_pos ⟨by omega, by omega⟩]
    · rw [if_neg c, if_neg (fun q => c ⟨q.1, by omega⟩)]
theorem upf_0 : upf 0 = fun _ => 0 := by
  funext x
  unfold upf
  rw [if_neg (by omega)]
theorem idf_0 : idf 0 = fun _ => 0 := by
  funext x
  unfold idf
  rw [if_neg (by omega)]
theorem sI_ne {V : XV} {j a b : Nat} (h : a ≠ b) : (sI V j a : EId) ≠ sI V j b := fun e => h (by simp only [sI, Prod.mk.injEq] at e; exact e.2.2)
theorem sI_t {V : XV} {j a b : Nat} : (sI V j a : EId) ≠ tI V j b := fun e => by
  simp only [sI, tI, Prod.mk.injEq] at e
  omega
theorem tI_s {V : XV} {j a b : Nat} : (tI V j a : EId) ≠ sI V j b := fun e => sI_t e.symm
theorem s9 {V : XV} {j a : Nat} : (sI V j a : EId).1 ≠ 9 := by show 10 + V j ≠ 9; omega
theorem t9 {V : XV} {j a : Nat} : (tI V j a : EId).1 ≠ 9 := by show 10 + V j ≠ 9; omega
theorem b9 {V : XV} {a b : Nat} : (bI V a b : EId).1 ≠ 9 := by show 10 + V 9 ≠ 9; omega
/-- sheet j's names are free -/
def sfr (V : XV) (j : Nat) (h : AH) : Prop := (∀ k, h (sI V j k) = none) ∧ ∀ q, h (tI V j q) = none
section INI
variable {d j ci n : Nat} {h : AH} {V : XV} {fs : Nat → AV} {B : EId}
abbrev mm_X3_init : EM := (yX3_init, cX3_init, 3, (Option.none : Option Jvm.ClassFile.FieldType), [])
theorem me_X3_init : e_mth mm_X3_init 1 := ⟨rfl, q226, q113, by decide +kernel, by decide⟩
theorem A_gr (hc : ci ∈ [3, 4, 5]) (hf : sfr V j h) (hn : n ≤ 10000) : Sp mm_X3_init (d + 1) 2 (24 + n) [aR (some (sI V j 99)), aI n] (hup h (sI V j 99) (kO ci fs)) (fun o h' => o = Sum.inl none ∧ h' = hup (hup (hup h (sI V j 0) (kI 0 24 (idf 24))) (tI V j 0) (kI 0 n (fun _ => 0))) (sI V j 99) (kO ci (fup (fup fs 0 (aR (some (sI V j 0)))) 2 (aR (some (tI V j 0)))))) := by
  refine ew_sp rfl (Nat.le_of_ble_eq_true rfl) ?_
  refine ew_aload_n dX3_init_0 rfl lm0 ?_
  refine ew_objInit (d := d) dX3_init_1 q227 q147 q148 (Nat.le_of_ble_eq_true rfl) ?_
  refine ew_aload_n dX3_init_4 rfl lm0 ?_
  refine ew_bipush dX3_init_5 (inI_of rfl) (by decide) ?_
  refine ew_newIB (t := 0) (N := 24) (i := (sI V j 0)) dX3_init_7 rfl (by decide) q302 rfl (by decide) ((hup_ne (sI_ne (by decide))).trans (hf.1 _)) s9 (by decide) (by omega) ?_
  refine ew_putF dX3_init_9 q258 yf_0 rfl ((hup_ne (sI_ne (by decide))).trans (hup_self _ _ _)) hc (ty := .array .int) (by decide +kernel) e_fitA ?_
  rw [hup_x (sI_ne (by decide)), show kI 0 24 (fun _ => 0) = kI 0 24 (idf 0) by rw [idf_0]]
  refine ew_iconst dX3_init_12 (inI_of rfl) ?_
  refine ew_istore_n dX3_init_13 rfl (by decide) (lv' := [(2, aI 0), (0, aR (some (sI V j 99))), (1, aI n)]) rfl ?_
  have loop : ∀ (k : Nat) (t : Int), t + k = 24 → 0 ≤ t → EW mm_X3_init (d + 1) (2 - 1) (24 + n - 24) (fun o h' => o = Sum.inl none ∧ h' = hup (hup (hup h (sI V j 0) (kI 0 24 (idf 24))) (tI V j 0) (kI 0 n (fun _ => 0))) (sI V j 99) (kO ci (fup (fup fs 0 (aR (some (sI V j 0)))) 2 (aR (some (tI V j 0)))))) 14 [(2, aI t), (0, aR (some (sI V j 99))), (1, aI n)] [] (hup (hup h (sI V j 0) (kI 0 24 (idf t))) (sI V j 99) (kO ci (fup fs 0 (aR (some (sI V j 0)))))) := by
    intro k
    induction k with
    | zero =>
      intro t ht h0
      refine ew_iload_n dX3_init_14 rfl lm0 ?_
      refine ew_bipush dX3_init_15 (inI_of rfl) (by decide) ?_
      refine ew_icmp_ge (tgt := 33) dX3_init_17 (by decide) (fun c => ?_) (fun c => absurd (show (24 : Int) ≤ t by omega) c)
      rw [show t = 24 by omega]
      refine ew_aload_n dX3_init_33 rfl lm1 ?_
      refine ew_iload_n dX3_init_34 rfl lm2 ?_
      refine ew_newIB (t := 0) (N := n) (i := (tI V j 0)) dX3_init_35 rfl (by decide) q302 rfl hn ((hup_ne tI_s).trans ((hup_ne tI_s).trans (hf.2 _))) t9 (by decide) (by omega) ?_
      refine ew_put dX3_init_37 (e_fl.a q271) yf_2 ((hup_ne sI_t).trans (hup_self _ _ _)) hc (ty := .array .int) (by decide +kernel) e_fitA ?_
      rw [hup_x sI_t]
      exact ew_ret (o := none) rfl ⟨rfl, rfl⟩ ⟨rfl, dX3_init_40⟩
    | succ k ih =>
      intro t ht h0
      refine ew_iload_n dX3_init_14 rfl lm0 ?_
      refine ew_bipush dX3_init_15 (inI_of rfl) (by decide) ?_
      refine ew_icmp_ge (tgt := 33) dX3_init_17 (by decide) (fun c => absurd c (by omega)) (fun c => ?_)
      refine ew_aload_n dX3_init_20 rfl lm1 ?_
      refine ew_get dX3_init_21 (e_fl.a q258) yf_0 (hup_self _ _ _) hc ?_
      refine ew_iload_n dX3_init_24 rfl lm0 ?_
      refine ew_iload_n dX3_init_25 rfl lm0 ?_
      refine ew_iast (i := (sI V j 0)) (n := 24) (f := idf t) dX3_init_26 ((hup_ne (sI_ne (by decide))).trans (hup_self _ _ _)) h0 (by omega) ?_
      rw [hup_comm (sI_ne (by decide)), hup_hup, idf_up h0]
      refine ew_iinc dX3_init_27 lm0 (by decide) (by constructor <;> omega) (lv' := [(2, aI (t + 1)), (0, aR (some (sI V j 99))), (1, aI n)]) rfl ?_
      refine ew_goto (tgt := 14) dX3_init_30 (by decide) ?_
      exact ih (t + 1) (by omega) (by omega)
  exact loop 24 0 (by omega) (by omega)
abbrev mm_X3_init_2 : EM := (yX3_init_2, cX3_init_2, 1, (Option.none : Option Jvm.ClassFile.FieldType), [])
theorem me_X3_init_2 : e_mth mm_X3_init_2 0 := ⟨rfl, q320, q113, by decide +kernel, by decide⟩
theorem A_gr0 (hc : ci ∈ [3, 4, 5]) (hf : sfr V j h) : Sp mm_X3_init_2 (d + 2) 2 24 [aR (some (sI V j 99))] (hup h (sI V j 99) (kO ci fs)) (fun o h' => o = Sum.inl none ∧ h' = hup (hup (hup h (sI V j 0) (kI 0 24 (idf 24))) (tI V j 0) (kI 0 0 (fun _ => 0))) (sI V j 99) (kO ci (fup (fup fs 0 (aR (some (sI V j 0)))) 2 (aR (some (tI V j 0)))))) := by
  refine ew_sp rfl (Nat.le_of_ble_eq_true rfl) ?_
  refine ew_aload_n dX3_init_2_0 rfl lm0 ?_
  refine ew_iconst dX3_init_2_1 (inI_of rfl) ?_
  refine ew_callI (d := d + 1) (as := [aI 0]) rfl dX3_init_2_2 me_X3_init rfl rfl rfl (Or.inl q321) q225 (Nat.le_of_ble_eq_true rfl) (Nat.le_refl _) (Nat.le_refl _) (A_gr (d := d) (n := 0) hc hf (by omega)) (fun o h' hq _ => ?_) (fun E i h' q _ => by cases q.1)
  obtain ⟨E1, rfl⟩ := hq
  cases E1
  exact ew_ret (o := none) rfl ⟨rfl, rfl⟩ ⟨rfl, dX3_init_2_5⟩
abbrev mm_X4_init : EM := (yX4_init, cX4_init, 3, (Option.none : Option Jvm.ClassFile.FieldType), [])
theorem me_X4_init : e_mth mm_X4_init 2 := ⟨rfl, q223, q114, by decide +kernel, by decide⟩
theorem A_cl (hc : ci ∈ [4, 5]) (hf : sfr V j h) (hn : n ≤ 10000) : Sp mm_X4_init (d + 2) 2 (24 + n) [aR (some (sI V j 99)), aR (some B), aI n] (hup h (sI V j 99) (kO ci fs)) (fun o h' => o = Sum.inl none ∧ h' = (hup (hup (hup h (sI V j 0) (kI 0 24 (idf 24))) (tI V j 0) (kI 0 n (fun _ => 0))) (sI V j 99) (kO ci (fup (fup (fup fs 0 (aR (some (sI V j 0)))) 2 (aR (some (tI V j 0)))) 4 (aR (some B)))))) := by
  refine ew_sp rfl (Nat.le_of_ble_eq_true rfl) ?_
  refine ew_aload_n dX4_init_0 rfl lm0 ?_
  refine ew_iload_n dX4_init_1 rfl lm2 ?_
  refine ew_callI (d := d + 1) (as := [aI n]) rfl dX4_init_2 me_X3_init rfl rfl rfl (Or.inl q224) q225 (Nat.le_of_ble_eq_true rfl) (Nat.le_refl _) (Nat.le_refl _) (A_gr (d := d) (n := n) (List.mem_cons_of_mem _ hc) hf hn) (fun o h' hq _ => ?_) (fun E i h' q _ => by cases q.1)
  obtain ⟨E1, rfl⟩ := hq
  cases E1
  refine ew_aload_n dX4_init_5 rfl lm0 ?_
  refine ew_aload_n dX4_init_6 rfl lm1 ?_
  refine ew_putF dX4_init_7 q253 yf_4 rfl (hup_self _ _ _) hc (ty := .object "java/util/List") (by decide +kernel) e_fitR ?_
  rw [hup_hup]
  exact ew_ret (o := none) rfl ⟨rfl, rfl⟩ ⟨rfl, dX4_init_10⟩
abbrev mm_X4_init_2 : EM := (yX4_init_2, cX4_init_2, 2, (Option.none : Option Jvm.ClassFile.FieldType), [])
theorem me_X4_init_2 : e_mth mm_X4_init_2 1 := ⟨rfl, q308, q114, by decide +kernel, by decide⟩
theorem A_cl0 (hc : ci ∈ [4, 5]) (hf : sfr V j h) : Sp mm_X4_init_2 (d + 3) 2 24 [aR (some (sI V j 99)), aR (some B)] (hup h (sI V j 99) (kO ci fs)) (fun o h' => o = Sum.inl none ∧ h' = (hup (hup (hup h (sI V j 0) (kI 0 24 (idf 24))) (tI V j 0) (kI 0 0 (fun _ => 0))) (sI V j 99) (kO ci (fup (fup (fup fs 0 (aR (some (sI V j 0)))) 2 (aR (some (tI V j 0)))) 4 (aR (some B)))))) := by
  refine ew_sp rfl (Nat.le_of_ble_eq_true rfl) ?_
  refine ew_aload_n dX4_init_2_0 rfl lm0 ?_
  refine ew_aload_n dX4_init_2_1 rfl lm1 ?_
  refine ew_iconst dX4_init_2_2 (inI_of rfl) ?_
  refine ew_callI (d := d + 2) (as := [aR (some B), aI 0]) rfl dX4_init_2_3 me_X4_init rfl rfl rfl (Or.inl q309) q222 (Nat.le_of_ble_eq_true rfl) (Nat.le_refl _) (Nat.le_refl _) (A_cl (d := d) (n := 0) hc hf (by omega)) (fun o h' hq _ => ?_) (fun E i h' q _ => by cases q.1)
  obtain ⟨E1, rfl⟩ := hq
  cases E1
  exact ew_ret (o := none) rfl ⟨rfl, rfl⟩ ⟨rfl, dX4_init_2_6⟩
abbrev mm_X5_init : EM := (yX5_init, cX5_init, 3, (Option.none : Option Jvm.ClassFile.FieldType), [])
theorem me_X5_init : e_mth mm_X5_init 1 := ⟨rfl, q220, q115, by decide +kernel, by decide⟩
theorem A_fo (hf : sfr V j h) : Sp mm_X5_init (d + 3) 7 444 [aR (some (sI V j 99)), aR (some B)] (hup h (sI V j 99) (kO 5 fs)) (fun o h' => o = Sum.inl none ∧ h' = (hup (hup (hup (hup (hup (hup (hup (hup (hup h (sI V j 0) (kI 0 24 (idf 24))) (tI V j 0) (kI 0 300 (fun _ => 0))) (sI V j 5) (kI 0 24 (fun _ => 0))) (sI V j 6) (kI 0 24 (fun _ => 0))) (sI V j 7) (kI 0 24 (fun _ => 0))) (sI V j 8) (kI 0 24 (fun _ => 0))) (sI V j 9) (kI 0 24 (fun _ => 0))) (sI V j 99) (kO 5 (fup (fup (fup (fup (fup (fup (fup (fup fs 0 (aR (some (sI V j 0)))) 2 (aR (some (tI V j 0)))) 4 (aR (some B))) 5 (aR (some (sI V j 5)))) 6 (aR (some (sI V j 6)))) 7 (aR (some (sI V j 7)))) 8 (aR (some (sI V j 8)))) 9 (aR (some (sI V j 9)))))) (sI V j 5) (kI 0 24 (upf 24)))) := by
  refine ew_sp rfl (Nat.le_of_ble_eq_true rfl) ?_
  refine ew_aload_n dX5_init_0 rfl lm0 ?_
  refine ew_aload_n dX5_init_1 rfl lm1 ?_
  refine ew_sipush dX5_init_2 (inI_of rfl) (by decide) ?_
  refine ew_callI (d := d + 2) (as := [aR (some B), aI 300]) rfl dX5_init_5 me_X4_init rfl rfl rfl (Or.inl q221) q222 (Nat.le_of_ble_eq_true rfl) (by decide) (by decide) (A_cl (d := d) (n := 300) (by decide) hf (by omega)) (fun o h' hq _ => ?_) (fun E i h' q _ => by cases q.1)
  obtain ⟨E1, rfl⟩ := hq
  cases E1
  refine ew_aload_n dX5_init_8 rfl lm0 ?_
  refine ew_bipush dX5_init_9 (inI_of rfl) (by decide) ?_
  refine ew_newIB (t := 0) (N := 24) (i := sI V j 5) dX5_init_11 rfl (by decide) q302 rfl (by decide) ((hup_ne (sI_ne (by decide))).trans ((hup_ne sI_t).trans ((hup_ne (sI_ne (by decide))).trans (hf.1 _)))) s9 (by decide) (by decide) ?_
  refine ew_putF dX5_init_13 q231 yf_5 rfl ((hup_ne (sI_ne (by decide))).trans (hup_self _ _ _)) (by decide) (ty := .array .int) (by decide +kernel) e_fitA ?_
  rw [hup_x (sI_ne (by decide))]
  refine ew_aload_n dX5_init_16 rfl lm0 ?_
  refine ew_bipush dX5_init_17 (inI_of rfl) (by decide) ?_
  refine ew_newIB (t := 0) (N := 24) (i := sI V j 6) dX5_init_19 rfl (by decide) q302 rfl (by decide) ((hup_ne (sI_ne (by decide))).trans ((hup_ne (sI_ne (by decide))).trans ((hup_ne sI_t).trans ((hup_ne (sI_ne (by decide))).trans (hf.1 _))))) s9 (by decide) (by decide) ?_
  refine ew_putF dX5_init_21 q235 yf_6 rfl ((hup_ne (sI_ne (by decide))).trans (hup_self _ _ _)) (by decide) (ty := .array .int) (by decide +kernel) e_fitA ?_
  rw [hup_x (sI_ne (by decide))]
  refine ew_aload_n dX5_init_24 rfl lm0 ?_
  refine ew_bipush dX5_init_25 (inI_of rfl) (by decide) ?_
  refine ew_newIB (t := 0) (N := 24) (i := sI V j 7) dX5_init_27 rfl (by decide) q302 rfl (by decide) ((hup_ne (sI_ne (by decide))).trans ((hup_ne (sI_ne (by decide))).trans ((hup_ne (sI_ne (by decide))).trans ((hup_ne sI_t).trans ((hup_ne (sI_ne (by decide))).trans (hf.1 _)))))) s9 (by decide) (by decide) ?_
  refine ew_putF dX5_init_29 q238 yf_7 rfl ((hup_ne (sI_ne (by decide))).trans (hup_self _ _ _)) (by decide) (ty := .array .int) (by decide +kernel) e_fitA ?_
  rw [hup_x (sI_ne (by decide))]
  refine ew_aload_n dX5_init_32 rfl lm0 ?_
  refine ew_bipush dX5_init_33 (inI_of rfl) (by decide) ?_
  refine ew_newIB (t := 0) (N := 24) (i := sI V j 8) dX5_init_35 rfl (by decide) q302 rfl (by decide) ((hup_ne (sI_ne (by decide))).trans ((hup_ne (sI_ne (by decide))).trans ((hup_ne (sI_ne (by decide))).trans ((hup_ne (sI_ne (by decide))).trans ((hup_ne sI_t).trans ((hup_ne (sI_ne (by decide))).trans (hf.1 _))))))) s9 (by decide) (by decide) ?_
  refine ew_putF dX5_init_37 q242 yf_8 rfl ((hup_ne (sI_ne (by decide))).trans (hup_self _ _ _)) (by decide) (ty := .array .int) (by decide +kernel) e_fitA ?_
  rw [hup_x (sI_ne (by decide))]
  refine ew_aload_n dX5_init_40 rfl lm0 ?_
  refine ew_bipush dX5_init_41 (inI_of rfl) (by decide) ?_
  refine ew_newIB (t := 0) (N := 24) (i := sI V j 9) dX5_init_43 rfl (by decide) q302 rfl (by decide) ((hup_ne (sI_ne (by decide))).trans ((hup_ne (sI_ne (by decide))).trans ((hup_ne (sI_ne (by decide))).trans ((hup_ne (sI_ne (by decide))).trans ((hup_ne (sI_ne (by decide))).trans ((hup_ne sI_t).trans ((hup_ne (sI_ne (by decide))).trans (hf.1 _)))))))) s9 (by decide) (by decide) ?_
  refine ew_putF dX5_init_45 q246 yf_9 rfl ((hup_ne (sI_ne (by decide))).trans (hup_self _ _ _)) (by decide) (ty := .array .int) (by decide +kernel) e_fitA ?_
  rw [hup_x (sI_ne (by decide))]
  refine ew_iconst dX5_init_48 (inI_of rfl) ?_
  refine ew_istore_n dX5_init_49 rfl (by decide) (lv' := [(2, aI 0), (0, aR (some (sI V j 99))), (1, aR (some B))]) rfl ?_
  have h5 : (hup (hup (hup (hup (hup (hup (hup h (sI V j 0) (kI 0 24 (idf 24))) (tI V j 0) (kI 0 300 (fun _ => 0))) (sI V j 5) (kI 0 24 (fun _ => 0))) (sI V j 6) (kI 0 24 (fun _ => 0))) (sI V j 7) (kI 0 24 (fun _ => 0))) (sI V j 8) (kI 0 24 (fun _ => 0))) (sI V j 9) (kI 0 24 (fun _ => 0))) (sI V j 5) = some (kI 0 24 (fun _ => 0)) := ((hup_ne (sI_ne (by decide))).trans ((hup_ne (sI_ne (by decide))).trans ((hup_ne (sI_ne (by decide))).trans ((hup_ne (sI_ne (by decide))).trans (hup_self _ _ _)))))
  generalize hG : (hup (hup (hup (hup (hup (hup (hup h (sI V j 0) (kI 0 24 (idf 24))) (tI V j 0) (kI 0 300 (fun _ => 0))) (sI V j 5) (kI 0 24 (fun _ => 0))) (sI V j 6) (kI 0 24 (fun _ => 0))) (sI V j 7) (kI 0 24 (fun _ => 0))) (sI V j 8) (kI 0 24 (fun _ => 0))) (sI V j 9) (kI 0 24 (fun _ => 0))) = G at h5 ⊢
  have h5' : hup G (sI V j 99) (kO 5 (fup (fup (fup (fup (fup (fup (fup (fup fs 0 (aR (some (sI V j 0)))) 2 (aR (some (tI V j 0)))) 4 (aR (some B))) 5 (aR (some (sI V j 5)))) 6 (aR (some (sI V j 6)))) 7 (aR (some (sI V j 7)))) 8 (aR (some (sI V j 8)))) 9 (aR (some (sI V j 9))))) (sI V j 5) = some (kI 0 24 (fun _ => 0)) := (hup_ne (sI_ne (by decide))).trans h5
  have hI : ∀ f, hup (hup G (sI V j 99) (kO 5 (fup (fup (fup (fup (fup (fup (fup (fup fs 0 (aR (some (sI V j 0)))) 2 (aR (some (tI V j 0)))) 4 (aR (some B))) 5 (aR (some (sI V j 5)))) 6 (aR (some (sI V j 6)))) 7 (aR (some (sI V j 7)))) 8 (aR (some (sI V j 8)))) 9 (aR (some (sI V j 9)))))) (sI V j 5) (kI 0 24 f) (sI V j 99) = some (kO 5 (fup (fup (fup (fup (fup (fup (fup (fup fs 0 (aR (some (sI V j 0)))) 2 (aR (some (tI V j 0)))) 4 (aR (some B))) 5 (aR (some (sI V j 5)))) 6 (aR (some (sI V j 6)))) 7 (aR (some (sI V j 7)))) 8 (aR (some (sI V j 8)))) 9 (aR (some (sI V j 9))))) := fun f => (hup_ne (sI_ne (by decide))).trans (hup_self _ _ _)
  have loop : ∀ (k : Nat) (t : Int), t + k = 24 → 0 ≤ t → EW mm_X5_init (d + 3) (7 - 2 - 1 - 1 - 1 - 1 - 1) (444 - (24 + 300) - 24 - 24 - 24 - 24 - 24) (fun o h' => o = Sum.inl none ∧ h' = (hup (hup G (sI V j 99) (kO 5 (fup (fup (fup (fup (fup (fup (fup (fup fs 0 (aR (some (sI V j 0)))) 2 (aR (some (tI V j 0)))) 4 (aR (some B))) 5 (aR (some (sI V j 5)))) 6 (aR (some (sI V j 6)))) 7 (aR (some (sI V j 7)))) 8 (aR (some (sI V j 8)))) 9 (aR (some (sI V j 9)))))) (sI V j 5) (kI 0 24 (upf 24)))) 50 [(2, aI t), (0, aR (some (sI V j 99))), (1, aR (some B))] [] (hup (hup G (sI V j 99) (kO 5 (fup (fup (fup (fup (fup (fup (fup (fup fs 0 (aR (some (sI V j 0)))) 2 (aR (some (tI V j 0)))) 4 (aR (some B))) 5 (aR (some (sI V j 5)))) 6 (aR (some (sI V j 6)))) 7 (aR (some (sI V j 7)))) 8 (aR (some (sI V j 8)))) 9 (aR (some (sI V j 9)))))) (sI V j 5) (kI 0 24 (upf t))) := by
    intro k
    induction k with
    | zero =>
      intro t ht h0
      refine ew_iload_n dX5_init_50 rfl lm0 ?_
      refine ew_bipush dX5_init_51 (inI_of rfl) (by decide) ?_
      refine ew_icmp_ge (tgt := 69) dX5_init_53 (by decide) (fun c => ?_) (fun c => absurd (show (24 : Int) ≤ t by omega) c)
      rw [show t = 24 by omega]
      exact ew_ret (o := none) rfl ⟨rfl, rfl⟩ ⟨rfl, dX5_init_69⟩
    | succ k ih =>
      intro t ht h0
      refine ew_iload_n dX5_init_50 rfl lm0 ?_
      refine ew_bipush dX5_init_51 (inI_of rfl) (by decide) ?_
      refine ew_icmp_ge (tgt := 69) dX5_init_53 (by decide) (fun c => absurd c (by omega)) (fun c => ?_)
      refine ew_aload_n dX5_init_56 rfl lm1 ?_
      refine ew_get dX5_init_57 (e_fl.a q231) yf_5 (hI _) (by decide) ?_
      refine ew_iload_n dX5_init_60 rfl lm0 ?_
      refine ew_iconst dX5_init_61 (inI_of rfl) ?_
      refine ew_iast (i := sI V j 5) (n := 24) (f := upf t) dX5_init_62 (hup_self _ _ _) h0 (by omega) ?_
      rw [hup_hup, upf_up h0]
      refine ew_iinc dX5_init_63 lm0 (by decide) (by constructor <;> omega) (lv' := [(2, aI (t + 1)), (0, aR (some (sI V j 99))), (1, aR (some B))]) rfl ?_
      refine ew_goto (tgt := 50) dX5_init_66 (by decide) ?_
      exact ih (t + 1) (by omega) (by omega)
  have key := loop 24 0 (by omega) (by omega)
  rw [upf_0, hup_eq h5'] at key
  exact key
abbrev mm_X6_init : EM := (yX6_init, cX6_init, 2, (Option.none : Option Jvm.ClassFile.FieldType), [])
theorem me_X6_init : e_mth mm_X6_init 1 := ⟨rfl, q217, q116, by decide +kernel, by decide⟩
theorem A_re0 (hf : sfr V j h) : Sp mm_X6_init (d + 4) 9 492 [aR (some (sI V j 99)), aR (some B)] (hup h (sI V j 99) (kO 5 fs)) (fun o h' => o = Sum.inl none ∧ h' = (hup (hup (hup (hup (hup (hup (hup (hup (hup (hup (hup (hup (hup h (sI V j 0) (kI 0 24 (idf 24))) (tI V j 0) (kI 0 300 (fun _ => 0))) (sI V j 5) (kI 0 24 (fun _ => 0))) (sI V j 6) (kI 0 24 (fun _ => 0))) (sI V j 7) (kI 0 24 (fun _ => 0))) (sI V j 8) (kI 0 24 (fun _ => 0))) (sI V j 9) (kI 0 24 (fun _ => 0))) (sI V j 99) (kO 5 (fup (fup (fup (fup (fup (fup (fup (fup fs 0 (aR (some (sI V j 0)))) 2 (aR (some (tI V j 0)))) 4 (aR (some B))) 5 (aR (some (sI V j 5)))) 6 (aR (some (sI V j 6)))) 7 (aR (some (sI V j 7)))) 8 (aR (some (sI V j 8)))) 9 (aR (some (sI V j 9)))))) (sI V j 5) (kI 0 24 (upf 24))) (sI V j 11) (kI 1 24 (fun _ => 0))) (sI V j 99) (kO 5 (fup (fup (fup (fup (fup (fup (fup (fup (fup fs 0 (aR (some (sI V j 0)))) 2 (aR (some (tI V j 0)))) 4 (aR (some B))) 5 (aR (some (sI V j 5)))) 6 (aR (some (sI V j 6)))) 7 (aR (some (sI V j 7)))) 8 (aR (some (sI V j 8)))) 9 (aR (some (sI V j 9)))) 11 (aR (some (sI V j 11)))))) (sI V j 12) (kI 1 24 (fun _ => 0))) (sI V j 99) (kO 5 (fup (fup (fup (fup (fup (fup (fup (fup (fup (fup fs 0 (aR (some (sI V j 0)))) 2 (aR (some (tI V j 0)))) 4 (aR (some B))) 5 (aR (some (sI V j 5)))) 6 (aR (some (sI V j 6)))) 7 (aR (some (sI V j 7)))) 8 (aR (some (sI V j 8)))) 9 (aR (some (sI V j 9)))) 11 (aR (some (sI V j 11)))) 12 (aR (some (sI V j 12))))))) := by
  refine ew_sp rfl (Nat.le_of_ble_eq_true rfl) ?_
  refine ew_aload_n dX6_init_0 rfl lm0 ?_
  refine ew_aload_n dX6_init_1 rfl lm1 ?_
  refine ew_callI (d := d + 3) (as := [aR (some B)]) rfl dX6_init_2 me_X5_init rfl rfl rfl (Or.inl q218) q219 (Nat.le_of_ble_eq_true rfl) (by decide) (by decide) (A_fo (d := d) hf) (fun o h' hq _ => ?_) (fun E i h' q _ => by cases q.1)
  obtain ⟨E1, rfl⟩ := hq
  cases E1
  refine ew_aload_n dX6_init_5 rfl lm0 ?_
  refine ew_bipush dX6_init_6 (inI_of rfl) (by decide) ?_
  refine ew_newIB (t := 1) (N := 24) (i := sI V j 11) dX6_init_8 rfl (by decide) q303 rfl (by decide) ((hup_ne (sI_ne (by decide))).trans ((hup_ne (sI_ne (by decide))).trans ((hup_ne (sI_ne (by decide))).trans ((hup_ne (sI_ne (by decide))).trans ((hup_ne (sI_ne (by decide))).trans ((hup_ne (sI_ne (by decide))).trans ((hup_ne (sI_ne (by decide))).trans ((hup_ne sI_t).trans ((hup_ne (sI_ne (by decide))).trans (hf.1 _)))))))))) s9 (by decide) (by decide) ?_
  refine ew_putF dX6_init_10 q228 yf_11 rfl ((hup_ne (sI_ne (by decide))).trans ((hup_ne (sI_ne (by decide))).trans (hup_self _ _ _))) (by decide) (ty := .array .boolean) (by decide +kernel) e_fitA ?_
  refine ew_aload_n dX6_init_13 rfl lm0 ?_
  refine ew_bipush dX6_init_14 (inI_of rfl) (by decide) ?_
  refine ew_newIB (t := 1) (N := 24) (i := sI V j 12) dX6_init_16 rfl (by decide) q303 rfl (by decide) ((hup_ne (sI_ne (by decide))).trans ((hup_ne (sI_ne (by decide))).trans ((hup_ne (sI_ne (by decide))).trans ((hup_ne (sI_ne (by decide))).trans ((hup_ne (sI_ne (by decide))).trans ((hup_ne (sI_ne (by decide))).trans ((hup_ne (sI_ne (by decide))).trans ((hup_ne (sI_ne (by decide))).trans ((hup_ne (sI_ne (by decide))).trans ((hup_ne sI_t).trans ((hup_ne (sI_ne (by decide))).trans (hf.1 _)))))))))))) s9 (by decide) (by decide) ?_
  refine ew_putF dX6_init_18 q229 yf_12 rfl ((hup_ne (sI_ne (by decide))).trans (hup_self _ _ _)) (by decide) (ty := .array .boolean) (by decide +kernel) e_fitA ?_
  exact ew_ret (o := none) rfl ⟨rfl, rfl⟩ ⟨rfl, dX6_init_21⟩
end INI
/-- sheet j with r, laid over g -/
def sC2 (V : XV) (r : MS) (j : Nat) (i : EId) : Option ACell := if i.1 = 10 + V j ∧ i.2.1 = 20 + j then sC V r j i.2.2 else if i.1 = 10 + V j ∧ i.2.1 = 30 + j then tC r j i.2.2 else none
def sset (V : XV) (j : Nat) (r : MS) (g : AH) : AH := fun i => bor (sC2 V r j i) (g i)
/-- a new sheet's state -/
def sr0 : MS := (fun _ => 0, fun k => if k = 0 then idf 24 else if k = 5 then upf 24 else fun _ => 0)
theorem sC2_s {V : XV} {r : MS} {j k : Nat} : sC2 V r j (sI V j k) = sC V r j k := by
  unfold sC2
  rw [if_pos ⟨rfl, rfl⟩]
theorem sC2_t {V : XV} {r : MS} {j k : Nat} : sC2 V r j (tI V j k) = tC r j k := by
  unfold sC2
  rw [if_neg (fun q => by have := q.2; simp at this <;> omega), if_pos ⟨rfl, rfl⟩]
theorem sC2_n {V : XV} {r : MS} {j : Nat} {i : EId} (h1 : ∀ k, i ≠ sI V j k) (h2 : ∀ q, i ≠ tI V j q) : sC2 V r j i = none := by
  unfold sC2
  rw [if_neg (fun q => h1 i.2.2 (by obtain ⟨a, b, c⟩ := i; simp at q; simp [q])), if_neg (fun q => h2 i.2.2 (by obtain ⟨a, b, c⟩ := i; simp at q; simp [q]))]
/-- a new object's fields: those of its class by default, the others as the sheet's picture has them -/
def sf0 (V : XV) (j nf : Nat) : Nat → AV := fun k => if k < nf then (if k = 1 ∨ k = 3 ∨ k = 10 ∨ k = 13 then aI 0 else aR none) else sF V sr0 j k
theorem sset_eq {V : XV} {j : Nat} {r : MS} {g h : AH} (hf : sfr V j g) (h0 : ∀ i, (∀ k, i ≠ sI V j k) → (∀ q, i ≠ tI V j q) → h i = g i) (h1 : ∀ k, h (sI V j k) = sC V r j k) (h2 : ∀ q, h (tI V j q) = tC r j q) : h = sset V j r g := by
  funext i
  unfold sset
  by_cases c1 : ∃ k, i = sI V j k
  · obtain ⟨k, rfl⟩ := c1
    rw [h1, sC2_s, hf.1]
    cases sC V r j k <;> rfl
  · by_cases c2 : ∃ q, i = tI V j q
    · obtain ⟨q, rfl⟩ := c2
      rw [h2, sC2_t, hf.2]
      cases tC r j q <;> rfl
    · have c1' : ∀ k, i ≠ sI V j k := fun k e => c1 ⟨k, e⟩
      have c2' : ∀ q, i ≠ tI V j q := fun q e => c2 ⟨q, e⟩
      rw [h0 i c1' c2', sC2_n c1' c2']
      rfl
theorem sx_s {V : XV} {j k k' : Nat} {h : AH} {c : ACell} : hup h (sI V j k) c (sI V j k') = if k' = k then some c else h (sI V j k') := by
  by_cases e : k' = k
  · rw [if_pos e, e, hup_self]
  · rw [if_neg e, hup_ne (sI_ne e)]
theorem sx_t {V : XV} {j k q : Nat} {h : AH} {c : ACell} : hup h (sI V j k) c (tI V j q) = h (tI V j q) := hup_ne tI_s
theorem sx_ts {V : XV} {j k q : Nat} {h : AH} {c : ACell} : hup h (tI V j q) c (sI V j k) = h (sI V j k) := hup_ne sI_t
theorem sx_tt {V : XV} {j q q' : Nat} {h : AH} {c : ACell} : hup h (tI V j q) c (tI V j q') = if q' = q then some c else h (tI V j q') := by
  by_cases e : q' = q
  · rw [if_pos e, e, hup_self]
  · rw [if_neg e, hup_ne (fun z => e (by simp only [tI, Prod.mk.injEq] at z; exact z.2.2))]
theorem fup_ne {f : Nat → AV} {k x : Nat} {v : AV} (h : x ≠ k) : fup f k v x = f x := if_neg h
theorem sC_none {V : XV} {r : MS} {j k : Nat} (h : k ≠ 0 ∧ k ≠ 5 ∧ k ≠ 6 ∧ k ≠ 7 ∧ k ≠ 8 ∧ k ≠ 9 ∧ k ≠ 11 ∧ k ≠ 12 ∧ k ≠ 99) : sC V r j k = none := by
  unfold sC
  split <;> first | rfl | (exfalso; omega)
theorem S_new_gr {d j : Nat} {V : XV} {g : AH} (hj : j = 0 ∨ j = 1) (hf : sfr V j g) : Sp mm_X3_init_2 (d + 2) 2 24 [aR (some (sI V j 99))] (hup g (sI V j 99) (kO 3 (sf0 V j 4))) (fun o h' => o = Sum.inl none ∧ h' = sset V j sr0 g) := by
  refine Sp.post (fun o h' hq => ⟨hq.1, hq.2.trans (sset_eq hf (fun i h1 h2 => ?_) (fun k => ?_) (fun q => ?_))⟩) (A_gr0 (d := d) (by decide) hf)
  · simp only [hup_ne (h1 _), hup_ne (h2 _)]
  · simp only [sx_s, sx_ts]
    rcases hj with rfl | rfl
    · by_cases e0 : k = 0
      · subst e0
        rfl
      by_cases e99 : k = 99
      · subst e99
        have eF : ∀ x, (fup (fup (sf0 V 0 4) 0 (aR (some (sI V 0 0)))) 2 (aR (some (tI V 0 0)))) x = sF V sr0 0 x := fun x => by
          by_cases hx : x < 4
          · rcases (show x = 0 ∨ x = 1 ∨ x = 2 ∨ x = 3 by omega) with rfl | rfl | rfl | rfl <;> rfl
          · rw [fup_ne (by omega), fup_ne (by omega)]; exact if_neg hx
        exact congrArg (fun f => some (kO 3 f)) (funext eF)
      have hn : sC V sr0 0 k = none := by
        unfold sC
        split <;> first | rfl | (exfalso; omega) | exact if_neg (by decide)
      rw [hn]
      simp only [e0, e99, if_false, hf.1]
    · by_cases e0 : k = 0
      · subst e0
        rfl
      by_cases e99 : k = 99
      · subst e99
        have eF : ∀ x, (fup (fup (sf0 V 1 4) 0 (aR (some (sI V 1 0)))) 2 (aR (some (tI V 1 0)))) x = sF V sr0 1 x := fun x => by
          by_cases hx : x < 4
          · rcases (show x = 0 ∨ x = 1 ∨ x = 2 ∨ x = 3 by omega) with rfl | rfl | rfl | rfl <;> rfl
          · rw [fup_ne (by omega), fup_ne (by omega)]; exact if_neg hx
        exact congrArg (fun f => some (kO 3 f)) (funext eF)
      have hn : sC V sr0 1 k = none := by
        unfold sC
        split <;> first | rfl | (exfalso; omega) | exact if_neg (by decide)
      rw [hn]
      simp only [e0, e99, if_false, hf.1]
  · simp only [sx_t, sx_tt, hf.2]
    by_cases e : q = 0
    · subst e
      rcases hj with rfl | rfl <;> rfl
    · rw [if_neg e]
      unfold tC
      rcases hj with rfl | rfl <;> (rw [if_neg (by decide)]; exact (if_neg e).symm)
theorem S_new_cl {d j : Nat} {V : XV} {g : AH} (hj : j = 2 ∨ j = 3) (hf : sfr V j g) : Sp mm_X4_init_2 (d + 3) 2 24 [aR (some (sI V j 99)), aR (some (bI V 2 1))] (hup g (sI V j 99) (kO 4 (sf0 V j 5))) (fun o h' => o = Sum.inl none ∧ h' = sset V j sr0 g) := by
  refine Sp.post (fun o h' hq => ⟨hq.1, hq.2.trans (sset_eq hf (fun i h1 h2 => ?_) (fun k => ?_) (fun q => ?_))⟩) (A_cl0 (d := d) (by decide) hf)
  · simp only [hup_ne (h1 _), hup_ne (h2 _)]
  · simp only [sx_s, sx_ts]
    rcases hj with rfl | rfl
    · by_cases e0 : k = 0
      · subst e0
        rfl
      by_cases e99 : k = 99
      · subst e99
        have eF : ∀ x, (fup (fup (fup (sf0 V 2 5) 0 (aR (some (sI V 2 0)))) 2 (aR (some (tI V 2 0)))) 4 (aR (some (bI V 2 1)))) x = sF V sr0 2 x := fun x => by
          by_cases hx : x < 5
          · rcases (show x = 0 ∨ x = 1 ∨ x = 2 ∨ x = 3 ∨ x = 4 by omega) with rfl | rfl | rfl | rfl | rfl <;> rfl
          · rw [fup_ne (by omega), fup_ne (by omega), fup_ne (by omega)]; exact if_neg hx
        exact congrArg (fun f => some (kO 4 f)) (funext eF)
      have hn : sC V sr0 2 k = none := by
        unfold sC
        split <;> first | rfl | (exfalso; omega) | exact if_neg (by decide)
      rw [hn]
      simp only [e0, e99, if_false, hf.1]
    · by_cases e0 : k = 0
      · subst e0
        rfl
      by_cases e99 : k = 99
      · subst e99
        have eF : ∀ x, (fup (fup (fup (sf0 V 3 5) 0 (aR (some (sI V 3 0)))) 2 (aR (some (tI V 3 0)))) 4 (aR (some (bI V 2 1)))) x = sF V sr0 3 x := fun x => by
          by_cases hx : x < 5
          · rcases (show x = 0 ∨ x = 1 ∨ x = 2 ∨ x = 3 ∨ x = 4 by omega) with rfl | rfl | rfl | rfl | rfl <;> rfl
          · rw [fup_ne (by omega), fup_ne (by omega), fup_ne (by omega)]; exact if_neg hx
        exact congrArg (fun f => some (kO 4 f)) (funext eF)
      have hn : sC V sr0 3 k = none := by
        unfold sC
        split <;> first | rfl | (exfalso; omega) | exact if_neg (by decide)
      rw [hn]
      simp only [e0, e99, if_false, hf.1]
  · simp only [sx_t, sx_tt, hf.2]
    by_cases e : q = 0
    · subst e
      rcases hj with rfl | rfl <;> rfl
    · rw [if_neg e]
      unfold tC
      rcases hj with rfl | rfl <;> (rw [if_neg (by decide)]; exact (if_neg e).symm)
theorem S_new_re {d j : Nat} {V : XV} {g : AH} (hj : j = 4) (hf : sfr V j g) : Sp mm_X6_init (d + 4) 9 492 [aR (some (sI V j 99)), aR (some (bI V 2 1))] (hup g (sI V j 99) (kO 5 (sf0 V j 14))) (fun o h' => o = Sum.inl none ∧ h' = sset V j sr0 g) := by
  refine Sp.post (fun o h' hq => ⟨hq.1, hq.2.trans (sset_eq hf (fun i h1 h2 => ?_) (fun k => ?_) (fun q => ?_))⟩) (A_re0 (d := d) hf)
  · simp only [hup_ne (h1 _), hup_ne (h2 _)]
  · simp only [sx_s, sx_ts]
    subst hj
    by_cases e0 : k = 0
    · subst e0
      rfl
    by_cases e5 : k = 5
    · subst e5
      rfl
    by_cases e6 : k = 6
    · subst e6
      rfl
    by_cases e7 : k = 7
    · subst e7
      rfl
    by_cases e8 : k = 8
    · subst e8
      rfl
    by_cases e9 : k = 9
    · subst e9
      rfl
    by_cases e11 : k = 11
    · subst e11
      rfl
    by_cases e12 : k = 12
    · subst e12
      rfl
    by_cases e99 : k = 99
    · subst e99
      have eF : ∀ x, (fup (fup (fup (fup (fup (fup (fup (fup (fup (fup (sf0 V 4 14) 0 (aR (some (sI V 4 0)))) 2 (aR (some (tI V 4 0)))) 4 (aR (some (bI V 2 1)))) 5 (aR (some (sI V 4 5)))) 6 (aR (some (sI V 4 6)))) 7 (aR (some (sI V 4 7)))) 8 (aR (some (sI V 4 8)))) 9 (aR (some (sI V 4 9)))) 11 (aR (some (sI V 4 11)))) 12 (aR (some (sI V 4 12)))) x = sF V sr0 4 x := fun x => by
        by_cases hx : x < 14
        · rcases (show x = 0 ∨ x = 1 ∨ x = 2 ∨ x = 3 ∨ x = 4 ∨ x = 5 ∨ x = 6 ∨ x = 7 ∨ x = 8 ∨ x = 9 ∨ x = 10 ∨ x = 11 ∨ x = 12 ∨ x = 13 by omega) with rfl | rfl | rfl | rfl | rfl | rfl | rfl | rfl | rfl | rfl | rfl | rfl | rfl | rfl <;> rfl
        · rw [fup_ne (by omega), fup_ne (by omega), fup_ne (by omega), fup_ne (by omega), fup_ne (by omega), fup_ne (by omega), fup_ne (by omega), fup_ne (by omega), fup_ne (by omega), fup_ne (by omega)]; exact if_neg hx
      exact congrArg (fun f => some (kO 5 f)) (funext eF)
    rw [sC_none ⟨e0, e5, e6, e7, e8, e9, e11, e12, e99⟩]
    simp only [e0, e5, e6, e7, e8, e9, e11, e12, e99, if_false, hf.1]
  · simp only [sx_t, sx_tt, hf.2]
    by_cases e : q = 0
    · subst e
      subst hj; rfl
    · rw [if_neg e]
      unfold tC
      subst hj
      rw [if_pos rfl]
      exact (if_neg (by show ¬ q ≤ 0; omega)).symm
