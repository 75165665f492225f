/-! CONSTRUCTORS of the reader, the object, the reference (gen/init3.py) -/
set_option maxRecDepth 100000
theorem bset_hup {V : XV} {r : MS} {h : AH} {i : EId} {c : ACell} (hi : ¬ breg V i) : bset V r (hup h i c) = hup (bset V r h) i c := by
  funext x
  by_cases e : x = i
  · subst e
    rw [bset_n hi, hup_self, hup_self]
  · rw [hup_ne e]
    unfold bset
    rw [hup_ne e]
theorem sset_o {V : XV} {j : Nat} {r : MS} {h : AH} {i : EId} (hi : i.1 = 0 ∨ breg V i) : sset V j r h i = h i := by
  unfold sset
  rw [sC2_n (fun k e => by
    subst e
    rcases hi with hi | hi
    · exact absurd hi (by show ¬ 10 + V j = 0; omega)
    · exact absurd hi.2 (by show ¬ 20 + j < 20; omega)) (fun q e => by
    subst e
    rcases hi with hi | hi
    · exact absurd hi (by show ¬ 10 + V j = 0; omega)
    · exact absurd hi.2 (by show ¬ 30 + j < 20; omega))]
  rfl
theorem sset_hup {V : XV} {j : Nat} {r : MS} {h : AH} {i : EId} {c : ACell} (hi : i.1 = 0) : sset V j r (hup h i c) = hup (sset V j r h) i c := by
  funext x
  by_cases e : x = i
  · subst e
    rw [sset_o (Or.inl hi), hup_self, hup_self]
  · rw [hup_ne e]
    unfold sset
    rw [hup_ne e]
theorem sset_ss {V : XV} {j j' k : Nat} {r : MS} {h : AH} (hj : j < 5 ∧ j' < 5 ∧ j ≠ j') : sset V j' r h (sI V j k) = h (sI V j k) := by
  unfold sset
  rw [sC2_n (fun k' e => by simp only [sI, Prod.mk.injEq] at e; omega) (fun q e => by simp only [sI, tI, Prod.mk.injEq] at e; omega)]
  rfl
theorem sset_tt {V : XV} {j j' k : Nat} {r : MS} {h : AH} (hj : j < 5 ∧ j' < 5 ∧ j ≠ j') : sset V j' r h (tI V j k) = h (tI V j k) := by
  unfold sset
  rw [sC2_n (fun k' e => by simp only [sI, tI, Prod.mk.injEq] at e; omega) (fun q e => by simp only [tI, Prod.mk.injEq] at e; omega)]
  rfl
theorem sset_s {V : XV} {j k : Nat} {r : MS} {h : AH} : sset V j r h (sI V j k) = bor (sC V r j k) (h (sI V j k)) := by
  unfold sset
  rw [sC2_s]
theorem sset_t {V : XV} {j k : Nat} {r : MS} {h : AH} : sset V j r h (tI V j k) = bor (tC r j k) (h (tI V j k)) := by
  unfold sset
  rw [sC2_t]
theorem lx_s {V : XV} {j k : Nat} {h : AH} {i : EId} {c : ACell} (hi : i.1 = 0) : hup h i c (sI V j k) = h (sI V j k) := hup_ne (fun e => by rw [← e] at hi; exact absurd hi (by show ¬ 10 + V j = 0; omega))
theorem lx_t {V : XV} {j k : Nat} {h : AH} {i : EId} {c : ACell} (hi : i.1 = 0) : hup h i c (tI V j k) = h (tI V j k) := hup_ne (fun e => by rw [← e] at hi; exact absurd hi (by show ¬ 10 + V j = 0; omega))
theorem lx_b {V : XV} {a b : Nat} {h : AH} {i : EId} {c : ACell} (hi : i.1 = 0) : hup h i c (bI V a b) = h (bI V a b) := hup_ne (fun e => by rw [← e] at hi; exact absurd hi (by show ¬ 10 + V 9 = 0; omega))
theorem lx_x {a b : Nat} {h : AH} {c : ACell} : hup h (0, 2, a) c (0, 2, b) = if b = a then some c else h (0, 2, b) := by
  by_cases e : b = a
  · rw [if_pos e, e, hup_self]
  · rw [if_neg e, hup_ne (fun z => e (by simp only [Prod.mk.injEq] at z; exact z.2.2))]
theorem lm_x {a b : Nat} {h : AH} {c : ACell} : hup h (0, 1, a) c (0, 1, b) = if b = a then some c else h (0, 1, b) := by
  by_cases e : b = a
  · rw [if_pos e, e, hup_self]
  · rw [if_neg e, hup_ne (fun z => e (by simp only [Prod.mk.injEq] at z; exact z.2.2))]
theorem nb_s {V : XV} {j k : Nat} : ¬ breg V (sI V j k) := fun q => absurd q.2 (by show ¬ 20 + j < 20; omega)
theorem nb_t {V : XV} {j k : Nat} : ¬ breg V (tI V j k) := fun q => absurd q.2 (by show ¬ 30 + j < 20; omega)
theorem nb_0 {V : XV} {i : EId} (hi : i.1 = 0) : ¬ breg V i := fun q => absurd (hi.symm.trans q.1) (by omega)
/-- a new reader's fields -/
def rd0 : Nat → AV := fun k => match k with
  | 1 => aR none
  | 6 => aL 0
  | 7 => aR none
  | _ => aI 0
abbrev mm_X8_init : EM := (yX8_init, cX8_init, 3, (Option.none : Option Jvm.ClassFile.FieldType), [])
theorem me_X8_init : e_mth mm_X8_init 2 := ⟨rfl, q414, q118, by decide +kernel, by decide⟩
theorem S_new_rd {d : Nat} {V : XV} {h : AH} {n : Int} (hf : rfr V h) : Sp mm_X8_init (d + 5) 11 48 [aR (some rT), aR (some xT), aI n] (hup h rT (kO 6 rd0)) (fun o h' => o = Sum.inl none ∧ h' = rh V (rr0 n) h) := by
  have nr : ¬ breg V rT := fun q => absurd q.1 (by show ¬ 2 = 10 + V 9; omega)
  have nb : ∀ a b, a < 20 → (bI V a b : EId) ≠ rT := fun a b ha e => nr (by rw [← e]; exact bI_reg ha)
  refine ew_sp rfl (Nat.le_of_ble_eq_true rfl) ?_
  refine ew_aload_n dX8_init_0 rfl lm0 ?_
  refine ew_aload_n dX8_init_1 rfl lm1 ?_
  refine ew_putF dX8_init_2 q425 rf_7 rfl (hup_self _ _ _) lm0 (ty := .object "ReasonCloser") (by decide +kernel) e_fitR ?_
  rw [hup_hup]
  refine ew_aload_n dX8_init_5 rfl lm0 ?_
  refine ew_objInit (d := d + 4) dX8_init_6 q415 q147 q148 (Nat.le_of_ble_eq_true rfl) ?_
  refine ew_aload_n dX8_init_9 rfl lm0 ?_
  refine ew_newB (i := bI V 1 0) (ci := 2) (n := 5) (fs := bf0 V) (r := (RX2, TX2, 5)) dX8_init_10 rfl rfl q416 q150 q109 (fun k hk => ?_) ((hup_ne (nb _ _ (by decide))).trans (hf _ _ (by decide))) b9 (by decide) (by decide) ?_
  · rcases (show k = 0 ∨ k = 1 ∨ k = 2 ∨ k = 3 ∨ k = 4 by omega) with rfl | rfl | rfl | rfl | rfl <;> exact ⟨.object "java/util/List", by decide +kernel, rfl⟩
  refine ew_dup dX8_init_13 rfl ?_
  refine ew_callI (d := d + 4) (as := []) rfl dX8_init_14 me_X2_init rfl rfl rfl (Or.inr ⟨_, q417⟩) q152 (Nat.le_of_ble_eq_true rfl) (by decide) (by decide) (A_bk (d := d) (V := V) (fun a b ha => (hup_ne (nb a b ha)).trans (hf a b ha)) n) (fun o h' hq _ => ?_) (fun E i h' q _ => by cases q.1)
  obtain ⟨E1, rfl⟩ := hq
  cases E1
  rw [bset_hup nr]
  refine ew_putF dX8_init_17 q419 rf_1 rfl (hup_self _ _ _) lm0 (ty := .object "ReasonCloser$Book") (by decide +kernel) e_fitR ?_
  rw [hup_hup]
  refine ew_aload_n dX8_init_20 rfl lm0 ?_
  refine ew_iload_n dX8_init_21 rfl lm2 ?_
  refine ew_putF dX8_init_22 q418 rf_0 rfl (hup_self _ _ _) lm0 (ty := .int) (by decide +kernel) trivial ?_
  rw [hup_hup]
  refine ew_ret (o := none) rfl ⟨rfl, ?_⟩ ⟨rfl, dX8_init_25⟩
  funext i
  by_cases e : i = rT
  · subst e
    rw [hup_self, rh_T]
    refine congrArg (fun f => some (kO 6 f)) (funext fun x => ?_)
    match x with
    | 0 => rfl
    | 1 => rfl
    | 2 => rfl
    | 3 => rfl
    | 4 => rfl
    | 5 => rfl
    | 6 => rfl
    | 7 => rfl
    | m + 8 => rfl
  · rw [hup_ne e]
    by_cases hi : breg V i
    · obtain ⟨reg, k, hr, rfl⟩ : ∃ reg k, reg < 20 ∧ i = bI V reg k := ⟨i.2.1, i.2.2, hi.2, breg_eq hi⟩
      rw [bset_b hr, bkH_r.1 _ _ _ _ hr]
    · have hi' : ¬ (i.1 = 10 + V 9 ∧ i.2.1 < 20) := hi
      rw [bset_n hi]
      exact (rh_g (by unfold rC; rw [if_neg e, if_neg hi'])).symm
abbrev mm_X1_init : EM := (yX1_init, cX1_init, 1, (Option.none : Option Jvm.ClassFile.FieldType), [])
theorem me_X1_init : e_mth mm_X1_init 0 := ⟨rfl, q145, q108, by decide +kernel, by decide⟩
/-- a new object: its fields, its state -/
def xr0 : MS := (fun k => if k = 1 then -1 else 0, fun _ _ => 0)
def xd0 (V : XV) : Nat → AV := fun k => if k < 20 then (if k = 0 ∨ k = 1 ∨ k = 3 ∨ k = 4 ∨ k = 12 then aI 0 else aR none) else xF V xr0 k
def xs0 : XS := (xr0, fun _ => sr0)
theorem bC_xr0 {V : XV} {reg k : Nat} : bC V xr0 reg k = bC V (rr0 0) reg k := by
  unfold bC
  have e : ∀ k, xL V xr0 k = xL V (rr0 0) k := fun k => by
    have h : ∀ m, xr0.1 (m + 2) = (rr0 0).1 (m + 2) := fun m => by
      show (if m + 2 = 1 then (-1 : Int) else 0) = (if m + 2 = 0 then 0 else 0)
      rw [if_neg (by omega), if_neg (by omega)]
    unfold xL
    rw [show 30 + k = (28 + k) + 2 by omega, show 50 + k = (48 + k) + 2 by omega, show 70 + k = (68 + k) + 2 by omega, h, h, h]
  split <;> first | rfl | (rw [e])
theorem b_ns {V : XV} {a b j k : Nat} (h : a < 20 := by decide) : (bI V a b : EId) ≠ sI V j k := fun e => by
  simp only [bI, sI, Prod.mk.injEq] at e
  omega
theorem x_ns {V : XV} {j k : Nat} : xT ≠ sI V j k := fun e => absurd (congrArg (fun i : EId => i.1) e) (by show ¬ 0 = 10 + V j; omega)
theorem S_new_x {d : Nat} {V : XV} {g : AH} (hr : xfree V g) : Sp mm_X1_init (d + 5) 42 7148 [aR (some xT)] (hup g xT (kO 0 (xd0 V))) (fun o h' => o = Sum.inl none ∧ h' = xh V xs0 g) := by
  have hs : ∀ j, j < 5 → ∀ k, g (sI V j k) = none := fun j hj k => hr _ (Or.inr (Or.inr (Or.inl ⟨⟨by show 20 ≤ 20 + j; omega, by show 20 + j < 25; omega⟩, by show 10 + V j = 10 + V (20 + j - 20); rw [show 20 + j - 20 = j by omega]⟩)))
  have ht : ∀ j, j < 5 → ∀ k, g (tI V j k) = none := fun j hj k => hr _ (Or.inr (Or.inr (Or.inr ⟨⟨by show 30 ≤ 30 + j; omega, by show 30 + j < 35; omega⟩, by show 10 + V j = 10 + V (30 + j - 30); rw [show 30 + j - 30 = j by omega]⟩)))
  have hB : ∀ h : AH, bset V (rr0 0) h (bI V 1 0) = some (kO 2 (bF V)) := fun h => bset_b (by decide)
  refine ew_sp rfl (Nat.le_of_ble_eq_true rfl) ?_
  refine ew_aload_n dX1_init_0 rfl lm0 ?_
  refine ew_objInit (d := d + 4) dX1_init_1 q146 q147 q148 (Nat.le_of_ble_eq_true rfl) ?_
  refine ew_aload_n dX1_init_4 rfl lm0 ?_
  refine ew_iconst dX1_init_5 (inI_of rfl) ?_
  refine ew_put dX1_init_6 (e_fl.a q328) xf_1 (hup_self _ _ _) lm0 (ty := .int) (by decide +kernel) trivial ?_
  rw [hup_hup]
  refine ew_aload_n dX1_init_9 rfl lm0 ?_
  refine ew_sipush dX1_init_10 (inI_of rfl) (by decide) ?_
  refine ew_newIB (t := 2) (N := 500) (i := (0, 2, 2)) dX1_init_13 rfl (by decide) q186 rfl (by decide) ((hup_ne (by decide)).trans (hr _ (Or.inl ⟨rfl, rfl⟩))) (by decide) (by decide) (by decide) ?_
  refine ew_putF dX1_init_15 q330 xf_2 rfl ((hup_ne (by decide)).trans (hup_self _ _ _)) lm0 (ty := .array .byte) (by decide +kernel) e_fitA ?_
  rw [hup_x (by decide)]
  refine ew_aload_n dX1_init_18 rfl lm0 ?_
  refine ew_newB (i := bI V 1 0) (ci := 2) (n := 5) (fs := bf0 V) (r := (RX2, TX2, 5)) dX1_init_19 rfl rfl q149 q150 q109 (fun k hk => ?_) ((lx_b rfl).trans ((lx_b rfl).trans (hr.rfr _ _ (by decide)))) b9 (by decide) (by decide) ?_
  · rcases (show k = 0 ∨ k = 1 ∨ k = 2 ∨ k = 3 ∨ k = 4 by omega) with rfl | rfl | rfl | rfl | rfl <;> exact ⟨.object "java/util/List", by decide +kernel, rfl⟩
  refine ew_dup dX1_init_22 rfl ?_
  refine ew_callI (d := d + 4) (as := []) rfl dX1_init_23 me_X2_init rfl rfl rfl (Or.inr ⟨_, q151⟩) q152 (Nat.le_of_ble_eq_true rfl) (by decide) (by decide) (A_bk (d := d) (V := V) (h := hup (hup g (0, 2, 2) (kI 2 500 (fun _ => 0))) xT (kO 0 (fup (fup (xd0 V) 1 (aI (-1))) 2 (aR (some (0, 2, 2)))))) (fun a b ha => ((lx_b rfl).trans ((lx_b rfl).trans (hr.rfr _ _ ha)))) 0) (fun o h' hq _ => ?_) (fun E i h' q _ => by cases q.1)
  obtain ⟨E1, rfl⟩ := hq
  cases E1
  rw [bset_hup (nb_0 rfl)]
  refine ew_put dX1_init_26 (e_fl.a q333) xf_5 (hup_self _ _ _) lm0 (ty := .object "ReasonCloser$Book") (by decide +kernel) e_fitR ?_
  rw [hup_hup]
  refine ew_aload_n dX1_init_29 rfl lm0 ?_
  refine ew_newB (i := sI V 4 99) (ci := 5) (n := 14) (fs := sf0 V 4 14) (r := (RX6, TX6, 14)) dX1_init_30 rfl rfl q213 q214 q116 (fun k hk => ⟨tyX6 k, tyX6_ok k hk, ?_⟩) ((lx_s rfl).trans ((bset_n nb_s).trans ((lx_s rfl).trans (hs _ (by decide) _)))) s9 (by decide) (by decide) ?_
  · rcases (show k = 0 ∨ k = 1 ∨ k = 2 ∨ k = 3 ∨ k = 4 ∨ k = 5 ∨ k = 6 ∨ k = 7 ∨ k = 8 ∨ k = 9 ∨ k = 10 ∨ k = 11 ∨ k = 12 ∨ k = 13 by omega) with rfl | rfl | rfl | rfl | rfl | rfl | rfl | rfl | rfl | rfl | rfl | rfl | rfl | rfl <;> rfl
  refine ew_dup dX1_init_33 rfl ?_
  refine ew_aload_n dX1_init_34 rfl lm0 ?_
  refine ew_get dX1_init_35 (e_fl.a q333) xf_5 ((hup_ne x_ns).trans (hup_self _ _ _)) lm0 ?_
  refine ew_get (fs := bF V) dX1_init_38 (e_fl.c q191) bf_1 ((hup_ne b_ns).trans ((lx_b rfl).trans (hB _))) lm0 ?_
  refine ew_callI (d := d + 4) (as := [aR (some (bI V 2 1))]) rfl dX1_init_41 me_X6_init rfl rfl rfl (Or.inl q215) q216 (Nat.le_of_ble_eq_true rfl) (by decide) (by decide) (S_new_re (d := d + 0) (V := V) rfl ⟨fun k => ((lx_s rfl).trans ((bset_n nb_s).trans ((lx_s rfl).trans (hs _ (by decide) _)))), fun q => ((lx_t rfl).trans ((bset_n nb_t).trans ((lx_t rfl).trans (ht _ (by decide) _))))⟩) (fun o h' hq _ => ?_) (fun E i h' q _ => by cases q.1)
  obtain ⟨E1, rfl⟩ := hq
  cases E1
  rw [sset_hup rfl]
  refine ew_put dX1_init_44 (e_fl.a q334) xf_6 (hup_self _ _ _) lm0 (ty := .object "ReasonCloser$Reasons") (by decide +kernel) e_fitR ?_
  rw [hup_hup]
  refine ew_aload_n dX1_init_47 rfl lm0 ?_
  refine ew_newB (i := sI V 2 99) (ci := 4) (n := 5) (fs := sf0 V 2 5) (r := (RX4, TX4, 5)) dX1_init_48 rfl rfl q304 q305 q114 (fun k hk => ⟨tyX4 k, tyX4_ok k hk, ?_⟩) ((lx_s rfl).trans ((sset_ss (by decide)).trans ((bset_n nb_s).trans ((lx_s rfl).trans (hs _ (by decide) _))))) s9 (by decide) (by decide) ?_
  · rcases (show k = 0 ∨ k = 1 ∨ k = 2 ∨ k = 3 ∨ k = 4 by omega) with rfl | rfl | rfl | rfl | rfl <;> rfl
  refine ew_dup dX1_init_51 rfl ?_
  refine ew_aload_n dX1_init_52 rfl lm0 ?_
  refine ew_get dX1_init_53 (e_fl.a q333) xf_5 ((hup_ne x_ns).trans (hup_self _ _ _)) lm0 ?_
  refine ew_get (fs := bF V) dX1_init_56 (e_fl.c q191) bf_1 ((hup_ne b_ns).trans ((lx_b rfl).trans ((sset_o (Or.inr (bI_reg (by decide)))).trans (hB _)))) lm0 ?_
  refine ew_callI (d := d + 4) (as := [aR (some (bI V 2 1))]) rfl dX1_init_59 me_X4_init_2 rfl rfl rfl (Or.inl q306) q307 (Nat.le_of_ble_eq_true rfl) (by decide) (by decide) (S_new_cl (d := d + 1) (V := V) (Or.inl rfl) ⟨fun k => ((lx_s rfl).trans ((sset_ss (by decide)).trans ((bset_n nb_s).trans ((lx_s rfl).trans (hs _ (by decide) _))))), fun q => ((lx_t rfl).trans ((sset_tt (by decide)).trans ((bset_n nb_t).trans ((lx_t rfl).trans (ht _ (by decide) _)))))⟩) (fun o h' hq _ => ?_) (fun E i h' q _ => by cases q.1)
  obtain ⟨E1, rfl⟩ := hq
  cases E1
  rw [sset_hup rfl]
  refine ew_put dX1_init_62 (e_fl.a q335) xf_7 (hup_self _ _ _) lm0 (ty := .object "ReasonCloser$Closed") (by decide +kernel) e_fitR ?_
  rw [hup_hup]
  refine ew_aload_n dX1_init_65 rfl lm0 ?_
  refine ew_newB (i := sI V 3 99) (ci := 4) (n := 5) (fs := sf0 V 3 5) (r := (RX4, TX4, 5)) dX1_init_66 rfl rfl q304 q305 q114 (fun k hk => ⟨tyX4 k, tyX4_ok k hk, ?_⟩) ((lx_s rfl).trans ((sset_ss (by decide)).trans ((sset_ss (by decide)).trans ((bset_n nb_s).trans ((lx_s rfl).trans (hs _ (by decide) _)))))) s9 (by decide) (by decide) ?_
  · rcases (show k = 0 ∨ k = 1 ∨ k = 2 ∨ k = 3 ∨ k = 4 by omega) with rfl | rfl | rfl | rfl | rfl <;> rfl
  refine ew_dup dX1_init_69 rfl ?_
  refine ew_aload_n dX1_init_70 rfl lm0 ?_
  refine ew_get dX1_init_71 (e_fl.a q333) xf_5 ((hup_ne x_ns).trans (hup_self _ _ _)) lm0 ?_
  refine ew_get (fs := bF V) dX1_init_74 (e_fl.c q191) bf_1 ((hup_ne b_ns).trans ((lx_b rfl).trans ((sset_o (Or.inr (bI_reg (by decide)))).trans ((sset_o (Or.inr (bI_reg (by decide)))).trans (hB _))))) lm0 ?_
  refine ew_callI (d := d + 4) (as := [aR (some (bI V 2 1))]) rfl dX1_init_77 me_X4_init_2 rfl rfl rfl (Or.inl q306) q307 (Nat.le_of_ble_eq_true rfl) (by decide) (by decide) (S_new_cl (d := d + 1) (V := V) (Or.inr rfl) ⟨fun k => ((lx_s rfl).trans ((sset_ss (by decide)).trans ((sset_ss (by decide)).trans ((bset_n nb_s).trans ((lx_s rfl).trans (hs _ (by decide) _)))))), fun q => ((lx_t rfl).trans ((sset_tt (by decide)).trans ((sset_tt (by decide)).trans ((bset_n nb_t).trans ((lx_t rfl).trans (ht _ (by decide) _))))))⟩) (fun o h' hq _ => ?_) (fun E i h' q _ => by cases q.1)
  obtain ⟨E1, rfl⟩ := hq
  cases E1
  rw [sset_hup rfl]
  refine ew_put dX1_init_80 (e_fl.a q336) xf_8 (hup_self _ _ _) lm0 (ty := .object "ReasonCloser$Closed") (by decide +kernel) e_fitR ?_
  rw [hup_hup]
  refine ew_aload_n dX1_init_83 rfl lm0 ?_
  refine ew_bipush dX1_init_84 (inI_of rfl) (by decide) ?_
  refine ew_newIB (t := 0) (N := 44) (i := (0, 2, 9)) dX1_init_86 rfl (by decide) q302 rfl (by decide) ((hup_ne (by decide)).trans ((sset_o (Or.inl rfl)).trans ((sset_o (Or.inl rfl)).trans ((sset_o (Or.inl rfl)).trans ((bset_n (nb_0 rfl)).trans ((hup_ne (by decide)).trans (hr _ (Or.inl ⟨rfl, rfl⟩)))))))) (by decide) (by decide) (by decide) ?_
  refine ew_putF dX1_init_88 q337 xf_9 rfl ((hup_ne (by decide)).trans (hup_self _ _ _)) lm0 (ty := .array .int) (by decide +kernel) e_fitA ?_
  rw [hup_x (by decide)]
  refine ew_aload_n dX1_init_91 rfl lm0 ?_
  refine ew_bipush dX1_init_92 (inI_of rfl) (by decide) ?_
  refine ew_newIB (t := 0) (N := 44) (i := (0, 2, 10)) dX1_init_94 rfl (by decide) q302 rfl (by decide) ((hup_ne (by decide)).trans ((hup_ne (by decide)).trans ((sset_o (Or.inl rfl)).trans ((sset_o (Or.inl rfl)).trans ((sset_o (Or.inl rfl)).trans ((bset_n (nb_0 rfl)).trans ((hup_ne (by decide)).trans (hr _ (Or.inl ⟨rfl, rfl⟩))))))))) (by decide) (by decide) (by decide) ?_
  refine ew_putF dX1_init_96 q338 xf_10 rfl ((hup_ne (by decide)).trans (hup_self _ _ _)) lm0 (ty := .array .int) (by decide +kernel) e_fitA ?_
  rw [hup_x (by decide)]
  refine ew_aload_n dX1_init_99 rfl lm0 ?_
  refine ew_bipush dX1_init_100 (inI_of rfl) (by decide) ?_
  refine ew_newIB (t := 0) (N := 44) (i := (0, 2, 11)) dX1_init_102 rfl (by decide) q302 rfl (by decide) ((hup_ne (by decide)).trans ((hup_ne (by decide)).trans ((hup_ne (by decide)).trans ((sset_o (Or.inl rfl)).trans ((sset_o (Or.inl rfl)).trans ((sset_o (Or.inl rfl)).trans ((bset_n (nb_0 rfl)).trans ((hup_ne (by decide)).trans (hr _ (Or.inl ⟨rfl, rfl⟩)))))))))) (by decide) (by decide) (by decide) ?_
  refine ew_putF dX1_init_104 q339 xf_11 rfl ((hup_ne (by decide)).trans (hup_self _ _ _)) lm0 (ty := .array .int) (by decide +kernel) e_fitA ?_
  rw [hup_x (by decide)]
  refine ew_aload_n dX1_init_107 rfl lm0 ?_
  refine ew_bipush dX1_init_108 (inI_of rfl) (by decide) ?_
  refine ew_newIB (t := 0) (N := 24) (i := (0, 2, 13)) dX1_init_110 rfl (by decide) q302 rfl (by decide) ((hup_ne (by decide)).trans ((hup_ne (by decide)).trans ((hup_ne (by decide)).trans ((hup_ne (by decide)).trans ((sset_o (Or.inl rfl)).trans ((sset_o (Or.inl rfl)).trans ((sset_o (Or.inl rfl)).trans ((bset_n (nb_0 rfl)).trans ((hup_ne (by decide)).trans (hr _ (Or.inl ⟨rfl, rfl⟩))))))))))) (by decide) (by decide) (by decide) ?_
  refine ew_putF dX1_init_112 q341 xf_13 rfl ((hup_ne (by decide)).trans (hup_self _ _ _)) lm0 (ty := .array .int) (by decide +kernel) e_fitA ?_
  rw [hup_x (by decide)]
  refine ew_aload_n dX1_init_115 rfl lm0 ?_
  refine ew_sipush dX1_init_116 (inI_of rfl) (by decide) ?_
  refine ew_newIB (t := 1) (N := 4096) (i := (0, 2, 14)) dX1_init_119 rfl (by decide) q303 rfl (by decide) ((hup_ne (by decide)).trans ((hup_ne (by decide)).trans ((hup_ne (by decide)).trans ((hup_ne (by decide)).trans ((hup_ne (by decide)).trans ((sset_o (Or.inl rfl)).trans ((sset_o (Or.inl rfl)).trans ((sset_o (Or.inl rfl)).trans ((bset_n (nb_0 rfl)).trans ((hup_ne (by decide)).trans (hr _ (Or.inl ⟨rfl, rfl⟩)))))))))))) (by decide) (by decide) (by decide) ?_
  refine ew_putF dX1_init_121 q342 xf_14 rfl ((hup_ne (by decide)).trans (hup_self _ _ _)) lm0 (ty := .array .boolean) (by decide +kernel) e_fitA ?_
  rw [hup_x (by decide)]
  refine ew_aload_n dX1_init_124 rfl lm0 ?_
  refine ew_newB (i := sI V 0 99) (ci := 3) (n := 4) (fs := sf0 V 0 4) (r := (RX3, TX3, 4)) dX1_init_125 rfl rfl q316 q317 q113 (fun k hk => ⟨tyX3 k, tyX3_ok k hk, ?_⟩) ((lx_s rfl).trans ((lx_s rfl).trans ((lx_s rfl).trans ((lx_s rfl).trans ((lx_s rfl).trans ((lx_s rfl).trans ((sset_ss (by decide)).trans ((sset_ss (by decide)).trans ((sset_ss (by decide)).trans ((bset_n nb_s).trans ((lx_s rfl).trans (hs _ (by decide) _)))))))))))) s9 (by decide) (by decide) ?_
  · rcases (show k = 0 ∨ k = 1 ∨ k = 2 ∨ k = 3 by omega) with rfl | rfl | rfl | rfl <;> rfl
  refine ew_dup dX1_init_128 rfl ?_
  refine ew_callI (d := d + 4) (as := []) rfl dX1_init_129 me_X3_init_2 rfl rfl rfl (Or.inl q318) q319 (Nat.le_of_ble_eq_true rfl) (by decide) (by decide) (S_new_gr (d := d + 2) (V := V) (Or.inl rfl) ⟨fun k => ((lx_s rfl).trans ((lx_s rfl).trans ((lx_s rfl).trans ((lx_s rfl).trans ((lx_s rfl).trans ((lx_s rfl).trans ((sset_ss (by decide)).trans ((sset_ss (by decide)).trans ((sset_ss (by decide)).trans ((bset_n nb_s).trans ((lx_s rfl).trans (hs _ (by decide) _)))))))))))), fun q => ((lx_t rfl).trans ((lx_t rfl).trans ((lx_t rfl).trans ((lx_t rfl).trans ((lx_t rfl).trans ((lx_t rfl).trans ((sset_tt (by decide)).trans ((sset_tt (by decide)).trans ((sset_tt (by decide)).trans ((bset_n nb_t).trans ((lx_t rfl).trans (ht _ (by decide) _))))))))))))⟩) (fun o h' hq _ => ?_) (fun E i h' q _ => by cases q.1)
  obtain ⟨E1, rfl⟩ := hq
  cases E1
  rw [sset_hup rfl]
  refine ew_putF dX1_init_132 q343 xf_15 rfl (hup_self _ _ _) lm0 (ty := .object "ReasonCloser$Groups") (by decide +kernel) e_fitR ?_
  rw [hup_hup]
  refine ew_aload_n dX1_init_135 rfl lm0 ?_
  refine ew_newB (i := sI V 1 99) (ci := 3) (n := 4) (fs := sf0 V 1 4) (r := (RX3, TX3, 4)) dX1_init_136 rfl rfl q316 q317 q113 (fun k hk => ⟨tyX3 k, tyX3_ok k hk, ?_⟩) ((lx_s rfl).trans ((sset_ss (by decide)).trans ((lx_s rfl).trans ((lx_s rfl).trans ((lx_s rfl).trans ((lx_s rfl).trans ((lx_s rfl).trans ((sset_ss (by decide)).trans ((sset_ss (by decide)).trans ((sset_ss (by decide)).trans ((bset_n nb_s).trans ((lx_s rfl).trans (hs _ (by decide) _))))))))))))) s9 (by decide) (by decide) ?_
  · rcases (show k = 0 ∨ k = 1 ∨ k = 2 ∨ k = 3 by omega) with rfl | rfl | rfl | rfl <;> rfl
  refine ew_dup dX1_init_139 rfl ?_
  refine ew_callI (d := d + 4) (as := []) rfl dX1_init_140 me_X3_init_2 rfl rfl rfl (Or.inl q318) q319 (Nat.le_of_ble_eq_true rfl) (by decide) (by decide) (S_new_gr (d := d + 2) (V := V) (Or.inr rfl) ⟨fun k => ((lx_s rfl).trans ((sset_ss (by decide)).trans ((lx_s rfl).trans ((lx_s rfl).trans ((lx_s rfl).trans ((lx_s rfl).trans ((lx_s rfl).trans ((sset_ss (by decide)).trans ((sset_ss (by decide)).trans ((sset_ss (by decide)).trans ((bset_n nb_s).trans ((lx_s rfl).trans (hs _ (by decide) _))))))))))))), fun q => ((lx_t rfl).trans ((sset_tt (by decide)).trans ((lx_t rfl).trans ((lx_t rfl).trans ((lx_t rfl).trans ((lx_t rfl).trans ((lx_t rfl).trans ((sset_tt (by decide)).trans ((sset_tt (by decide)).trans ((sset_tt (by decide)).trans ((bset_n nb_t).trans ((lx_t rfl).trans (ht _ (by decide) _)))))))))))))⟩) (fun o h' hq _ => ?_) (fun E i h' q _ => by cases q.1)
  obtain ⟨E1, rfl⟩ := hq
  cases E1
  rw [sset_hup rfl]
  refine ew_putF dX1_init_143 q344 xf_16 rfl (hup_self _ _ _) lm0 (ty := .object "ReasonCloser$Groups") (by decide +kernel) e_fitR ?_
  rw [hup_hup]
  refine ew_aload_n dX1_init_146 rfl lm0 ?_
  refine ew_sipush dX1_init_147 (inI_of rfl) (by decide) ?_
  refine ew_newLB (N := 576) (i := (0, 2, 17)) dX1_init_150 q389 rfl (by decide) ((hup_ne (by decide)).trans ((sset_o (Or.inl rfl)).trans ((sset_o (Or.inl rfl)).trans ((hup_ne (by decide)).trans ((hup_ne (by decide)).trans ((hup_ne (by decide)).trans ((hup_ne (by decide)).trans ((hup_ne (by decide)).trans ((sset_o (Or.inl rfl)).trans ((sset_o (Or.inl rfl)).trans ((sset_o (Or.inl rfl)).trans ((bset_n (nb_0 rfl)).trans ((hup_ne (by decide)).trans (hr _ (Or.inl ⟨rfl, rfl⟩))))))))))))))) (by decide) (by decide) (by decide) ?_
  refine ew_putF dX1_init_152 q345 xf_17 rfl ((hup_ne (by decide)).trans (hup_self _ _ _)) lm0 (ty := .array .long) (by decide +kernel) e_fitA ?_
  rw [hup_x (by decide)]
  refine ew_aload_n dX1_init_155 rfl lm0 ?_
  refine ew_sipush dX1_init_156 (inI_of rfl) (by decide) ?_
  refine ew_newLB (N := 576) (i := (0, 2, 18)) dX1_init_159 q389 rfl (by decide) ((hup_ne (by decide)).trans ((hup_ne (by decide)).trans ((sset_o (Or.inl rfl)).trans ((sset_o (Or.inl rfl)).trans ((hup_ne (by decide)).trans ((hup_ne (by decide)).trans ((hup_ne (by decide)).trans ((hup_ne (by decide)).trans ((hup_ne (by decide)).trans ((sset_o (Or.inl rfl)).trans ((sset_o (Or.inl rfl)).trans ((sset_o (Or.inl rfl)).trans ((bset_n (nb_0 rfl)).trans ((hup_ne (by decide)).trans (hr _ (Or.inl ⟨rfl, rfl⟩)))))))))))))))) (by decide) (by decide) (by decide) ?_
  refine ew_putF dX1_init_161 q346 xf_18 rfl ((hup_ne (by decide)).trans (hup_self _ _ _)) lm0 (ty := .array .long) (by decide +kernel) e_fitA ?_
  rw [hup_x (by decide)]
  refine ew_aload_n dX1_init_164 rfl lm0 ?_
  refine ew_sipush dX1_init_165 (inI_of rfl) (by decide) ?_
  refine ew_newLB (N := 576) (i := (0, 2, 19)) dX1_init_168 q389 rfl (by decide) ((hup_ne (by decide)).trans ((hup_ne (by decide)).trans ((hup_ne (by decide)).trans ((sset_o (Or.inl rfl)).trans ((sset_o (Or.inl rfl)).trans ((hup_ne (by decide)).trans ((hup_ne (by decide)).trans ((hup_ne (by decide)).trans ((hup_ne (by decide)).trans ((hup_ne (by decide)).trans ((sset_o (Or.inl rfl)).trans ((sset_o (Or.inl rfl)).trans ((sset_o (Or.inl rfl)).trans ((bset_n (nb_0 rfl)).trans ((hup_ne (by decide)).trans (hr _ (Or.inl ⟨rfl, rfl⟩))))))))))))))))) (by decide) (by decide) (by decide) ?_
  refine ew_putF dX1_init_170 q347 xf_19 rfl ((hup_ne (by decide)).trans (hup_self _ _ _)) lm0 (ty := .array .long) (by decide +kernel) e_fitA ?_
  rw [hup_x (by decide)]
  refine ew_ret (o := none) rfl ⟨rfl, ?_⟩ ⟨rfl, dX1_init_173⟩
  have hX : hup (hup (hup (hup (sset V 1 sr0 (sset V 0 sr0 (hup (hup (hup (hup (hup (sset V 3 sr0 (sset V 2 sr0 (sset V 4 sr0 (bset V (rr0 0) (hup g (0, 2, 2) (kI 2 500 (fun _ => 0))))))) (0, 2, 9) (kI 0 44 (fun _ => 0))) (0, 2, 10) (kI 0 44 (fun _ => 0))) (0, 2, 11) (kI 0 44 (fun _ => 0))) (0, 2, 13) (kI 0 24 (fun _ => 0))) (0, 2, 14) (kI 1 4096 (fun _ => 0))))) (0, 2, 17) (kL 576 (fun _ => 0))) (0, 2, 18) (kL 576 (fun _ => 0))) (0, 2, 19) (kL 576 (fun _ => 0))) xT (kO 0 (fup (fup (fup (fup (fup (fup (fup (fup (fup (fup (fup (fup (fup (fup (fup (fup (xd0 V) 1 (aI (-1))) 2 (aR (some (0, 2, 2)))) 5 (aR (some (bI V 1 0)))) 6 (aR (some (sI V 4 99)))) 7 (aR (some (sI V 2 99)))) 8 (aR (some (sI V 3 99)))) 9 (aR (some (0, 2, 9)))) 10 (aR (some (0, 2, 10)))) 11 (aR (some (0, 2, 11)))) 13 (aR (some (0, 2, 13)))) 14 (aR (some (0, 2, 14)))) 15 (aR (some (sI V 0 99)))) 16 (aR (some (sI V 1 99)))) 17 (aR (some (0, 2, 17)))) 18 (aR (some (0, 2, 18)))) 19 (aR (some (0, 2, 19))))) = xh V xs0 g := by
    funext i
    by_cases c1 : i.1 = 0 ∧ i.2.1 = 2
    · obtain ⟨k, rfl⟩ : ∃ k, i = (0, 2, k) := ⟨i.2.2, by obtain ⟨a, b, c⟩ := i; simp at c1; simp [c1]⟩
      have R : xh V xs0 g (0, 2, k) = bor (xCx V xr0 k) (g (0, 2, k)) := by
        cases h : xCx V xr0 k with
        | none => exact xh_g (xC_x.trans h)
        | some c => exact xh_of (xC_x.trans h)
      rw [R, hr (0, 2, k) (Or.inl ⟨rfl, rfl⟩)]
      simp only [lx_x, bset_n (nb_0 (V := V) (i := (0, 2, k)) rfl), sset_o (V := V) (i := (0, 2, k)) (Or.inl rfl), hr (0, 2, k) (Or.inl ⟨rfl, rfl⟩)]
      by_cases e2 : k = 2
      · subst e2
        rfl
      by_cases e9 : k = 9
      · subst e9
        rfl
      by_cases e10 : k = 10
      · subst e10
        rfl
      by_cases e11 : k = 11
      · subst e11
        rfl
      by_cases e13 : k = 13
      · subst e13
        rfl
      by_cases e14 : k = 14
      · subst e14
        rfl
      by_cases e17 : k = 17
      · subst e17
        rfl
      by_cases e18 : k = 18
      · subst e18
        rfl
      by_cases e19 : k = 19
      · subst e19
        rfl
      by_cases e99 : k = 99
      · subst e99
        refine congrArg (fun f => some (kO 0 f)) (funext fun x => ?_)
        by_cases hx : x < 20
        · rcases (show x = 0 ∨ x = 1 ∨ x = 2 ∨ x = 3 ∨ x = 4 ∨ x = 5 ∨ x = 6 ∨ x = 7 ∨ x = 8 ∨ x = 9 ∨ x = 10 ∨ x = 11 ∨ x = 12 ∨ x = 13 ∨ x = 14 ∨ x = 15 ∨ x = 16 ∨ x = 17 ∨ x = 18 ∨ x = 19 by omega) with rfl | rfl | rfl | rfl | rfl | rfl | rfl | rfl | rfl | rfl | rfl | rfl | rfl | rfl | rfl | rfl | rfl | rfl | rfl | rfl <;> rfl
        · rw [fup_ne (by omega), fup_ne (by omega), fup_ne (by omega), fup_ne (by omega), fup_ne (by omega), fup_ne (by omega), fup_ne (by omega), fup_ne (by omega), fup_ne (by omega), fup_ne (by omega), fup_ne (by omega), fup_ne (by omega), fup_ne (by omega), fup_ne (by omega), fup_ne (by omega), fup_ne (by omega)]
          exact if_neg hx
      have hn : xCx V xr0 k = none := by
        unfold xCx
        split <;> first | rfl | (exfalso; omega)
      rw [hn]
      simp only [e2, e9, e10, e11, e13, e14, e17, e18, e19, e99, if_false]
      rfl
    · rw [hup_ne (show i ≠ xT from fun e => c1 (by rw [e]; exact ⟨rfl, rfl⟩))]
      have nx : ∀ k, i ≠ (0, 2, k) := fun k e => c1 (by rw [e]; exact ⟨rfl, rfl⟩)
      by_cases hi : breg V i
      · obtain ⟨reg, k, hg9, rfl⟩ : ∃ reg k, reg < 20 ∧ i = bI V reg k := ⟨i.2.1, i.2.2, hi.2, breg_eq hi⟩
        have R : xh V xs0 g (bI V reg k) = bor (bC V xr0 reg k) (g (bI V reg k)) := (bkH_x (V := V) (y := fun _ => sr0)).1 xr0 g reg k hg9
        rw [R, bC_xr0]
        rw [lx_b rfl, lx_b rfl, lx_b rfl, sset_o (Or.inr (bI_reg hg9)), sset_o (Or.inr (bI_reg hg9)), lx_b rfl, lx_b rfl, lx_b rfl, lx_b rfl, lx_b rfl, sset_o (Or.inr (bI_reg hg9)), sset_o (Or.inr (bI_reg hg9)), sset_o (Or.inr (bI_reg hg9)), bset_b hg9, lx_b rfl]
      · by_cases c3 : ∃ j k, j < 5 ∧ i = sI V j k
        · obtain ⟨j, k, hj, rfl⟩ := c3
          have R : xh V xs0 g (sI V j k) = bor (sC V sr0 j k) (g (sI V j k)) := by
            cases h : sC V sr0 j k with
            | none => exact xh_g ((xC_s hj).trans h)
            | some c => exact xh_of ((xC_s hj).trans h)
          rw [R]
          rcases (show j = 0 ∨ j = 1 ∨ j = 2 ∨ j = 3 ∨ j = 4 by omega) with rfl | rfl | rfl | rfl | rfl
          · rw [lx_s rfl, lx_s rfl, lx_s rfl, sset_ss (by decide), sset_s, lx_s rfl, lx_s rfl, lx_s rfl, lx_s rfl, lx_s rfl, sset_ss (by decide), sset_ss (by decide), sset_ss (by decide), bset_n nb_s, lx_s rfl]
          · rw [lx_s rfl, lx_s rfl, lx_s rfl, sset_s, sset_ss (by decide), lx_s rfl, lx_s rfl, lx_s rfl, lx_s rfl, lx_s rfl, sset_ss (by decide), sset_ss (by decide), sset_ss (by decide), bset_n nb_s, lx_s rfl]
          · rw [lx_s rfl, lx_s rfl, lx_s rfl, sset_ss (by decide), sset_ss (by decide), lx_s rfl, lx_s rfl, lx_s rfl, lx_s rfl, lx_s rfl, sset_ss (by decide), sset_s, sset_ss (by decide), bset_n nb_s, lx_s rfl]
          · rw [lx_s rfl, lx_s rfl, lx_s rfl, sset_ss (by decide), sset_ss (by decide), lx_s rfl, lx_s rfl, lx_s rfl, lx_s rfl, lx_s rfl, sset_s, sset_ss (by decide), sset_ss (by decide), bset_n nb_s, lx_s rfl]
          · rw [lx_s rfl, lx_s rfl, lx_s rfl, sset_ss (by decide), sset_ss (by decide), lx_s rfl, lx_s rfl, lx_s rfl, lx_s rfl, lx_s rfl, sset_ss (by decide), sset_ss (by decide), sset_s, bset_n nb_s, lx_s rfl]
        · by_cases c4 : ∃ j k, j < 5 ∧ i = tI V j k
          · obtain ⟨j, k, hj, rfl⟩ := c4
            have R : xh V xs0 g (tI V j k) = bor (tC sr0 j k) (g (tI V j k)) := by
              cases h : tC sr0 j k with
              | none => exact xh_g ((xC_t hj).trans h)
              | some c => exact xh_of ((xC_t hj).trans h)
            rw [R]
            rcases (show j = 0 ∨ j = 1 ∨ j = 2 ∨ j = 3 ∨ j = 4 by omega) with rfl | rfl | rfl | rfl | rfl
            · rw [lx_t rfl, lx_t rfl, lx_t rfl, sset_tt (by decide), sset_t, lx_t rfl, lx_t rfl, lx_t rfl, lx_t rfl, lx_t rfl, sset_tt (by decide), sset_tt (by decide), sset_tt (by decide), bset_n nb_t, lx_t rfl]
            · rw [lx_t rfl, lx_t rfl, lx_t rfl, sset_t, sset_tt (by decide), lx_t rfl, lx_t rfl, lx_t rfl, lx_t rfl, lx_t rfl, sset_tt (by decide), sset_tt (by decide), sset_tt (by decide), bset_n nb_t, lx_t rfl]
            · rw [lx_t rfl, lx_t rfl, lx_t rfl, sset_tt (by decide), sset_tt (by decide), lx_t rfl, lx_t rfl, lx_t rfl, lx_t rfl, lx_t rfl, sset_tt (by decide), sset_t, sset_tt (by decide), bset_n nb_t, lx_t rfl]
            · rw [lx_t rfl, lx_t rfl, lx_t rfl, sset_tt (by decide), sset_tt (by decide), lx_t rfl, lx_t rfl, lx_t rfl, lx_t rfl, lx_t rfl, sset_t, sset_tt (by decide), sset_tt (by decide), bset_n nb_t, lx_t rfl]
            · rw [lx_t rfl, lx_t rfl, lx_t rfl, sset_tt (by decide), sset_tt (by decide), lx_t rfl, lx_t rfl, lx_t rfl, lx_t rfl, lx_t rfl, sset_tt (by decide), sset_tt (by decide), sset_t, bset_n nb_t, lx_t rfl]
          · have ns : ∀ j, j < 5 → sC2 V sr0 j i = none := fun j hj => sC2_n (fun k e => c3 ⟨j, k, hj, e⟩) (fun k e => c4 ⟨j, k, hj, e⟩)
            have R : xh V xs0 g i = g i := xh_g (by
              have h3 : ¬ ((20 ≤ i.2.1 ∧ i.2.1 < 25) ∧ i.1 = 10 + V (i.2.1 - 20)) := fun w => c3 ⟨i.2.1 - 20, i.2.2, by omega, by obtain ⟨a, b, c⟩ := i; simp at w; simp only [sI, Prod.mk.injEq]; exact ⟨w.2, by omega, trivial⟩⟩
              have h4 : ¬ ((30 ≤ i.2.1 ∧ i.2.1 < 35) ∧ i.1 = 10 + V (i.2.1 - 30)) := fun w => c4 ⟨i.2.1 - 30, i.2.2, by omega, by obtain ⟨a, b, c⟩ := i; simp at w; simp only [tI, Prod.mk.injEq]; exact ⟨w.2, by omega, trivial⟩⟩
              unfold xC
              rw [if_neg c1, if_neg (show ¬ (i.1 = 10 + V 9 ∧ i.2.1 < 20) from hi), if_neg h3, if_neg h4])
            rw [R]
            rw [hup_ne (nx _), hup_ne (nx _), hup_ne (nx _), show ∀ h : AH, sset V 1 sr0 h i = h i from fun h => by unfold sset; rw [ns 1 (by decide)]; rfl, show ∀ h : AH, sset V 0 sr0 h i = h i from fun h => by unfold sset; rw [ns 0 (by decide)]; rfl, hup_ne (nx _), hup_ne (nx _), hup_ne (nx _), hup_ne (nx _), hup_ne (nx _), show ∀ h : AH, sset V 3 sr0 h i = h i from fun h => by unfold sset; rw [ns 3 (by decide)]; rfl, show ∀ h : AH, sset V 2 sr0 h i = h i from fun h => by unfold sset; rw [ns 2 (by decide)]; rfl, show ∀ h : AH, sset V 4 sr0 h i = h i from fun h => by unfold sset; rw [ns 4 (by decide)]; rfl, bset_n hi, hup_ne (nx _)]
  exact hX
