/-! THE READER: need -/
set_option maxRecDepth 100000
abbrev mm_X8_need : EM := (yX8_need, cX8_need, 3, none, [])
theorem me_X8_need : e_mth mm_X8_need 2 := ⟨rfl, q589, q118, by decide +kernel, by decide⟩
def C_X8_need (a b : Int) (r : MS) (K : MS → Prop) (KX : Int → Int → Prop) : Prop := (¬ a = 0 → K r) ∧ (a = 0 → KX b (r.1 3))
def vF0 : Nat → AV := fun k => match k with
  | 5 => aI 0
  | 6 => aI 0
  | 7 => aI 0
  | _ => aR none
theorem rC_3 {V : XV} {r : MS} : rC V r fI = none := by
  unfold rC
  rw [if_neg (by decide), if_neg (fun q => by have := q.1; simp at this; omega)]
theorem S_X8_need {d : Nat} {V : XV} {g : AH} {a b : Int} {r : MS} {K : MS → Prop} {KX : Int → Int → Prop} (hf : g fI = none) (H : C_X8_need a b r K KX) : Sp mm_X8_need (d + 4) 1 8 [aR (some rT), aI a, aI b] (rh V r g) (rQv V g K KX) := by
  refine ew_sp rfl (Nat.le_of_ble_eq_true rfl) ?_
  refine ew_iload_n dX8_need_0 rfl lm1 ?_
  refine ew_if_ne (tgt := 17) dX8_need_1 (by decide) (fun c => ?_) (fun c => ?_)
  · exact ew_ret (o := none) rfl (Or.inl ⟨r, rfl, rfl, H.1 c⟩) ⟨rfl, dX8_need_17⟩
  · refine ew_newB (i := fI) (ci := 7) (n := 8) (fs := vF0) (r := (RX9, TX9, 8)) dX8_need_4 rfl rfl q590 q591 q127 (fun k hk => ?_) ((rh_g rC_3).trans hf) (by decide) (Nat.le_refl 1) (Nat.le_refl 8) ?_
    · rcases (show k = 0 ∨ k = 1 ∨ k = 2 ∨ k = 3 ∨ k = 4 ∨ k = 5 ∨ k = 6 ∨ k = 7 by omega) with rfl | rfl | rfl | rfl | rfl | rfl | rfl | rfl 
      · exact ⟨.object "java/lang/Throwable", by decide +kernel, rfl⟩
      · exact ⟨.array (.object "java/lang/StackTraceElement"), by decide +kernel, rfl⟩
      · exact ⟨.object "java/util/List", by decide +kernel, rfl⟩
      · exact ⟨.object "java/lang/String", by decide +kernel, rfl⟩
      · exact ⟨.object "java/lang/Object", by decide +kernel, rfl⟩
      · exact ⟨.int, by decide +kernel, rfl⟩
      · exact ⟨.int, by decide +kernel, rfl⟩
      · exact ⟨.int, by decide +kernel, rfl⟩
    refine ew_dup dX8_need_7 rfl ?_
    refine ew_iload_n dX8_need_8 rfl lm2 ?_
    refine ew_aload_n dX8_need_9 rfl lm0 ?_
    refine ew_get dX8_need_10 (e_fl.a q421) rf_3 ((hup_ne (by decide)).trans rh_T) lm0 ?_
    refine ew_callI (d := d + 3) (as := [aI b, aI (r.1 3)]) rfl dX8_need_13 me_X9_init rfl rfl rfl (Or.inl q628) q629 (Nat.le_of_ble_eq_true rfl) (Nat.zero_le _) (Nat.zero_le _) (A_fault (d := d) (hup_self _ _ _)) (fun o h' hq _ => ?_) (fun E i h' q _ => by cases q.1)
    obtain ⟨E1, fs', rfl, hv⟩ := hq
    cases E1
    refine ew_athrow (r := (RX9, TX9, 8)) dX8_need_16 (hup_self _ _ _) rfl (ex_out (Or.inr ⟨b, r.1 3, fs', rfl, hup_self _ _ _, hv, fun i hr hi => ?_, H.2 c⟩) rfl)
    have e1 : i ≠ fI := fun q => hr (Or.inr (Or.inl q))
    rw [hup_ne e1, hup_ne e1]
    refine rh_g ?_
    unfold rC
    rw [if_neg (fun q => hr (Or.inl q)), if_neg (fun q => hr (Or.inr (Or.inr q)))]
theorem rX_n {V : XV} {g : AH} {KX : Int → Int → Prop} {o : Option AV} {h : AH} (q : rX V g KX (Sum.inl o) h) : False := by
  obtain ⟨kd, pl, fs, e, -⟩ := q
  cases e
theorem rQv_n {V : XV} {g : AH} {K : MS → Prop} {KX : Int → Int → Prop} {o : Option AV} {h : AH} (q : rQv V g K KX (Sum.inl o) h) : nQv V g K (Sum.inl o) h := q.resolve_right fun q => rX_n q
theorem rQi_n {V : XV} {g : AH} {K : Int → MS → Prop} {KX : Int → Int → Prop} {o : Option AV} {h : AH} (q : rQi V g K KX (Sum.inl o) h) : nQi V g K (Sum.inl o) h := q.resolve_right fun q => rX_n q
theorem rQl_n {V : XV} {g : AH} {K : Int → MS → Prop} {KX : Int → Int → Prop} {o : Option AV} {h : AH} (q : rQl V g K KX (Sum.inl o) h) : ∃ n r, (Sum.inl o : AO) = Sum.inl (some (aL n)) ∧ h = rh V r g ∧ K n r := q.resolve_right fun q => rX_n q
theorem rQb_n {V : XV} {g : AH} {K : MS → Prop} {KX : Int → Int → Prop} {o : Option AV} {h : AH} (q : rQb V g K KX (Sum.inl o) h) : ∃ r, (Sum.inl o : AO) = Sum.inl (some (aR (some (bI V 1 0)))) ∧ h = rh V r g ∧ K r := q.resolve_right fun q => rX_n q
theorem rQv_x {V : XV} {g : AH} {K : MS → Prop} {KX : Int → Int → Prop} {x : String × EId} {h : AH} (q : rQv V g K KX (Sum.inr x) h) : rX V g KX (Sum.inr x) h := q.resolve_left fun q => by obtain ⟨r, e, -⟩ := q; cases e
theorem rQi_x {V : XV} {g : AH} {K : Int → MS → Prop} {KX : Int → Int → Prop} {x : String × EId} {h : AH} (q : rQi V g K KX (Sum.inr x) h) : rX V g KX (Sum.inr x) h := q.resolve_left fun q => by obtain ⟨n, r, e, -⟩ := q; cases e
theorem rQl_x {V : XV} {g : AH} {K : Int → MS → Prop} {KX : Int → Int → Prop} {x : String × EId} {h : AH} (q : rQl V g K KX (Sum.inr x) h) : rX V g KX (Sum.inr x) h := q.resolve_left fun q => by obtain ⟨n, r, e, -⟩ := q; cases e
theorem rQb_x {V : XV} {g : AH} {K : MS → Prop} {KX : Int → Int → Prop} {x : String × EId} {h : AH} (q : rQb V g K KX (Sum.inr x) h) : rX V g KX (Sum.inr x) h := q.resolve_left fun q => by obtain ⟨r, e, -⟩ := q; cases e
