set_option maxRecDepth 100000
abbrev mm_size : EM := (yX7_size, cX7_size, 1, some .int, [])
theorem me_size : e_mth mm_size 0 := ⟨rfl, q1957, q117, by decide +kernel, by decide⟩
def B_size_E  (K : Int → MS → Prop)  (s0 : MS) : Prop :=
  (∀ s1 : MS, s1 = ms s0 0 0 → K (s1.1 5) s1)
set_option maxHeartbeats 4000000 in
theorem T_size_E (d : Nat) (g : AH) (K : Int → MS → Prop)  (s0 : MS) (H : B_size_E  K  s0) : EW mm_size (d + 0) 0 0 (mQi g K) 0 [(0, aR (some mT))] [] (mh s0 g) := by
  refine ew_aload_n dX7_size_0 rfl lm0 ?_
  refine ew_iconst dX7_size_1 (inI_of rfl) ?_
  refine mw_pI dX7_size_2 (e_fl.a q1406) mf_0 (Or.inl rfl) (ty := .int) (by decide +kernel) trivial (fun s1 e2 => ?_)
  replace H := H s1 e2
  refine ew_aload_n dX7_size_5 rfl lm0 ?_
  refine mw_gI dX7_size_6 (e_fl.a q1411) mf_5 rfl ?_
  exact ew_ret (o := some (aI (s1.1 5))) rfl ⟨_, _, rfl, rfl, H⟩ ⟨dX7_size_9, .int, rfl, Or.inl rfl, rfl⟩
def C_size  (s0 : MS) (K : Int → MS → Prop) : Prop := B_size_E  K  s0
theorem S_size {d : Nat} {g : AH} {K : Int → MS → Prop}  {s0 : MS} (H : C_size  s0 K) : Sp mm_size (d + 0) 0 0 [aR (some mT)] (mh s0 g) (mQi g K) :=
  ew_sp rfl (Nat.le_of_ble_eq_true rfl) (T_size_E d g K  s0 (H  ))
abbrev mm_trouble : EM := (yX7_trouble, cX7_trouble, 1, some .int, [])
theorem me_trouble : e_mth mm_trouble 0 := ⟨rfl, q1961, q117, by decide +kernel, by decide⟩
def B_trouble_E  (K : Int → MS → Prop)  (s0 : MS) : Prop :=
  (∀ s1 : MS, s1 = ms s0 0 0 → K (s1.1 1) s1)
set_option maxHeartbeats 4000000 in
theorem T_trouble_E (d : Nat) (g : AH) (K : Int → MS → Prop)  (s0 : MS) (H : B_trouble_E  K  s0) : EW mm_trouble (d + 0) 0 0 (mQi g K) 0 [(0, aR (some mT))] [] (mh s0 g) := by
  refine ew_aload_n dX7_trouble_0 rfl lm0 ?_
  refine ew_iconst dX7_trouble_1 (inI_of rfl) ?_
  refine mw_pI dX7_trouble_2 (e_fl.a q1406) mf_0 (Or.inl rfl) (ty := .int) (by decide +kernel) trivial (fun s1 e2 => ?_)
  replace H := H s1 e2
  refine ew_aload_n dX7_trouble_5 rfl lm0 ?_
  refine mw_gI dX7_trouble_6 (e_fl.a q1407) mf_1 rfl ?_
  exact ew_ret (o := some (aI (s1.1 1))) rfl ⟨_, _, rfl, rfl, H⟩ ⟨dX7_trouble_9, .int, rfl, Or.inl rfl, rfl⟩
def C_trouble  (s0 : MS) (K : Int → MS → Prop) : Prop := B_trouble_E  K  s0
theorem S_trouble {d : Nat} {g : AH} {K : Int → MS → Prop}  {s0 : MS} (H : C_trouble  s0 K) : Sp mm_trouble (d + 0) 0 0 [aR (some mT)] (mh s0 g) (mQi g K) :=
  ew_sp rfl (Nat.le_of_ble_eq_true rfl) (T_trouble_E d g K  s0 (H  ))
