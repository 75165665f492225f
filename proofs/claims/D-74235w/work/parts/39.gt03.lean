/-! The reader: methods that throw, by program (gen/gxt.py) -/
set_option maxRecDepth 100000
abbrev mm_X8_read : EM := (yX8_read, cX8_read, 1, (Option.some (.object "ReasonCloser$Book")), [])
theorem me_X8_read : e_mth mm_X8_read 0 := ⟨rfl, q446, q118, by decide +kernel, by decide⟩
def B_X8_read_8 (X8 : Nat → Nat → MS → Prop) (K : MS → Prop) (KX : Int → Int → Prop) (kc ks : Nat) (tp : Int → Int) (s0 : MS) : Prop :=
  (C_X8_isSign 59 tp s0 (fun r1 => ((r1 = 0 → (((s0.1 4) = 1 → ((1 ≤ kc ∧ 8 ≤ ks) ∧ K s0)) ∧ (¬ (s0.1 4) = 1 → ((1 ≤ kc ∧ 8 ≤ ks) ∧ KX 1 (s0.1 3))))) ∧ (¬ r1 = 0 → (C_X8_go tp s0 (fun s11 => (∃ mc20c mc20s, mc20c ≤ kc ∧ mc20s ≤ ks ∧ (C_X8_line mc20c mc20s tp s11 (fun s16 => X8 (kc - mc20c) (ks - mc20s) s16) KX))))))))
def B_X8_read_E (X8 : Nat → Nat → MS → Prop) (K : MS → Prop) (KX : Int → Int → Prop) (kc ks : Nat) (tp : Int → Int) (s0 : MS) : Prop :=
  (C_X8_go tp s0 (fun s2 => (∃ mc11c mc11s, mc11c ≤ kc ∧ mc11s ≤ ks ∧ (C_X8_line mc11c mc11s tp s2 (fun s7 => X8 (kc - mc11c) (ks - mc11s) s7) KX))))
def W_X8_read_8 (d : Nat) (V : XV) (g : AH) (tp : Int → Int) (K : MS → Prop) (KX : Int → Int → Prop) (kc ks : Nat) (s0 : MS) : Prop := EW mm_X8_read (d + 10) kc ks (rQb V g K KX) 8 [(0, aR (some rT))] [] (rh V s0 g)
set_option maxHeartbeats 4000000 in
theorem T_X8_read_8 (d : Nat) (V : XV) (g : AH) (tp : Int → Int) (hT : rtp tp g) (hf : g fI = none) (hr : rfr V g) (K : MS → Prop) (KX : Int → Int → Prop) (kc ks : Nat) (s0 : MS) (H : B_X8_read_8 (W_X8_read_8 d V g tp K KX) K KX kc ks tp s0) : EW mm_X8_read (d + 10) kc ks (rQb V g K KX) 8 [(0, aR (some rT))] [] (rh V s0 g) := by
  refine ew_aload_n dX8_read_8 rfl lm0 ?_
  refine ew_bipush dX8_read_9 (inI_of rfl) (by decide) ?_
  refine ew_callV (d := d + 9) (as := [aI 59]) rfl dX8_read_11 me_X8_isSign rfl (ci := 6) rfl rfl rh_T (Or.inl q794) q796 qs18 (Nat.le_of_ble_eq_true rfl) (Nat.zero_le _) (Nat.zero_le _) (S_X8_isSign (d := d + 8) hT H) (fun o h' hq3 _ => ?_) (fun E i h' q _ => (cQ_no q).elim)
  obtain ⟨r1, E4, rfl, H⟩ := hq3
  cases E4
  refine ew_if_eq (tgt := 28) dX8_read_14 (by decide) (fun c6 => ?_) (fun c6 => ?_)
  · replace H := H.1 c6
    refine ew_aload_n dX8_read_28 rfl lm0 ?_
    refine ew_aload_n dX8_read_29 rfl lm0 ?_
    refine rd_get (v := aI (s0.1 4)) dX8_read_30 (e_fl.a q422) rf_4 rfl ?_
    refine ew_iconst dX8_read_33 (inI_of rfl) ?_
    refine ew_icmp_ne (tgt := 41) dX8_read_34 (by decide) (fun c7 => ?_) (fun c7 => ?_)
    · replace H := H.2 c7
      refine ew_iconst dX8_read_41 (inI_of rfl) ?_
      refine ew_iconst dX8_read_42 (inI_of rfl) ?_
      obtain ⟨v8, H⟩ := H
      exact rd_need (d := d + 5) (KX := KX) dX8_read_43 q586 hf rfl (fun x h q => Or.inr q) (Nat.le_of_ble_eq_true rfl) v8.1 v8.2 (fun _ => H) (fun c => absurd rfl c)
    · replace H := H.1 c7
      refine ew_iconst dX8_read_37 (inI_of rfl) ?_
      refine ew_goto (tgt := 42) dX8_read_38 (by decide) ?_
      refine ew_iconst dX8_read_42 (inI_of rfl) ?_
      obtain ⟨v9, H⟩ := H
      refine rd_need (d := d + 5) (KX := KX) dX8_read_43 q586 hf rfl (fun x h q => Or.inr q) (Nat.le_of_ble_eq_true rfl) v9.1 v9.2 (fun c => absurd c (by decide)) (fun _ => ?_)
      refine ew_aload_n dX8_read_46 rfl lm0 ?_
      refine rd_get (v := aR (some (bI V 1 0))) dX8_read_47 (e_fl.a q419) rf_1 rfl ?_
      exact ew_ret (o := some (aR (some (bI V 1 0)))) rfl (Or.inl ⟨_, rfl, rfl, H⟩) ⟨dX8_read_50, _, rfl, Or.inl ⟨_, rfl⟩⟩
  · replace H := H.2 c6
    refine ew_aload_n dX8_read_17 rfl lm0 ?_
    refine ew_callV (d := d + 9) (as := []) rfl dX8_read_18 me_X8_go rfl (ci := 6) rfl rfl rh_T (Or.inl q447) q449 qs2 (Nat.le_of_ble_eq_true rfl) (Nat.zero_le _) (Nat.zero_le _) (S_X8_go (d := d + 5) hT H) (fun o h' hq12 _ => ?_) (fun E i h' q _ => (nQv_no q).elim)
    obtain ⟨s11, E13, rfl, H⟩ := hq12
    cases E13
    refine ew_aload_n dX8_read_21 rfl lm0 ?_
    obtain ⟨mc20c, mc20s, hm21c, hm21s, H⟩ := H
    refine ew_callV (d := d + 9) (as := []) rfl dX8_read_22 me_X8_line rfl (ci := 6) rfl rfl rh_T (Or.inl q551) q553 qs6 (Nat.le_of_ble_eq_true rfl) hm21c hm21s (S_X8_line (d := d + 0) hT hf hr H) (fun o h' hq17 _ => ?_) (fun E i h' q _ => ex_out (Or.inr (rQv_x q)) rfl)
    obtain ⟨s16, E18, rfl, H⟩ := rQv_n hq17
    cases E18
    refine ew_goto (tgt := 8) dX8_read_25 (by decide) ?_
    exact ew_sub (List.forall_mem_cons.mpr ⟨lm0, e_nm⟩) H
set_option maxHeartbeats 4000000 in
theorem T_X8_read_E (d : Nat) (V : XV) (g : AH) (tp : Int → Int) (hT : rtp tp g) (hf : g fI = none) (hr : rfr V g) (K : MS → Prop) (KX : Int → Int → Prop) (kc ks : Nat) (s0 : MS) (H : B_X8_read_E (W_X8_read_8 d V g tp K KX) K KX kc ks tp s0) : EW mm_X8_read (d + 10) kc ks (rQb V g K KX) 0 [(0, aR (some rT))] [] (rh V s0 g) := by
  refine ew_aload_n dX8_read_0 rfl lm0 ?_
  refine ew_callV (d := d + 9) (as := []) rfl dX8_read_1 me_X8_go rfl (ci := 6) rfl rfl rh_T (Or.inl q447) q449 qs2 (Nat.le_of_ble_eq_true rfl) (Nat.zero_le _) (Nat.zero_le _) (S_X8_go (d := d + 5) hT H) (fun o h' hq3 _ => ?_) (fun E i h' q _ => (nQv_no q).elim)
  obtain ⟨s2, E4, rfl, H⟩ := hq3
  cases E4
  refine ew_aload_n dX8_read_4 rfl lm0 ?_
  obtain ⟨mc11c, mc11s, hm12c, hm12s, H⟩ := H
  refine ew_callV (d := d + 9) (as := []) rfl dX8_read_5 me_X8_line rfl (ci := 6) rfl rfl rh_T (Or.inl q551) q553 qs6 (Nat.le_of_ble_eq_true rfl) hm12c hm12s (S_X8_line (d := d + 0) hT hf hr H) (fun o h' hq8 _ => ?_) (fun E i h' q _ => ex_out (Or.inr (rQv_x q)) rfl)
  obtain ⟨s7, E9, rfl, H⟩ := rQv_n hq8
  cases E9
  exact ew_sub (List.forall_mem_cons.mpr ⟨lm0, e_nm⟩) H
def C_X8_read (kc ks : Nat) (tp : Int → Int) (s0 : MS) (K : MS → Prop) (KX : Int → Int → Prop) : Prop := ∀ (X8 : Nat → Nat → MS → Prop), (∀ (kc ks : Nat) (s0 : MS), B_X8_read_8 X8 K KX kc ks tp s0 → X8 kc ks s0) → B_X8_read_E X8 K KX kc ks tp s0
theorem S_X8_read {d : Nat} {V : XV} {g : AH} {tp : Int → Int} {K : MS → Prop} {KX : Int → Int → Prop} {kc ks : Nat} {s0 : MS} (hT : rtp tp g) (hf : g fI = none) (hr : rfr V g) (H : C_X8_read kc ks tp s0 K KX) : Sp mm_X8_read (d + 10) kc ks [aR (some rT)] (rh V s0 g) (rQb V g K KX) :=
  ew_sp rfl (Nat.le_of_ble_eq_true rfl) (T_X8_read_E d V g tp hT hf hr K KX kc ks s0 (H _ (fun kc ks s0 H => T_X8_read_8 d V g tp hT hf hr K KX kc ks s0 H)))
