/-! The reader: methods that throw, by program (gen/gxt.py) -/
set_option maxRecDepth 100000
def B_X8_begin_2_E (K : MS → Prop) (KX : Int → Int → Prop) (a : Int) (tp : Int → Int) (s0 : MS) : Prop :=
  ((a ≤ (s0.1 32) → KX 4 (s0.1 3)) ∧ (¬ a ≤ (s0.1 32) → (C_X8_go tp s0 (fun s5 => K s5))))
set_option maxHeartbeats 4000000 in
theorem T_X8_begin_2_E (d : Nat) (V : XV) (g : AH) (tp : Int → Int) (hT : rtp tp g) (hf : g fI = none) (K : MS → Prop) (KX : Int → Int → Prop) (a : Int) (s0 : MS) (H : B_X8_begin_2_E K KX a tp s0) : EW mm_X8_begin (d + 5) 1 8 (rQv V g K KX) 0 [(0, aR (some rT)), (1, aR (some (bI V 2 2))), (2, aI a)] [] (rh V s0 g) := by
  refine ew_aload_n dX8_begin_0 rfl lm0 ?_
  refine ew_aload_n dX8_begin_1 rfl lm1 ?_
  refine rlw_size (d := d + 4) (j := 2) dX8_begin_2 (by decide) q664 (Nat.le_of_ble_eq_true rfl) ?_
  refine ew_iload_n dX8_begin_7 rfl lm2 ?_
  refine ew_icmp_ge (tgt := 15) dX8_begin_8 (by decide) (fun c1 => ?_) (fun c1 => ?_)
  · replace H := H.1 c1
    refine ew_iconst dX8_begin_15 (inI_of rfl) ?_
    refine ew_iconst dX8_begin_16 (inI_of rfl) ?_
    exact rd_need (d := d + 0) (KX := KX) dX8_begin_17 q586 hf rfl (fun x h q => Or.inr q) (Nat.le_of_ble_eq_true rfl) (Nat.le_of_ble_eq_true rfl) (Nat.le_of_ble_eq_true rfl) (fun _ => H) (fun c => absurd rfl c)
  · replace H := H.2 c1
    refine ew_iconst dX8_begin_11 (inI_of rfl) ?_
    refine ew_goto (tgt := 16) dX8_begin_12 (by decide) ?_
    refine ew_iconst dX8_begin_16 (inI_of rfl) ?_
    refine rd_need (d := d + 0) (KX := KX) dX8_begin_17 q586 hf rfl (fun x h q => Or.inr q) (Nat.le_of_ble_eq_true rfl) (Nat.le_of_ble_eq_true rfl) (Nat.le_of_ble_eq_true rfl) (fun c => absurd c (by decide)) (fun _ => ?_)
    refine ew_aload_n dX8_begin_20 rfl lm0 ?_
    refine ew_callV (d := d + 4) (as := []) rfl dX8_begin_21 me_X8_go rfl (ci := 6) rfl rfl rh_T (Or.inl q447) q449 qs2 (Nat.le_of_ble_eq_true rfl) (Nat.zero_le _) (Nat.zero_le _) (S_X8_go (d := d + 0) hT H) (fun o h' hq6 _ => ?_) (fun E i h' q _ => (nQv_no q).elim)
    obtain ⟨s5, E7, rfl, H⟩ := hq6
    cases E7
    exact ew_ret (o := none) rfl (Or.inl ⟨_, rfl, rfl, H⟩) ⟨rfl, dX8_begin_24⟩
def C_X8_begin_2 (a : Int) (tp : Int → Int) (s0 : MS) (K : MS → Prop) (KX : Int → Int → Prop) : Prop := B_X8_begin_2_E K KX a tp s0
theorem S_X8_begin_2 {d : Nat} {V : XV} {g : AH} {tp : Int → Int} {K : MS → Prop} {KX : Int → Int → Prop} {a : Int} {s0 : MS} (hT : rtp tp g) (hf : g fI = none) (H : C_X8_begin_2 a tp s0 K KX) : Sp mm_X8_begin (d + 5) 1 8 [aR (some rT), aR (some (bI V 2 2)), aI a] (rh V s0 g) (rQv V g K KX) :=
  ew_sp rfl (Nat.le_of_ble_eq_true rfl) (T_X8_begin_2_E d V g tp hT hf K KX a s0 (H ))
def B_X8_begin_3_E (K : MS → Prop) (KX : Int → Int → Prop) (a : Int) (tp : Int → Int) (s0 : MS) : Prop :=
  ((a ≤ (s0.1 33) → KX 4 (s0.1 3)) ∧ (¬ a ≤ (s0.1 33) → (C_X8_go tp s0 (fun s5 => K s5))))
set_option maxHeartbeats 4000000 in
theorem T_X8_begin_3_E (d : Nat) (V : XV) (g : AH) (tp : Int → Int) (hT : rtp tp g) (hf : g fI = none) (K : MS → Prop) (KX : Int → Int → Prop) (a : Int) (s0 : MS) (H : B_X8_begin_3_E K KX a tp s0) : EW mm_X8_begin (d + 5) 1 8 (rQv V g K KX) 0 [(0, aR (some rT)), (1, aR (some (bI V 2 3))), (2, aI a)] [] (rh V s0 g) := by
  refine ew_aload_n dX8_begin_0 rfl lm0 ?_
  refine ew_aload_n dX8_begin_1 rfl lm1 ?_
  refine rlw_size (d := d + 4) (j := 3) dX8_begin_2 (by decide) q664 (Nat.le_of_ble_eq_true rfl) ?_
  refine ew_iload_n dX8_begin_7 rfl lm2 ?_
  refine ew_icmp_ge (tgt := 15) dX8_begin_8 (by decide) (fun c1 => ?_) (fun c1 => ?_)
  · replace H := H.1 c1
    refine ew_iconst dX8_begin_15 (inI_of rfl) ?_
    refine ew_iconst dX8_begin_16 (inI_of rfl) ?_
    exact rd_need (d := d + 0) (KX := KX) dX8_begin_17 q586 hf rfl (fun x h q => Or.inr q) (Nat.le_of_ble_eq_true rfl) (Nat.le_of_ble_eq_true rfl) (Nat.le_of_ble_eq_true rfl) (fun _ => H) (fun c => absurd rfl c)
  · replace H := H.2 c1
    refine ew_iconst dX8_begin_11 (inI_of rfl) ?_
    refine ew_goto (tgt := 16) dX8_begin_12 (by decide) ?_
    refine ew_iconst dX8_begin_16 (inI_of rfl) ?_
    refine rd_need (d := d + 0) (KX := KX) dX8_begin_17 q586 hf rfl (fun x h q => Or.inr q) (Nat.le_of_ble_eq_true rfl) (Nat.le_of_ble_eq_true rfl) (Nat.le_of_ble_eq_true rfl) (fun c => absurd c (by decide)) (fun _ => ?_)
    refine ew_aload_n dX8_begin_20 rfl lm0 ?_
    refine ew_callV (d := d + 4) (as := []) rfl dX8_begin_21 me_X8_go rfl (ci := 6) rfl rfl rh_T (Or.inl q447) q449 qs2 (Nat.le_of_ble_eq_true rfl) (Nat.zero_le _) (Nat.zero_le _) (S_X8_go (d := d + 0) hT H) (fun o h' hq6 _ => ?_) (fun E i h' q _ => (nQv_no q).elim)
    obtain ⟨s5, E7, rfl, H⟩ := hq6
    cases E7
    exact ew_ret (o := none) rfl (Or.inl ⟨_, rfl, rfl, H⟩) ⟨rfl, dX8_begin_24⟩
def C_X8_begin_3 (a : Int) (tp : Int → Int) (s0 : MS) (K : MS → Prop) (KX : Int → Int → Prop) : Prop := B_X8_begin_3_E K KX a tp s0
theorem S_X8_begin_3 {d : Nat} {V : XV} {g : AH} {tp : Int → Int} {K : MS → Prop} {KX : Int → Int → Prop} {a : Int} {s0 : MS} (hT : rtp tp g) (hf : g fI = none) (H : C_X8_begin_3 a tp s0 K KX) : Sp mm_X8_begin (d + 5) 1 8 [aR (some rT), aR (some (bI V 2 3)), aI a] (rh V s0 g) (rQv V g K KX) :=
  ew_sp rfl (Nat.le_of_ble_eq_true rfl) (T_X8_begin_3_E d V g tp hT hf K KX a s0 (H ))
abbrev mm_X8_parts : EM := (yX8_parts, cX8_parts, 5, (Option.some (.array .int)), [])
theorem me_X8_parts : e_mth mm_X8_parts 1 := ⟨rfl, q809, q118, by decide +kernel, by decide⟩
def B_X8_parts_82 (X82 : Int → (Int → Int) → Int → Nat → Nat → MS → Prop) (K : (Int → Int) → MS → Prop) (KX : Int → Int → Prop) (x1 : Int) (x2 : (Int → Int)) (x3 : Int) (kc ks : Nat) (tp : Int → Int) (m n : Int) (s0 : MS) : Prop :=
  ((x1 ≤ x3 → K x2 s0) ∧ (¬ x1 ≤ x3 → ((2 ≤ kc ∧ 16 ≤ ks) ∧ (C_X8_term tp s0 (fun r2 s3 => ((s3.1 41 ≤ m ∧ 0 ≤ x3 ∧ x3 < n) ∧ ((inI (x1 - 1)) ∧ ((x3 = (x1 - 1) → (C_X8_isSign 44 tp s3 (fun r53 => ((r53 = 0 → (C_X8_isSign 41 tp s3 (fun r74 => ((r74 = 0 → ((1 ≤ (kc - 2) ∧ 8 ≤ (ks - 16)) ∧ KX 1 (s3.1 3))) ∧ (¬ r74 = 0 → ((1 ≤ (kc - 2) ∧ 8 ≤ (ks - 16)) ∧ (C_X8_isSign 41 tp s3 (fun r83 => ((1 ≤ ((kc - 2) - 1) ∧ 8 ≤ ((ks - 16) - 8)) ∧ ((r83 = 0 → KX 5 (s3.1 3)) ∧ (¬ r83 = 0 → (C_X8_go tp s3 (fun s90 => (inI (x3 + 1) ∧ X82 x1 (iup x2 x3 r2) (x3 + 1) (((kc - 2) - 1) - 1) (((ks - 16) - 8) - 8) s90)))))))))))))) ∧ (¬ r53 = 0 → ((1 ≤ (kc - 2) ∧ 8 ≤ (ks - 16)) ∧ (C_X8_isSign 41 tp s3 (fun r61 => ((1 ≤ ((kc - 2) - 1) ∧ 8 ≤ ((ks - 16) - 8)) ∧ ((r61 = 0 → KX 5 (s3.1 3)) ∧ (¬ r61 = 0 → (C_X8_go tp s3 (fun s68 => (inI (x3 + 1) ∧ X82 x1 (iup x2 x3 r2) (x3 + 1) (((kc - 2) - 1) - 1) (((ks - 16) - 8) - 8) s68)))))))))))))) ∧ (¬ x3 = (x1 - 1) → (C_X8_isSign 44 tp s3 (fun r10 => ((r10 = 0 → (C_X8_isSign 41 tp s3 (fun r31 => ((r31 = 0 → ((1 ≤ (kc - 2) ∧ 8 ≤ (ks - 16)) ∧ KX 1 (s3.1 3))) ∧ (¬ r31 = 0 → ((1 ≤ (kc - 2) ∧ 8 ≤ (ks - 16)) ∧ (C_X8_isSign 44 tp s3 (fun r40 => ((1 ≤ ((kc - 2) - 1) ∧ 8 ≤ ((ks - 16) - 8)) ∧ ((r40 = 0 → KX 5 (s3.1 3)) ∧ (¬ r40 = 0 → (C_X8_go tp s3 (fun s47 => (inI (x3 + 1) ∧ X82 x1 (iup x2 x3 r2) (x3 + 1) (((kc - 2) - 1) - 1) (((ks - 16) - 8) - 8) s47)))))))))))))) ∧ (¬ r10 = 0 → ((1 ≤ (kc - 2) ∧ 8 ≤ (ks - 16)) ∧ (C_X8_isSign 44 tp s3 (fun r18 => ((1 ≤ ((kc - 2) - 1) ∧ 8 ≤ ((ks - 16) - 8)) ∧ ((r18 = 0 → KX 5 (s3.1 3)) ∧ (¬ r18 = 0 → (C_X8_go tp s3 (fun s25 => (inI (x3 + 1) ∧ X82 x1 (iup x2 x3 r2) (x3 + 1) (((kc - 2) - 1) - 1) (((ks - 16) - 8) - 8) s25)))))))))))))))))) KX))))
def B_X8_parts_E (X82 : Int → (Int → Int) → Int → Nat → Nat → MS → Prop) (K : (Int → Int) → MS → Prop) (KX : Int → Int → Prop) (kc ks : Nat) (tp : Int → Int) (m n : Int) (s0 : MS) : Prop :=
  ((s0.1 41 ≤ m ∧ (0 ≤ n ∧ n ≤ 10000) ∧ 1 ≤ kc ∧ (n).toNat ≤ ks) ∧ ((n = 0 → (C_X8_isSign 40 tp s0 (fun r56 => ((r56 = 0 → ((1 ≤ (kc - 1) ∧ 8 ≤ (ks - (n).toNat)) ∧ K (fun _ => 0) s0)) ∧ (¬ r56 = 0 → ((1 ≤ (kc - 1) ∧ 8 ≤ (ks - (n).toNat)) ∧ KX 5 (s0.1 3))))))) ∧ (¬ n = 0 → (C_X8_isSign 40 tp s0 (fun r3 => ((r3 = 0 → (C_X8_isSign 59 tp s0 (fun r22 => ((r22 = 0 → (((s0.1 4) = 1 → ((1 ≤ (kc - 1) ∧ 8 ≤ (ks - (n).toNat)) ∧ (C_X8_isSign 40 tp s0 (fun r44 => ((1 ≤ ((kc - 1) - 1) ∧ 8 ≤ ((ks - (n).toNat) - 8)) ∧ ((r44 = 0 → KX 5 (s0.1 3)) ∧ (¬ r44 = 0 → (C_X8_go tp s0 (fun s51 => X82 n (fun _ => 0) 0 (((kc - 1) - 1) - 1) (((ks - (n).toNat) - 8) - 8) s51))))))))) ∧ (¬ (s0.1 4) = 1 → ((1 ≤ (kc - 1) ∧ 8 ≤ (ks - (n).toNat)) ∧ KX 1 (s0.1 3))))) ∧ (¬ r22 = 0 → ((1 ≤ (kc - 1) ∧ 8 ≤ (ks - (n).toNat)) ∧ (C_X8_isSign 40 tp s0 (fun r29 => ((1 ≤ ((kc - 1) - 1) ∧ 8 ≤ ((ks - (n).toNat) - 8)) ∧ ((r29 = 0 → KX 5 (s0.1 3)) ∧ (¬ r29 = 0 → (C_X8_go tp s0 (fun s36 => X82 n (fun _ => 0) 0 (((kc - 1) - 1) - 1) (((ks - (n).toNat) - 8) - 8) s36))))))))))))) ∧ (¬ r3 = 0 → ((1 ≤ (kc - 1) ∧ 8 ≤ (ks - (n).toNat)) ∧ (C_X8_isSign 40 tp s0 (fun r10 => ((1 ≤ ((kc - 1) - 1) ∧ 8 ≤ ((ks - (n).toNat) - 8)) ∧ ((r10 = 0 → KX 5 (s0.1 3)) ∧ (¬ r10 = 0 → (C_X8_go tp s0 (fun s17 => X82 n (fun _ => 0) 0 (((kc - 1) - 1) - 1) (((ks - (n).toNat) - 8) - 8) s17)))))))))))))))
def W_X8_parts_82 (d : Nat) (V : XV) (g : AH) (tp : Int → Int) (m n : Int) (K : (Int → Int) → MS → Prop) (KX : Int → Int → Prop) (x1 : Int) (x2 : (Int → Int)) (x3 : Int) (kc ks : Nat) (s0 : MS) : Prop := EW mm_X8_parts (d + 8) kc ks (rQp V g (bI V 14 (m).toNat) (n).toNat K KX) 82 [(0, aR (some rT)), (1, aI x1), (2, aR (some (bI V 14 (m).toNat))), (3, aI x3)] [] (rh V s0 (hup g (bI V 14 (m).toNat) (kI 0 (n).toNat x2)))
set_option maxHeartbeats 4000000 in
theorem T_X8_parts_82 (d : Nat) (V : XV) (g : AH) (tp : Int → Int) (m n : Int) (hT : rtp tp g) (hf : g fI = none) (hp : g (bI V 14 (m).toNat) = none) (K : (Int → Int) → MS → Prop) (KX : Int → Int → Prop) (x1 : Int) (x2 : (Int → Int)) (x3 : Int) (kc ks : Nat) (s0 : MS) (H : B_X8_parts_82 (W_X8_parts_82 d V g tp m n K KX) K KX x1 x2 x3 kc ks tp m n s0) : EW mm_X8_parts (d + 8) kc ks (rQp V g (bI V 14 (m).toNat) (n).toNat K KX) 82 [(0, aR (some rT)), (1, aI x1), (2, aR (some (bI V 14 (m).toNat))), (3, aI x3)] [] (rh V s0 (hup g (bI V 14 (m).toNat) (kI 0 (n).toNat x2))) := by
  refine ew_iload_n dX8_parts_82 rfl lm3 ?_
  refine ew_iload_n dX8_parts_83 rfl lm1 ?_
  refine ew_icmp_ge (tgt := 167) dX8_parts_84 (by decide) (fun c1 => ?_) (fun c1 => ?_)
  · replace H := H.1 c1
    refine ew_aload_n dX8_parts_167 rfl lm2 ?_
    exact ew_ret (o := some (aR (some (bI V 14 (m).toNat)))) rfl (Or.inl ⟨_, _, rfl, rfl, H⟩) ⟨dX8_parts_168, _, rfl, Or.inr ⟨_, rfl⟩⟩
  · replace H := H.2 c1
    refine ew_aload_n dX8_parts_87 rfl lm2 ?_
    refine ew_iload_n dX8_parts_88 rfl lm3 ?_
    refine ew_aload_n dX8_parts_89 rfl lm0 ?_
    obtain ⟨v6, H⟩ := H
    refine ew_callV (d := d + 7) (as := []) rfl dX8_parts_90 me_X8_term rfl (ci := 6) rfl rfl rh_T (Or.inl q810) q812 qs21 (Nat.le_of_ble_eq_true rfl) v6.1 v6.2 (S_X8_term (d := d + 0) (rtp_b hT) (fI_b hf) H) (fun o h' hq4 _ => ?_) (fun E i h' q _ => ex_out (Or.inr (rX_b (by decide) (rQi_x q))) rfl)
    obtain ⟨r2, s3, E5, rfl, H⟩ := rQi_n hq4
    cases E5
    obtain ⟨v7, H⟩ := H
    refine ew_iast dX8_parts_93 (bk_at bkH_r (by decide) (bn_14 (Int.toNat_le_toNat v7.1)) (hup_self _ _ _)) v7.2.1 (by omega) ?_
    rw [bk_hup bkH_r (by decide) (bn_14 (Int.toNat_le_toNat v7.1)), hup_hup]
    refine ew_iload_n dX8_parts_94 rfl lm3 ?_
    refine ew_iload_n dX8_parts_95 rfl lm1 ?_
    refine ew_iconst dX8_parts_96 (inI_of rfl) ?_
    obtain ⟨v8, H⟩ := H
    refine ew_isub dX8_parts_97 v8 ?_
    refine ew_icmp_ne (tgt := 105) dX8_parts_98 (by decide) (fun c9 => ?_) (fun c9 => ?_)
    · replace H := H.2 c9
      refine ew_iconst dX8_parts_105 (inI_of rfl) ?_
      refine ew_istore dX8_parts_106 (by decide) (lv' := [(4, aI 0), (0, aR (some rT)), (1, aI x1), (2, aR (some (bI V 14 (m).toNat))), (3, aI x3)]) rfl ?_
      refine ew_sub (List.forall_mem_cons.mpr ⟨lm1, (List.forall_mem_cons.mpr ⟨lm2, (List.forall_mem_cons.mpr ⟨lm3, (List.forall_mem_cons.mpr ⟨lm4, (List.forall_mem_cons.mpr ⟨lm0, e_nm⟩)⟩)⟩)⟩)⟩) ?_
      refine ew_aload_n dX8_parts_108 rfl lm0 ?_
      refine ew_aload_n dX8_parts_109 rfl lm0 ?_
      refine ew_bipush dX8_parts_110 (inI_of rfl) (by decide) ?_
      refine ew_callV (d := d + 7) (as := [aI 44]) rfl dX8_parts_112 me_X8_isSign rfl (ci := 6) rfl rfl rh_T (Or.inl q794) q796 qs18 (Nat.le_of_ble_eq_true rfl) (Nat.zero_le _) (Nat.zero_le _) (S_X8_isSign (d := d + 6) (rtp_b hT) H) (fun o h' hq12 _ => ?_) (fun E i h' q _ => (cQ_no q).elim)
      obtain ⟨r10, E13, rfl, H⟩ := hq12
      cases E13
      refine ew_if_ne (tgt := 127) dX8_parts_115 (by decide) (fun c15 => ?_) (fun c15 => ?_)
      · replace H := H.2 c15
        refine ew_iconst dX8_parts_127 (inI_of rfl) ?_
        refine ew_goto (tgt := 132) dX8_parts_128 (by decide) ?_
        refine ew_iconst dX8_parts_132 (inI_of rfl) ?_
        obtain ⟨v16, H⟩ := H
        refine rd_need (d := d + 3) (KX := KX) dX8_parts_133 q586 (fI_b hf) rfl (fun x h q => Or.inr (rX_b (by decide) q)) (Nat.le_of_ble_eq_true rfl) v16.1 v16.2 (fun c => absurd c (by decide)) (fun _ => ?_)
        refine ew_aload_n dX8_parts_136 rfl lm0 ?_
        refine ew_aload_n dX8_parts_137 rfl lm0 ?_
        refine ew_iload dX8_parts_138 lm4 ?_
        refine ew_if_eq (tgt := 148) dX8_parts_140 (by decide) (fun _ => ?_) (fun c => False.elim (by revert c; decide))
        refine ew_bipush dX8_parts_148 (inI_of rfl) (by decide) ?_
        refine ew_callV (d := d + 7) (as := [aI 44]) rfl dX8_parts_150 me_X8_isSign rfl (ci := 6) rfl rfl rh_T (Or.inl q794) q796 qs18 (Nat.le_of_ble_eq_true rfl) (Nat.zero_le _) (Nat.zero_le _) (S_X8_isSign (d := d + 6) (rtp_b hT) H) (fun o h' hq20 _ => ?_) (fun E i h' q _ => (cQ_no q).elim)
        obtain ⟨r18, E21, rfl, H⟩ := hq20
        cases E21
        refine ew_iconst dX8_parts_153 (inI_of rfl) ?_
        obtain ⟨v23, H⟩ := H
        refine rd_need (d := d + 3) (KX := KX) dX8_parts_154 q586 (fI_b hf) rfl (fun x h q => Or.inr (rX_b (by decide) q)) (Nat.le_of_ble_eq_true rfl) v23.1 v23.2 H.1 (fun c30 => ?_)
        replace H := H.2 c30
        refine ew_aload_n dX8_parts_157 rfl lm0 ?_
        refine ew_callV (d := d + 7) (as := []) rfl dX8_parts_158 me_X8_go rfl (ci := 6) rfl rfl rh_T (Or.inl q447) q449 qs2 (Nat.le_of_ble_eq_true rfl) (Nat.zero_le _) (Nat.zero_le _) (S_X8_go (d := d + 3) (rtp_b hT) H) (fun o h' hq26 _ => ?_) (fun E i h' q _ => (nQv_no q).elim)
        obtain ⟨s25, E27, rfl, H⟩ := hq26
        cases E27
        obtain ⟨v29, H⟩ := H
        refine ew_iinc dX8_parts_161 lm3 (by decide) v29 (lv' := [(3, aI (x3 + 1)), (0, aR (some rT)), (1, aI x1), (2, aR (some (bI V 14 (m).toNat))), (4, aI 0)]) rfl ?_
        refine ew_sub (List.forall_mem_cons.mpr ⟨lm1, (List.forall_mem_cons.mpr ⟨lm2, (List.forall_mem_cons.mpr ⟨lm3, (List.forall_mem_cons.mpr ⟨lm0, (List.forall_mem_cons.mpr ⟨lm4, e_nm⟩)⟩)⟩)⟩)⟩) ?_
        refine ew_goto (tgt := 82) dX8_parts_164 (by decide) ?_
        exact ew_sub (List.forall_mem_cons.mpr ⟨lm0, (List.forall_mem_cons.mpr ⟨lm1, (List.forall_mem_cons.mpr ⟨lm2, (List.forall_mem_cons.mpr ⟨lm3, e_nm⟩)⟩)⟩)⟩) H
      · replace H := H.1 c15
        refine ew_aload_n dX8_parts_118 rfl lm0 ?_
        refine ew_bipush dX8_parts_119 (inI_of rfl) (by decide) ?_
        refine ew_callV (d := d + 7) (as := [aI 41]) rfl dX8_parts_121 me_X8_isSign rfl (ci := 6) rfl rfl rh_T (Or.inl q794) q796 qs18 (Nat.le_of_ble_eq_true rfl) (Nat.zero_le _) (Nat.zero_le _) (S_X8_isSign (d := d + 6) (rtp_b hT) H) (fun o h' hq33 _ => ?_) (fun E i h' q _ => (cQ_no q).elim)
        obtain ⟨r31, E34, rfl, H⟩ := hq33
        cases E34
        refine ew_if_eq (tgt := 131) dX8_parts_124 (by decide) (fun c36 => ?_) (fun c36 => ?_)
        · replace H := H.1 c36
          refine ew_iconst dX8_parts_131 (inI_of rfl) ?_
          refine ew_iconst dX8_parts_132 (inI_of rfl) ?_
          obtain ⟨v37, H⟩ := H
          exact rd_need (d := d + 3) (KX := KX) dX8_parts_133 q586 (fI_b hf) rfl (fun x h q => Or.inr (rX_b (by decide) q)) (Nat.le_of_ble_eq_true rfl) v37.1 v37.2 (fun _ => H) (fun c => absurd rfl c)
        · replace H := H.2 c36
          refine ew_iconst dX8_parts_127 (inI_of rfl) ?_
          refine ew_goto (tgt := 132) dX8_parts_128 (by decide) ?_
          refine ew_iconst dX8_parts_132 (inI_of rfl) ?_
          obtain ⟨v38, H⟩ := H
          refine rd_need (d := d + 3) (KX := KX) dX8_parts_133 q586 (fI_b hf) rfl (fun x h q => Or.inr (rX_b (by decide) q)) (Nat.le_of_ble_eq_true rfl) v38.1 v38.2 (fun c => absurd c (by decide)) (fun _ => ?_)
          refine ew_aload_n dX8_parts_136 rfl lm0 ?_
          refine ew_aload_n dX8_parts_137 rfl lm0 ?_
          refine ew_iload dX8_parts_138 lm4 ?_
          refine ew_if_eq (tgt := 148) dX8_parts_140 (by decide) (fun _ => ?_) (fun c => False.elim (by revert c; decide))
          refine ew_bipush dX8_parts_148 (inI_of rfl) (by decide) ?_
          refine ew_callV (d := d + 7) (as := [aI 44]) rfl dX8_parts_150 me_X8_isSign rfl (ci := 6) rfl rfl rh_T (Or.inl q794) q796 qs18 (Nat.le_of_ble_eq_true rfl) (Nat.zero_le _) (Nat.zero_le _) (S_X8_isSign (d := d + 6) (rtp_b hT) H) (fun o h' hq42 _ => ?_) (fun E i h' q _ => (cQ_no q).elim)
          obtain ⟨r40, E43, rfl, H⟩ := hq42
          cases E43
          refine ew_iconst dX8_parts_153 (inI_of rfl) ?_
          obtain ⟨v45, H⟩ := H
          refine rd_need (d := d + 3) (KX := KX) dX8_parts_154 q586 (fI_b hf) rfl (fun x h q => Or.inr (rX_b (by decide) q)) (Nat.le_of_ble_eq_true rfl) v45.1 v45.2 H.1 (fun c52 => ?_)
          replace H := H.2 c52
          refine ew_aload_n dX8_parts_157 rfl lm0 ?_
          refine ew_callV (d := d + 7) (as := []) rfl dX8_parts_158 me_X8_go rfl (ci := 6) rfl rfl rh_T (Or.inl q447) q449 qs2 (Nat.le_of_ble_eq_true rfl) (Nat.zero_le _) (Nat.zero_le _) (S_X8_go (d := d + 3) (rtp_b hT) H) (fun o h' hq48 _ => ?_) (fun E i h' q _ => (nQv_no q).elim)
          obtain ⟨s47, E49, rfl, H⟩ := hq48
          cases E49
          obtain ⟨v51, H⟩ := H
          refine ew_iinc dX8_parts_161 lm3 (by decide) v51 (lv' := [(3, aI (x3 + 1)), (0, aR (some rT)), (1, aI x1), (2, aR (some (bI V 14 (m).toNat))), (4, aI 0)]) rfl ?_
          refine ew_sub (List.forall_mem_cons.mpr ⟨lm1, (List.forall_mem_cons.mpr ⟨lm2, (List.forall_mem_cons.mpr ⟨lm3, (List.forall_mem_cons.mpr ⟨lm0, (List.forall_mem_cons.mpr ⟨lm4, e_nm⟩)⟩)⟩)⟩)⟩) ?_
          refine ew_goto (tgt := 82) dX8_parts_164 (by decide) ?_
          exact ew_sub (List.forall_mem_cons.mpr ⟨lm0, (List.forall_mem_cons.mpr ⟨lm1, (List.forall_mem_cons.mpr ⟨lm2, (List.forall_mem_cons.mpr ⟨lm3, e_nm⟩)⟩)⟩)⟩) H
    · replace H := H.1 c9
      refine ew_iconst dX8_parts_101 (inI_of rfl) ?_
      refine ew_goto (tgt := 106) dX8_parts_102 (by decide) ?_
      refine ew_istore dX8_parts_106 (by decide) (lv' := [(4, aI 1), (0, aR (some rT)), (1, aI x1), (2, aR (some (bI V 14 (m).toNat))), (3, aI x3)]) rfl ?_
      refine ew_sub (List.forall_mem_cons.mpr ⟨lm1, (List.forall_mem_cons.mpr ⟨lm2, (List.forall_mem_cons.mpr ⟨lm3, (List.forall_mem_cons.mpr ⟨lm4, (List.forall_mem_cons.mpr ⟨lm0, e_nm⟩)⟩)⟩)⟩)⟩) ?_
      refine ew_aload_n dX8_parts_108 rfl lm0 ?_
      refine ew_aload_n dX8_parts_109 rfl lm0 ?_
      refine ew_bipush dX8_parts_110 (inI_of rfl) (by decide) ?_
      refine ew_callV (d := d + 7) (as := [aI 44]) rfl dX8_parts_112 me_X8_isSign rfl (ci := 6) rfl rfl rh_T (Or.inl q794) q796 qs18 (Nat.le_of_ble_eq_true rfl) (Nat.zero_le _) (Nat.zero_le _) (S_X8_isSign (d := d + 6) (rtp_b hT) H) (fun o h' hq55 _ => ?_) (fun E i h' q _ => (cQ_no q).elim)
      obtain ⟨r53, E56, rfl, H⟩ := hq55
      cases E56
      refine ew_if_ne (tgt := 127) dX8_parts_115 (by decide) (fun c58 => ?_) (fun c58 => ?_)
      · replace H := H.2 c58
        refine ew_iconst dX8_parts_127 (inI_of rfl) ?_
        refine ew_goto (tgt := 132) dX8_parts_128 (by decide) ?_
        refine ew_iconst dX8_parts_132 (inI_of rfl) ?_
        obtain ⟨v59, H⟩ := H
        refine rd_need (d := d + 3) (KX := KX) dX8_parts_133 q586 (fI_b hf) rfl (fun x h q => Or.inr (rX_b (by decide) q)) (Nat.le_of_ble_eq_true rfl) v59.1 v59.2 (fun c => absurd c (by decide)) (fun _ => ?_)
        refine ew_aload_n dX8_parts_136 rfl lm0 ?_
        refine ew_aload_n dX8_parts_137 rfl lm0 ?_
        refine ew_iload dX8_parts_138 lm4 ?_
        refine ew_if_eq (tgt := 148) dX8_parts_140 (by decide) (fun c => False.elim (by revert c; decide)) (fun _ => ?_)
        refine ew_bipush dX8_parts_143 (inI_of rfl) (by decide) ?_
        refine ew_goto (tgt := 150) dX8_parts_145 (by decide) ?_
        refine ew_callV (d := d + 7) (as := [aI 41]) rfl dX8_parts_150 me_X8_isSign rfl (ci := 6) rfl rfl rh_T (Or.inl q794) q796 qs18 (Nat.le_of_ble_eq_true rfl) (Nat.zero_le _) (Nat.zero_le _) (S_X8_isSign (d := d + 6) (rtp_b hT) H) (fun o h' hq63 _ => ?_) (fun E i h' q _ => (cQ_no q).elim)
        obtain ⟨r61, E64, rfl, H⟩ := hq63
        cases E64
        refine ew_iconst dX8_parts_153 (inI_of rfl) ?_
        obtain ⟨v66, H⟩ := H
        refine rd_need (d := d + 3) (KX := KX) dX8_parts_154 q586 (fI_b hf) rfl (fun x h q => Or.inr (rX_b (by decide) q)) (Nat.le_of_ble_eq_true rfl) v66.1 v66.2 H.1 (fun c73 => ?_)
        replace H := H.2 c73
        refine ew_aload_n dX8_parts_157 rfl lm0 ?_
        refine ew_callV (d := d + 7) (as := []) rfl dX8_parts_158 me_X8_go rfl (ci := 6) rfl rfl rh_T (Or.inl q447) q449 qs2 (Nat.le_of_ble_eq_true rfl) (Nat.zero_le _) (Nat.zero_le _) (S_X8_go (d := d + 3) (rtp_b hT) H) (fun o h' hq69 _ => ?_) (fun E i h' q _ => (nQv_no q).elim)
        obtain ⟨s68, E70, rfl, H⟩ := hq69
        cases E70
        obtain ⟨v72, H⟩ := H
        refine ew_iinc dX8_parts_161 lm3 (by decide) v72 (lv' := [(3, aI (x3 + 1)), (0, aR (some rT)), (1, aI x1), (2, aR (some (bI V 14 (m).toNat))), (4, aI 1)]) rfl ?_
        refine ew_sub (List.forall_mem_cons.mpr ⟨lm1, (List.forall_mem_cons.mpr ⟨lm2, (List.forall_mem_cons.mpr ⟨lm3, (List.forall_mem_cons.mpr ⟨lm0, (List.forall_mem_cons.mpr ⟨lm4, e_nm⟩)⟩)⟩)⟩)⟩) ?_
        refine ew_goto (tgt := 82) dX8_parts_164 (by decide) ?_
        exact ew_sub (List.forall_mem_cons.mpr ⟨lm0, (List.forall_mem_cons.mpr ⟨lm1, (List.forall_mem_cons.mpr ⟨lm2, (List.forall_mem_cons.mpr ⟨lm3, e_nm⟩)⟩)⟩)⟩) H
      · replace H := H.1 c58
        refine ew_aload_n dX8_parts_118 rfl lm0 ?_
        refine ew_bipush dX8_parts_119 (inI_of rfl) (by decide) ?_
        refine ew_callV (d := d + 7) (as := [aI 41]) rfl dX8_parts_121 me_X8_isSign rfl (ci := 6) rfl rfl rh_T (Or.inl q794) q796 qs18 (Nat.le_of_ble_eq_true rfl) (Nat.zero_le _) (Nat.zero_le _) (S_X8_isSign (d := d + 6) (rtp_b hT) H) (fun o h' hq76 _ => ?_) (fun E i h' q _ => (cQ_no q).elim)
        obtain ⟨r74, E77, rfl, H⟩ := hq76
        cases E77
        refine ew_if_eq (tgt := 131) dX8_parts_124 (by decide) (fun c79 => ?_) (fun c79 => ?_)
        · replace H := H.1 c79
          refine ew_iconst dX8_parts_131 (inI_of rfl) ?_
          refine ew_iconst dX8_parts_132 (inI_of rfl) ?_
          obtain ⟨v80, H⟩ := H
          exact rd_need (d := d + 3) (KX := KX) dX8_parts_133 q586 (fI_b hf) rfl (fun x h q => Or.inr (rX_b (by decide) q)) (Nat.le_of_ble_eq_true rfl) v80.1 v80.2 (fun _ => H) (fun c => absurd rfl c)
        · replace H := H.2 c79
          refine ew_iconst dX8_parts_127 (inI_of rfl) ?_
          refine ew_goto (tgt := 132) dX8_parts_128 (by decide) ?_
          refine ew_iconst dX8_parts_132 (inI_of rfl) ?_
          obtain ⟨v81, H⟩ := H
          refine rd_need (d := d + 3) (KX := KX) dX8_parts_133 q586 (fI_b hf) rfl (fun x h q => Or.inr (rX_b (by decide) q)) (Nat.le_of_ble_eq_true rfl) v81.1 v81.2 (fun c => absurd c (by decide)) (fun _ => ?_)
          refine ew_aload_n dX8_parts_136 rfl lm0 ?_
          refine ew_aload_n dX8_parts_137 rfl lm0 ?_
          refine ew_iload dX8_parts_138 lm4 ?_
          refine ew_if_eq (tgt := 148) dX8_parts_140 (by decide) (fun c => False.elim (by revert c; decide)) (fun _ => ?_)
          refine ew_bipush dX8_parts_143 (inI_of rfl) (by decide) ?_
          refine ew_goto (tgt := 150) dX8_parts_145 (by decide) ?_
          refine ew_callV (d := d + 7) (as := [aI 41]) rfl dX8_parts_150 me_X8_isSign rfl (ci := 6) rfl rfl rh_T (Or.inl q794) q796 qs18 (Nat.le_of_ble_eq_true rfl) (Nat.zero_le _) (Nat.zero_le _) (S_X8_isSign (d := d + 6) (rtp_b hT) H) (fun o h' hq85 _ => ?_) (fun E i h' q _ => (cQ_no q).elim)
          obtain ⟨r83, E86, rfl, H⟩ := hq85
          cases E86
          refine ew_iconst dX8_parts_153 (inI_of rfl) ?_
          obtain ⟨v88, H⟩ := H
          refine rd_need (d := d + 3) (KX := KX) dX8_parts_154 q586 (fI_b hf) rfl (fun x h q => Or.inr (rX_b (by decide) q)) (Nat.le_of_ble_eq_true rfl) v88.1 v88.2 H.1 (fun c95 => ?_)
          replace H := H.2 c95
          refine ew_aload_n dX8_parts_157 rfl lm0 ?_
          refine ew_callV (d := d + 7) (as := []) rfl dX8_parts_158 me_X8_go rfl (ci := 6) rfl rfl rh_T (Or.inl q447) q449 qs2 (Nat.le_of_ble_eq_true rfl) (Nat.zero_le _) (Nat.zero_le _) (S_X8_go (d := d + 3) (rtp_b hT) H) (fun o h' hq91 _ => ?_) (fun E i h' q _ => (nQv_no q).elim)
          obtain ⟨s90, E92, rfl, H⟩ := hq91
          cases E92
          obtain ⟨v94, H⟩ := H
          refine ew_iinc dX8_parts_161 lm3 (by decide) v94 (lv' := [(3, aI (x3 + 1)), (0, aR (some rT)), (1, aI x1), (2, aR (some (bI V 14 (m).toNat))), (4, aI 1)]) rfl ?_
          refine ew_sub (List.forall_mem_cons.mpr ⟨lm1, (List.forall_mem_cons.mpr ⟨lm2, (List.forall_mem_cons.mpr ⟨lm3, (List.forall_mem_cons.mpr ⟨lm0, (List.forall_mem_cons.mpr ⟨lm4, e_nm⟩)⟩)⟩)⟩)⟩) ?_
          refine ew_goto (tgt := 82) dX8_parts_164 (by decide) ?_
          exact ew_sub (List.forall_mem_cons.mpr ⟨lm0, (List.forall_mem_cons.mpr ⟨lm1, (List.forall_mem_cons.mpr ⟨lm2, (List.forall_mem_cons.mpr ⟨lm3, e_nm⟩)⟩)⟩)⟩) H
set_option maxHeartbeats 4000000 in
theorem T_X8_parts_E (d : Nat) (V : XV) (g : AH) (tp : Int → Int) (m n : Int) (hT : rtp tp g) (hf : g fI = none) (hp : g (bI V 14 (m).toNat) = none) (K : (Int → Int) → MS → Prop) (KX : Int → Int → Prop) (kc ks : Nat) (s0 : MS) (H : B_X8_parts_E (W_X8_parts_82 d V g tp m n K KX) K KX kc ks tp m n s0) : EW mm_X8_parts (d + 8) kc ks (rQp V g (bI V 14 (m).toNat) (n).toNat K KX) 0 [(0, aR (some rT)), (1, aI n)] [] (rh V s0 g) := by
  refine ew_iload_n dX8_parts_0 rfl lm1 ?_
  obtain ⟨v1, H⟩ := H
  refine bk_newP bkH_r dX8_parts_1 (bn_14 (Int.toNat_le_toNat v1.1)) hp v1.2.1 v1.2.2.1 v1.2.2.2 ?_
  refine ew_astore_n dX8_parts_3 rfl (by decide) (lv' := [(2, aR (some (bI V 14 (m).toNat))), (0, aR (some rT)), (1, aI n)]) rfl ?_
  refine ew_sub (List.forall_mem_cons.mpr ⟨lm1, (List.forall_mem_cons.mpr ⟨lm2, (List.forall_mem_cons.mpr ⟨lm0, e_nm⟩)⟩)⟩) ?_
  refine ew_iload_n dX8_parts_4 rfl lm1 ?_
  refine ew_if_ne (tgt := 29) dX8_parts_5 (by decide) (fun c2 => ?_) (fun c2 => ?_)
  · replace H := H.2 c2
    refine ew_aload_n dX8_parts_29 rfl lm0 ?_
    refine ew_aload_n dX8_parts_30 rfl lm0 ?_
    refine ew_bipush dX8_parts_31 (inI_of rfl) (by decide) ?_
    refine ew_callV (d := d + 7) (as := [aI 40]) rfl dX8_parts_33 me_X8_isSign rfl (ci := 6) rfl rfl rh_T (Or.inl q794) q796 qs18 (Nat.le_of_ble_eq_true rfl) (Nat.zero_le _) (Nat.zero_le _) (S_X8_isSign (d := d + 6) (rtp_b hT) H) (fun o h' hq5 _ => ?_) (fun E i h' q _ => (cQ_no q).elim)
    obtain ⟨r3, E6, rfl, H⟩ := hq5
    cases E6
    refine ew_if_ne (tgt := 56) dX8_parts_36 (by decide) (fun c8 => ?_) (fun c8 => ?_)
    · replace H := H.2 c8
      refine ew_iconst dX8_parts_56 (inI_of rfl) ?_
      refine ew_goto (tgt := 61) dX8_parts_57 (by decide) ?_
      refine ew_iconst dX8_parts_61 (inI_of rfl) ?_
      obtain ⟨v9, H⟩ := H
      refine rd_need (d := d + 3) (KX := KX) dX8_parts_62 q586 (fI_b hf) rfl (fun x h q => Or.inr (rX_b (by decide) q)) (Nat.le_of_ble_eq_true rfl) v9.1 v9.2 (fun c => absurd c (by decide)) (fun _ => ?_)
      refine ew_aload_n dX8_parts_65 rfl lm0 ?_
      refine ew_aload_n dX8_parts_66 rfl lm0 ?_
      refine ew_bipush dX8_parts_67 (inI_of rfl) (by decide) ?_
      refine ew_callV (d := d + 7) (as := [aI 40]) rfl dX8_parts_69 me_X8_isSign rfl (ci := 6) rfl rfl rh_T (Or.inl q794) q796 qs18 (Nat.le_of_ble_eq_true rfl) (Nat.zero_le _) (Nat.zero_le _) (S_X8_isSign (d := d + 6) (rtp_b hT) H) (fun o h' hq12 _ => ?_) (fun E i h' q _ => (cQ_no q).elim)
      obtain ⟨r10, E13, rfl, H⟩ := hq12
      cases E13
      refine ew_iconst dX8_parts_72 (inI_of rfl) ?_
      obtain ⟨v15, H⟩ := H
      refine rd_need (d := d + 3) (KX := KX) dX8_parts_73 q586 (fI_b hf) rfl (fun x h q => Or.inr (rX_b (by decide) q)) (Nat.le_of_ble_eq_true rfl) v15.1 v15.2 H.1 (fun c21 => ?_)
      replace H := H.2 c21
      refine ew_aload_n dX8_parts_76 rfl lm0 ?_
      refine ew_callV (d := d + 7) (as := []) rfl dX8_parts_77 me_X8_go rfl (ci := 6) rfl rfl rh_T (Or.inl q447) q449 qs2 (Nat.le_of_ble_eq_true rfl) (Nat.zero_le _) (Nat.zero_le _) (S_X8_go (d := d + 3) (rtp_b hT) H) (fun o h' hq18 _ => ?_) (fun E i h' q _ => (nQv_no q).elim)
      obtain ⟨s17, E19, rfl, H⟩ := hq18
      cases E19
      refine ew_iconst dX8_parts_80 (inI_of rfl) ?_
      refine ew_istore_n dX8_parts_81 rfl (by decide) (lv' := [(3, aI 0), (0, aR (some rT)), (1, aI n), (2, aR (some (bI V 14 (m).toNat)))]) rfl ?_
      refine ew_sub (List.forall_mem_cons.mpr ⟨lm1, (List.forall_mem_cons.mpr ⟨lm2, (List.forall_mem_cons.mpr ⟨lm3, (List.forall_mem_cons.mpr ⟨lm0, e_nm⟩)⟩)⟩)⟩) ?_
      exact ew_sub (List.forall_mem_cons.mpr ⟨lm0, (List.forall_mem_cons.mpr ⟨lm1, (List.forall_mem_cons.mpr ⟨lm2, (List.forall_mem_cons.mpr ⟨lm3, e_nm⟩)⟩)⟩)⟩) H
    · replace H := H.1 c8
      refine ew_aload_n dX8_parts_39 rfl lm0 ?_
      refine ew_bipush dX8_parts_40 (inI_of rfl) (by decide) ?_
      refine ew_callV (d := d + 7) (as := [aI 59]) rfl dX8_parts_42 me_X8_isSign rfl (ci := 6) rfl rfl rh_T (Or.inl q794) q796 qs18 (Nat.le_of_ble_eq_true rfl) (Nat.zero_le _) (Nat.zero_le _) (S_X8_isSign (d := d + 6) (rtp_b hT) H) (fun o h' hq24 _ => ?_) (fun E i h' q _ => (cQ_no q).elim)
      obtain ⟨r22, E25, rfl, H⟩ := hq24
      cases E25
      refine ew_if_ne (tgt := 56) dX8_parts_45 (by decide) (fun c27 => ?_) (fun c27 => ?_)
      · replace H := H.2 c27
        refine ew_iconst dX8_parts_56 (inI_of rfl) ?_
        refine ew_goto (tgt := 61) dX8_parts_57 (by decide) ?_
        refine ew_iconst dX8_parts_61 (inI_of rfl) ?_
        obtain ⟨v28, H⟩ := H
        refine rd_need (d := d + 3) (KX := KX) dX8_parts_62 q586 (fI_b hf) rfl (fun x h q => Or.inr (rX_b (by decide) q)) (Nat.le_of_ble_eq_true rfl) v28.1 v28.2 (fun c => absurd c (by decide)) (fun _ => ?_)
        refine ew_aload_n dX8_parts_65 rfl lm0 ?_
        refine ew_aload_n dX8_parts_66 rfl lm0 ?_
        refine ew_bipush dX8_parts_67 (inI_of rfl) (by decide) ?_
        refine ew_callV (d := d + 7) (as := [aI 40]) rfl dX8_parts_69 me_X8_isSign rfl (ci := 6) rfl rfl rh_T (Or.inl q794) q796 qs18 (Nat.le_of_ble_eq_true rfl) (Nat.zero_le _) (Nat.zero_le _) (S_X8_isSign (d := d + 6) (rtp_b hT) H) (fun o h' hq31 _ => ?_) (fun E i h' q _ => (cQ_no q).elim)
        obtain ⟨r29, E32, rfl, H⟩ := hq31
        cases E32
        refine ew_iconst dX8_parts_72 (inI_of rfl) ?_
        obtain ⟨v34, H⟩ := H
        refine rd_need (d := d + 3) (KX := KX) dX8_parts_73 q586 (fI_b hf) rfl (fun x h q => Or.inr (rX_b (by decide) q)) (Nat.le_of_ble_eq_true rfl) v34.1 v34.2 H.1 (fun c40 => ?_)
        replace H := H.2 c40
        refine ew_aload_n dX8_parts_76 rfl lm0 ?_
        refine ew_callV (d := d + 7) (as := []) rfl dX8_parts_77 me_X8_go rfl (ci := 6) rfl rfl rh_T (Or.inl q447) q449 qs2 (Nat.le_of_ble_eq_true rfl) (Nat.zero_le _) (Nat.zero_le _) (S_X8_go (d := d + 3) (rtp_b hT) H) (fun o h' hq37 _ => ?_) (fun E i h' q _ => (nQv_no q).elim)
        obtain ⟨s36, E38, rfl, H⟩ := hq37
        cases E38
        refine ew_iconst dX8_parts_80 (inI_of rfl) ?_
        refine ew_istore_n dX8_parts_81 rfl (by decide) (lv' := [(3, aI 0), (0, aR (some rT)), (1, aI n), (2, aR (some (bI V 14 (m).toNat)))]) rfl ?_
        refine ew_sub (List.forall_mem_cons.mpr ⟨lm1, (List.forall_mem_cons.mpr ⟨lm2, (List.forall_mem_cons.mpr ⟨lm3, (List.forall_mem_cons.mpr ⟨lm0, e_nm⟩)⟩)⟩)⟩) ?_
        exact ew_sub (List.forall_mem_cons.mpr ⟨lm0, (List.forall_mem_cons.mpr ⟨lm1, (List.forall_mem_cons.mpr ⟨lm2, (List.forall_mem_cons.mpr ⟨lm3, e_nm⟩)⟩)⟩)⟩) H
      · replace H := H.1 c27
        refine ew_aload_n dX8_parts_48 rfl lm0 ?_
        refine rd_get (v := aI (s0.1 4)) dX8_parts_49 (e_fl.a q422) rf_4 rfl ?_
        refine ew_iconst dX8_parts_52 (inI_of rfl) ?_
        refine ew_icmp_ne (tgt := 60) dX8_parts_53 (by decide) (fun c41 => ?_) (fun c41 => ?_)
        · replace H := H.2 c41
          refine ew_iconst dX8_parts_60 (inI_of rfl) ?_
          refine ew_iconst dX8_parts_61 (inI_of rfl) ?_
          obtain ⟨v42, H⟩ := H
          exact rd_need (d := d + 3) (KX := KX) dX8_parts_62 q586 (fI_b hf) rfl (fun x h q => Or.inr (rX_b (by decide) q)) (Nat.le_of_ble_eq_true rfl) v42.1 v42.2 (fun _ => H) (fun c => absurd rfl c)
        · replace H := H.1 c41
          refine ew_iconst dX8_parts_56 (inI_of rfl) ?_
          refine ew_goto (tgt := 61) dX8_parts_57 (by decide) ?_
          refine ew_iconst dX8_parts_61 (inI_of rfl) ?_
          obtain ⟨v43, H⟩ := H
          refine rd_need (d := d + 3) (KX := KX) dX8_parts_62 q586 (fI_b hf) rfl (fun x h q => Or.inr (rX_b (by decide) q)) (Nat.le_of_ble_eq_true rfl) v43.1 v43.2 (fun c => absurd c (by decide)) (fun _ => ?_)
          refine ew_aload_n dX8_parts_65 rfl lm0 ?_
          refine ew_aload_n dX8_parts_66 rfl lm0 ?_
          refine ew_bipush dX8_parts_67 (inI_of rfl) (by decide) ?_
          refine ew_callV (d := d + 7) (as := [aI 40]) rfl dX8_parts_69 me_X8_isSign rfl (ci := 6) rfl rfl rh_T (Or.inl q794) q796 qs18 (Nat.le_of_ble_eq_true rfl) (Nat.zero_le _) (Nat.zero_le _) (S_X8_isSign (d := d + 6) (rtp_b hT) H) (fun o h' hq46 _ => ?_) (fun E i h' q _ => (cQ_no q).elim)
          obtain ⟨r44, E47, rfl, H⟩ := hq46
          cases E47
          refine ew_iconst dX8_parts_72 (inI_of rfl) ?_
          obtain ⟨v49, H⟩ := H
          refine rd_need (d := d + 3) (KX := KX) dX8_parts_73 q586 (fI_b hf) rfl (fun x h q => Or.inr (rX_b (by decide) q)) (Nat.le_of_ble_eq_true rfl) v49.1 v49.2 H.1 (fun c55 => ?_)
          replace H := H.2 c55
          refine ew_aload_n dX8_parts_76 rfl lm0 ?_
          refine ew_callV (d := d + 7) (as := []) rfl dX8_parts_77 me_X8_go rfl (ci := 6) rfl rfl rh_T (Or.inl q447) q449 qs2 (Nat.le_of_ble_eq_true rfl) (Nat.zero_le _) (Nat.zero_le _) (S_X8_go (d := d + 3) (rtp_b hT) H) (fun o h' hq52 _ => ?_) (fun E i h' q _ => (nQv_no q).elim)
          obtain ⟨s51, E53, rfl, H⟩ := hq52
          cases E53
          refine ew_iconst dX8_parts_80 (inI_of rfl) ?_
          refine ew_istore_n dX8_parts_81 rfl (by decide) (lv' := [(3, aI 0), (0, aR (some rT)), (1, aI n), (2, aR (some (bI V 14 (m).toNat)))]) rfl ?_
          refine ew_sub (List.forall_mem_cons.mpr ⟨lm1, (List.forall_mem_cons.mpr ⟨lm2, (List.forall_mem_cons.mpr ⟨lm3, (List.forall_mem_cons.mpr ⟨lm0, e_nm⟩)⟩)⟩)⟩) ?_
          exact ew_sub (List.forall_mem_cons.mpr ⟨lm0, (List.forall_mem_cons.mpr ⟨lm1, (List.forall_mem_cons.mpr ⟨lm2, (List.forall_mem_cons.mpr ⟨lm3, e_nm⟩)⟩)⟩)⟩) H
  · replace H := H.1 c2
    refine ew_aload_n dX8_parts_8 rfl lm0 ?_
    refine ew_aload_n dX8_parts_9 rfl lm0 ?_
    refine ew_bipush dX8_parts_10 (inI_of rfl) (by decide) ?_
    refine ew_callV (d := d + 7) (as := [aI 40]) rfl dX8_parts_12 me_X8_isSign rfl (ci := 6) rfl rfl rh_T (Or.inl q794) q796 qs18 (Nat.le_of_ble_eq_true rfl) (Nat.zero_le _) (Nat.zero_le _) (S_X8_isSign (d := d + 6) (rtp_b hT) H) (fun o h' hq58 _ => ?_) (fun E i h' q _ => (cQ_no q).elim)
    obtain ⟨r56, E59, rfl, H⟩ := hq58
    cases E59
    refine ew_if_ne (tgt := 22) dX8_parts_15 (by decide) (fun c61 => ?_) (fun c61 => ?_)
    · replace H := H.2 c61
      refine ew_iconst dX8_parts_22 (inI_of rfl) ?_
      refine ew_iconst dX8_parts_23 (inI_of rfl) ?_
      obtain ⟨v62, H⟩ := H
      exact rd_need (d := d + 3) (KX := KX) dX8_parts_24 q586 (fI_b hf) rfl (fun x h q => Or.inr (rX_b (by decide) q)) (Nat.le_of_ble_eq_true rfl) v62.1 v62.2 (fun _ => H) (fun c => absurd rfl c)
    · replace H := H.1 c61
      refine ew_iconst dX8_parts_18 (inI_of rfl) ?_
      refine ew_goto (tgt := 23) dX8_parts_19 (by decide) ?_
      refine ew_iconst dX8_parts_23 (inI_of rfl) ?_
      obtain ⟨v63, H⟩ := H
      refine rd_need (d := d + 3) (KX := KX) dX8_parts_24 q586 (fI_b hf) rfl (fun x h q => Or.inr (rX_b (by decide) q)) (Nat.le_of_ble_eq_true rfl) v63.1 v63.2 (fun c => absurd c (by decide)) (fun _ => ?_)
      refine ew_aload_n dX8_parts_27 rfl lm2 ?_
      exact ew_ret (o := some (aR (some (bI V 14 (m).toNat)))) rfl (Or.inl ⟨_, _, rfl, rfl, H⟩) ⟨dX8_parts_28, _, rfl, Or.inr ⟨_, rfl⟩⟩
def C_X8_parts (kc ks : Nat) (tp : Int → Int) (m n : Int) (s0 : MS) (K : (Int → Int) → MS → Prop) (KX : Int → Int → Prop) : Prop := ∀ (X82 : Int → (Int → Int) → Int → Nat → Nat → MS → Prop), (∀ (x1 : Int) (x2 : (Int → Int)) (x3 : Int) (kc ks : Nat) (s0 : MS), B_X8_parts_82 X82 K KX x1 x2 x3 kc ks tp m n s0 → X82 x1 x2 x3 kc ks s0) → B_X8_parts_E X82 K KX kc ks tp m n s0
theorem S_X8_parts {d : Nat} {V : XV} {g : AH} {tp : Int → Int} {m n : Int} {K : (Int → Int) → MS → Prop} {KX : Int → Int → Prop} {kc ks : Nat} {s0 : MS} (hT : rtp tp g) (hf : g fI = none) (hp : g (bI V 14 (m).toNat) = none) (H : C_X8_parts kc ks tp m n s0 K KX) : Sp mm_X8_parts (d + 8) kc ks [aR (some rT), aI n] (rh V s0 g) (rQp V g (bI V 14 (m).toNat) (n).toNat K KX) :=
  ew_sp rfl (Nat.le_of_ble_eq_true rfl) (T_X8_parts_E d V g tp m n hT hf hp K KX kc ks s0 (H _ (fun x1 x2 x3 kc ks s0 H => T_X8_parts_82 d V g tp m n hT hf hp K KX x1 x2 x3 kc ks s0 H)))
