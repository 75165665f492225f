/-! THE LAW'S WALK: named's wrapper, case 35, the objects' making, the loop (gen/glaw2.py) -/
set_option maxRecDepth 100000
theorem bmul {k b c : Nat} (h : (k + 1) * b ≤ c) : k * b ≤ c - b ∧ b ≤ c := by
  rw [Nat.succ_mul] at h
  omega
theorem bsub2 {a b c : Nat} (h : b ≤ a) : c - a ≤ c - b - 0 - 0 := by omega
theorem ex_catch8 {M : EM} {d kc ks : Nat} {Q : AO → AH → Prop} {pc a b hp ct i : Nat} {lv : List (Nat × AV)} {h : AH} {E name : String} {j : Fin 4} (htb : M.2.2.2.2 = [(a, b, hp, ct)]) (hcov : (tableOf [(a, b, hp, ct)]).all (fun x => covers x pc) = true) (h0 : ct ≠ 0) (w1 : Cond.classLink M.1.cls ct name ∈ lw_all) (w2 : Cond.castable E name ∈ lw_tbl)
    (hd : decode M.2.1 hp = .ok (.astore_n j, 1)) (hj : (j : Nat) = i) (hn : i < M.2.2.1) (k : EW M d kc ks Q (hp + 1) (e_flt i lv) [] h) : EX M d kc ks Q pc lv h E (8, 0, 0) := by
  intro D p l e R s m args below meth c Z A ad0 h0' G EZ H locs cells slots ad ls rest q ce I hin hce hcv hcl
  have ht := G.1.2.2.2.2.2.2.2.1
  rw [htb] at ht
  refine vx_catch (own := M.1.cls) (name := name) G.1.2.2.2.2.2.1 [] _ [] ht (fun z hz => by cases hz) (List.all_eq_true.mp hcov _ List.mem_cons_self) h0 (G.2.1.1 _ w1) (G.2.1.2.1.use w2 rfl) hce hcv hcl ?_
  refine lv_astore_n G.1.1 G.1.2.1 hd hj I.2.1.2 hn rfl (fun ls' hl'' => ?_)
  refine k D p l e R s m args below meth c Z A ad0 h0' G EZ H locs cells slots ad ls' ⟨I.1, ⟨e_flt_ok I.2.1.1, hl''.1, hl''.2.1, fun z hz => hl''.2.2 z (List.mem_cons_of_mem _ ?_)⟩, I.2.2⟩ (fun v hv => by cases hv)
  rw [e_flt_map]
  exact hz
abbrev mm_X0_named : EM := (yX0_named, cX0_named, 4, (Option.some .int), [(0, 9, 12, 13)])
theorem me_X0_named : e_mthW mm_X0_named 3 (0, 9, 12, 13) [] := ⟨rfl, q1391, q107, ⟨by decide, by decide, by decide +kernel⟩, by decide⟩
def nmQ (V : XV) (s : XS) (g : AH) (o : Int → Int) (K : Int → Prop) (KX : Prop) : AO → AH → Prop := fun o9 h' => (∃ r, o9 = Sum.inl (some (aI 0)) ∧ h' = xh V s (hup g oT (kL 1 (iup o 0 r))) ∧ K r) ∨ (o9 = Sum.inl (some (aI 1)) ∧ h' = xh V s g ∧ KX)
theorem S_X0_named {d : Nat} {V : XV} {g : AH} {o : Int → Int} {K : Int → Prop} {KX : Prop} {a : Int} {s : XS} (ho : g oT = some (kL 1 o)) (H : C_X1_named a s K KX) : Sp mm_X0_named (d + 7) 1 6 [aR (some xT), aI a, aR (some oT)] (xh V s g) (nmQ V s g o K KX) := by
  have ho' : xh V s g oT = some (kL 1 o) := (xh_g (xC_low (by decide) (by decide))).trans ho
  refine ew_sp rfl (Nat.le_of_ble_eq_true rfl) ?_
  refine ew_aload_n dX0_named_0 rfl lm2 ?_
  refine ew_iconst dX0_named_1 (inI_of rfl) ?_
  refine ew_aload_n dX0_named_2 rfl lm0 ?_
  refine ew_iload_n dX0_named_3 rfl lm1 ?_
  refine ew_callV (d := d + 6) (as := [aI a]) rfl dX0_named_4 me_X1_named rfl (ci := 0) rfl rfl xh_x (Or.inl q1393) q1394 q1395 (Nat.le_of_ble_eq_true rfl) (Nat.le_refl _) (Nat.le_refl _) (S_X1_named (d := d) H) (fun o9 h' hq _ => ?_) (fun E i h' hq _ => ?_)
  · rcases hq with ⟨r, E1, rfl, H⟩ | ⟨E1, -⟩
    · cases E1
      refine ew_i2l dX0_named_7 ?_
      refine ew_last dX0_named_8 ho' (by decide) (by decide) ?_
      rw [xh_upg (xC_low (by decide) (by decide))]
      refine ew_goto (tgt := 15) dX0_named_9 (by decide) ?_
      refine ew_iconst dX0_named_15 (inI_of rfl) ?_
      exact ew_ret (o := some (aI 0)) rfl (Or.inl ⟨r, rfl, rfl, H⟩) ⟨dX0_named_16, .int, rfl, Or.inl rfl, rfl⟩
    · cases E1
  · rcases hq with ⟨r, E1, -⟩ | ⟨E1, rfl, H⟩
    · cases E1
    · obtain ⟨rfl, rfl⟩ : E = nse ∧ i = (8, 0, 0) := by
        injection E1 with e
        exact ⟨congrArg Prod.fst e, congrArg Prod.snd e⟩
      refine ex_catch8 (a := 0) (b := 9) (hp := 12) (ct := 13) rfl (by decide) (by decide) q1392 q926 dX0_named_12 rfl (by decide) ?_
      refine ew_iconst dX0_named_13 (inI_of rfl) ?_
      exact ew_ret (o := some (aI 1)) rfl (Or.inr ⟨rfl, rfl, H⟩) ⟨dX0_named_14, .int, rfl, Or.inl rfl, rfl⟩
theorem LH.upO {V : XV} {N : Nat} {m : MS} {g : AH} {o : Int → Int} (h : LH V N m g) : LH V N m (hup g oT (kL 1 o)) := by
  obtain ⟨⟨h1, h2, h3, h4⟩, h5, -⟩ := h
  have hne : ∀ i : EId, i.1 ≠ 4 → hup g oT (kL 1 o) i = g i := fun i hi => hup_ne (fun e => hi (by rw [e]))
  refine ⟨⟨fun i hi => ?_, h2, fun i hi => ?_, fun i hi => ?_⟩, fun k => ?_, o, hup_self _ _ _⟩
  · exact (hne i (fun q => by unfold xreg at hi; omega)).trans (h1 i hi)
  · exact (hne i (fun q => by omega)).trans (h3 i hi)
  · exact (hne i (fun q => by omega)).trans (h4 i hi)
  · exact (hne _ (by show (0 : Nat) ≠ 4; decide)).trans (h5 k)
theorem L_case_35 {Q : AO → AH → Prop} {V : XV} {N n kc ks : Nat} {s : XS} {m : MS} {g : AH} {p : Int} {f : Int → Int} {KN : XS → MS → Prop} (hS : scr Q n f) (hL : LH V N m g) (hp : 0 ≤ p ∧ p + 6 ≤ n) (hn : n ≤ 144) (b1 : BC ≤ kc) (b2 : BS ≤ ks) (H : C_law_35 (fun k => f (p + k)) s m KN) (kk : goesOn Q kc ks p KN) : EW mm_law 90 kc ks Q 1443 (lvL p) [] (xh V s g) := by
  obtain ⟨o, ho⟩ := hL.2.2
  have H : C_X1_named (f (p + 1)) s (fun r => C_named (f (p + 1)) m (fun r' m' => C_thrown m' (fun t m2 => t = 0 ∧ r = r' ∧ KN s m2))) (C_named (f (p + 1)) m (fun r' m' => C_thrown m' (fun t m2 => t = 1 ∧ KN s m2))) := H
  refine ew_aload_n dL_law_1443 rfl lm1 ?_
  refine ew_aload_n dL_law_1444 rfl lm0 ?_
  refine ew_iload dL_law_1445 lm4 ?_
  refine ew_iconst dL_law_1447 (inI_of rfl) ?_
  refine ew_iadd dL_law_1448 ⟨by omega, by omega⟩ ?_
  refine ew_sld rfl hS dL_law_1449 (by omega) (by omega) ?_
  refine ew_aload_n dL_law_1450 rfl lm3 ?_
  refine ew_callSX (d := 89) (as := [aR (some xT), aI (f (p + 1)), aR (some oT)]) rfl dL_law_1451 me_X0_named rfl q1389 q1390 (Nat.le_of_ble_eq_true rfl) (Nat.le_trans (by decide) b1) (Nat.le_trans (by decide) b2) (S_X0_named (d := 82) ho H) (fun o9 h' hq _ => ?_) (fun E i h' q _ => by rcases q with ⟨r, e, -⟩ | ⟨e, -⟩ <;> cases e)
  have tail : ∀ (g2 : AH) (x : Int) (K2 : Int → Prop), LH V N m g2 → C_named (f (p + 1)) m (fun r' m' => C_thrown m' (fun t m2 => t = x ∧ K2 r' ∧ KN s m2)) → (x = 0 ∨ x = 1) → (x = 0 → ∃ o r, g2 oT = some (kL 1 o) ∧ o 0 = r ∧ ∀ r', K2 r' → r = r') → EW mm_law 90 (kc - 1) (ks - 6) Q 1454 (lvL p) [aI x] (xh V s g2) := by
    intro g2 x K2 hL2 H hx hr
    refine ew_istore dL_law_1454 (by decide) (lv' := (5, aI x) :: lvL p) rfl ?_
    refine ew_aload_n dL_law_1456 rfl lm3 ?_
    refine ew_aload_n dL_law_1457 rfl lm1 ?_
    refine ew_iload dL_law_1458 lm5 ?_
    refine ew_iconst dL_law_1460 (inI_of rfl) ?_
    refine ew_iadd dL_law_1461 ⟨by omega, by omega⟩ ?_
    refine ew_sld rfl hS dL_law_1462 (by omega) (by omega) ?_
    rw [swapX (s := s) hL2]
    refine ew_callV (d := 89) (as := [aI (f (p + 1))]) rfl dL_law_1463 me_named rfl (ci := 1) rfl rfl (mh_o _ _) (Or.inl q1950) q1951 q1952 (Nat.le_of_ble_eq_true rfl) (Nat.zero_le _) (Nat.zero_le _) (S_named (d := 88) H) (fun o h' hq _ => ?_) (fun E i h' q _ => (mQi_no q).elim)
    obtain ⟨n2, m', E2, rfl, H⟩ := hq
    cases E2
    refine ew_istore dL_law_1466 (by decide) (lv' := (6, aI n2) :: (5, aI x) :: lvL p) rfl ?_
    refine ew_aload_n dL_law_1468 rfl lm4 ?_
    refine ew_callV (d := 89) (as := []) rfl dL_law_1469 me_thrown rfl (ci := 1) rfl rfl (mh_o _ _) (Or.inl q1575) q1576 q1577 (Nat.le_of_ble_eq_true rfl) (Nat.zero_le _) (Nat.zero_le _) (S_thrown (d := 89) H) (fun o h' hq _ => ?_) (fun E i h' q _ => (mQi_no q).elim)
    obtain ⟨n3, m2, E3, rfl, e3, hK, HK⟩ := hq
    cases E3
    subst e3
    rw [← xh_mh]
    refine ew_iload dL_law_1472 lm1 ?_
    refine ew_icmp_eq (tgt := 1479) dL_law_1474 (by decide) (fun _ => ?_) (fun c9 => absurd rfl c9)
    refine ew_iload dL_law_1479 lm1 ?_
    have fin : EW mm_law 90 (kc - 1 - 0 - 0) (ks - 6 - 0 - 0) Q 1496 ((6, aI n2) :: (5, aI n3) :: lvL p) [] (xh V s (mh m2 g2)) := by
      refine ew_goto (tgt := 1525) dL_law_1496 (by decide) ?_
      refine ew_sub (fun q hq => List.mem_cons_of_mem _ (List.mem_cons_of_mem _ hq)) ?_
      exact ew_room (Nat.le_refl _) (bsub2 (by decide)) (bsub2 (by decide)) (kk _ _ _ _ _ hL2.upM HK)
    refine ew_if_ne (tgt := 1496) dL_law_1481 (by decide) (fun _ => fin) (fun c0 => ?_)
    obtain ⟨o, r, ho, hr0, hrr⟩ := hr c0
    refine ew_aload_n dL_law_1484 rfl lm5 ?_
    refine ew_iconst dL_law_1485 (inI_of rfl) ?_
    refine ew_lald (i := oT) (n := 1) (f := o) dL_law_1486 ((xh_g (xC_low (by decide) (by decide))).trans ho) (by decide) (by decide) ?_
    refine ew_iload dL_law_1487 lm0 ?_
    refine ew_i2l dL_law_1489 ?_
    refine ew_lcmp dL_law_1490 ?_
    rw [hr0, hrr _ hK, show jlcmp n2 n2 = 0 by unfold jlcmp; rw [if_neg (by omega), if_pos rfl]]
    exact ew_if_eq (tgt := 1496) dL_law_1491 (by decide) (fun _ => fin) (fun c9 => absurd rfl c9)
  rcases hq with ⟨r, E1, rfl, H⟩ | ⟨E1, rfl, H⟩
  · cases E1
    exact tail _ 0 (fun r' => r = r') hL.upO H (Or.inl rfl) (fun _ => ⟨_, r, hup_self _ _ _, by unfold iup; rw [if_pos rfl], fun r' h => h⟩)
  · cases E1
    exact tail _ 1 (fun _ => True) hL (by simpa only [true_and] using H) (Or.inr rfl) (fun q => by cases q)
/-- one step of the loop -/
theorem L_step {Q : AO → AH → Prop} {V : XV} {N n kc ks : Nat} {s : XS} {m : MS} {g : AH} {p : Int} {f : Int → Int} {KN : XS → MS → Prop} (hS : scr Q n f) (hL : LH V N m g) (hp : 0 ≤ p ∧ p + 6 ≤ n) (hn : n ≤ 144) (b1 : BC ≤ kc) (b2 : BS ≤ ks) (H : C_law (jand (f p) 63) (fun k => f (p + k)) s m KN) (H0 : (∀ c : Nat, c < 38 → jand (f p) 63 ≠ c) → KN s m) (kk : goesOn Q kc ks p KN) : EW mm_law 90 kc ks Q 33 (lvL p) [] (xh V s g) := by
  refine ew_aload_n dL_law_33 rfl lm0 ?_
  refine ew_iload dL_law_34 lm4 ?_
  refine ew_sld rfl hS dL_law_36 (by omega) (by omega) ?_
  refine ew_bipush dL_law_37 (inI_of rfl) (by decide) ?_
  refine ew_iand dL_law_39 ?_
  generalize jand (f p) 63 = x at H H0
  by_cases c0 : x = 0
  · subst c0
    exact ew_tableIn dL_law_40 (by decide) (by decide) (off := 168) rfl (by decide) (L_case_0 hS hL hp hn b1 b2 (H.1 rfl) kk)
  by_cases c1 : x = 1
  · subst c1
    exact ew_tableIn dL_law_40 (by decide) (by decide) (off := 241) rfl (by decide) (L_case_1 hS hL hp hn b1 b2 (H.2.1 rfl) kk)
  by_cases c2 : x = 2
  · subst c2
    exact ew_tableIn dL_law_40 (by decide) (by decide) (off := 266) rfl (by decide) (L_case_2 hS hL hp hn b1 b2 (H.2.2.1 rfl) kk)
  by_cases c3 : x = 3
  · subst c3
    exact ew_tableIn dL_law_40 (by decide) (by decide) (off := 279) rfl (by decide) (L_case_3 hS hL hp hn b1 b2 (H.2.2.2.1 rfl) kk)
  by_cases c4 : x = 4
  · subst c4
    exact ew_tableIn dL_law_40 (by decide) (by decide) (off := 292) rfl (by decide) (L_case_4 hS hL hp hn b1 b2 (H.2.2.2.2.1 rfl) kk)
  by_cases c5 : x = 5
  · subst c5
    exact ew_tableIn dL_law_40 (by decide) (by decide) (off := 317) rfl (by decide) (L_case_5 hS hL hp hn b1 b2 (H.2.2.2.2.2.1 rfl) kk)
  by_cases c6 : x = 6
  · subst c6
    exact ew_tableIn dL_law_40 (by decide) (by decide) (off := 354) rfl (by decide) (L_case_6 hS hL hp hn b1 b2 (H.2.2.2.2.2.2.1 rfl) kk)
  by_cases c7 : x = 7
  · subst c7
    exact ew_tableIn dL_law_40 (by decide) (by decide) (off := 391) rfl (by decide) (L_case_7 hS hL hp hn b1 b2 (H.2.2.2.2.2.2.2.1 rfl) kk)
  by_cases c8 : x = 8
  · subst c8
    exact ew_tableIn dL_law_40 (by decide) (by decide) (off := 428) rfl (by decide) (L_case_8 hS hL hp hn b1 b2 (H.2.2.2.2.2.2.2.2.1 rfl) kk)
  by_cases c9 : x = 9
  · subst c9
    exact ew_tableIn dL_law_40 (by decide) (by decide) (off := 465) rfl (by decide) (L_case_9 hS hL hp hn b1 b2 (H.2.2.2.2.2.2.2.2.2.1 rfl) kk)
  by_cases c10 : x = 10
  · subst c10
    exact ew_tableIn dL_law_40 (by decide) (by decide) (off := 502) rfl (by decide) (L_case_10 hS hL hp hn b1 b2 (H.2.2.2.2.2.2.2.2.2.2.1 rfl) kk)
  by_cases c11 : x = 11
  · subst c11
    exact ew_tableIn dL_law_40 (by decide) (by decide) (off := 539) rfl (by decide) (L_case_11 hS hL hp hn b1 b2 (H.2.2.2.2.2.2.2.2.2.2.2.1 rfl) kk)
  by_cases c12 : x = 12
  · subst c12
    exact ew_tableIn dL_law_40 (by decide) (by decide) (off := 564) rfl (by decide) (L_case_12 hS hL hp hn b1 b2 (H.2.2.2.2.2.2.2.2.2.2.2.2.1 rfl) kk)
  by_cases c13 : x = 13
  · subst c13
    exact ew_tableIn dL_law_40 (by decide) (by decide) (off := 601) rfl (by decide) (L_case_13 hS hL hp hn b1 b2 (H.2.2.2.2.2.2.2.2.2.2.2.2.2.1 rfl) kk)
  by_cases c14 : x = 14
  · subst c14
    exact ew_tableIn dL_law_40 (by decide) (by decide) (off := 638) rfl (by decide) (L_case_14 hS hL hp hn b1 b2 (H.2.2.2.2.2.2.2.2.2.2.2.2.2.2.1 rfl) kk)
  by_cases c15 : x = 15
  · subst c15
    exact ew_tableIn dL_law_40 (by decide) (by decide) (off := 675) rfl (by decide) (L_case_15 hS hL hp hn b1 b2 (H.2.2.2.2.2.2.2.2.2.2.2.2.2.2.2.1 rfl) kk)
  by_cases c16 : x = 16
  · subst c16
    exact ew_tableIn dL_law_40 (by decide) (by decide) (off := 712) rfl (by decide) (L_case_16 hS hL hp hn b1 b2 (H.2.2.2.2.2.2.2.2.2.2.2.2.2.2.2.2.1 rfl) kk)
  by_cases c17 : x = 17
  · subst c17
    exact ew_tableIn dL_law_40 (by decide) (by decide) (off := 749) rfl (by decide) (L_case_17 hS hL hp hn b1 b2 (H.2.2.2.2.2.2.2.2.2.2.2.2.2.2.2.2.2.1 rfl) kk)
  by_cases c18 : x = 18
  · subst c18
    exact ew_tableIn dL_law_40 (by decide) (by decide) (off := 786) rfl (by decide) (L_case_18 hS hL hp hn b1 b2 (H.2.2.2.2.2.2.2.2.2.2.2.2.2.2.2.2.2.2.1 rfl) kk)
  by_cases c19 : x = 19
  · subst c19
    exact ew_tableIn dL_law_40 (by decide) (by decide) (off := 835) rfl (by decide) (L_case_19 hS hL hp hn b1 b2 (H.2.2.2.2.2.2.2.2.2.2.2.2.2.2.2.2.2.2.2.1 rfl) kk)
  by_cases c20 : x = 20
  · subst c20
    exact ew_tableIn dL_law_40 (by decide) (by decide) (off := 872) rfl (by decide) (L_case_20 hS hL hp hn b1 b2 (H.2.2.2.2.2.2.2.2.2.2.2.2.2.2.2.2.2.2.2.2.1 rfl) kk)
  by_cases c21 : x = 21
  · subst c21
    exact ew_tableIn dL_law_40 (by decide) (by decide) (off := 909) rfl (by decide) (L_case_21 hS hL hp hn b1 b2 (H.2.2.2.2.2.2.2.2.2.2.2.2.2.2.2.2.2.2.2.2.2.1 rfl) kk)
  by_cases c22 : x = 22
  · subst c22
    exact ew_tableIn dL_law_40 (by decide) (by decide) (off := 946) rfl (by decide) (L_case_22 hS hL hp hn b1 b2 (H.2.2.2.2.2.2.2.2.2.2.2.2.2.2.2.2.2.2.2.2.2.2.1 rfl) kk)
  by_cases c23 : x = 23
  · subst c23
    exact ew_tableIn dL_law_40 (by decide) (by decide) (off := 959) rfl (by decide) (L_case_23 hS hL hp hn b1 b2 (H.2.2.2.2.2.2.2.2.2.2.2.2.2.2.2.2.2.2.2.2.2.2.2.1 rfl) kk)
  by_cases c24 : x = 24
  · subst c24
    exact ew_tableIn dL_law_40 (by decide) (by decide) (off := 996) rfl (by decide) (L_case_24 hS hL hp hn b1 b2 (H.2.2.2.2.2.2.2.2.2.2.2.2.2.2.2.2.2.2.2.2.2.2.2.2.1 rfl) kk)
  by_cases c25 : x = 25
  · subst c25
    exact ew_tableIn dL_law_40 (by decide) (by decide) (off := 1033) rfl (by decide) (L_case_25 hS hL hp hn b1 b2 (H.2.2.2.2.2.2.2.2.2.2.2.2.2.2.2.2.2.2.2.2.2.2.2.2.2.1 rfl) kk)
  by_cases c26 : x = 26
  · subst c26
    exact ew_tableIn dL_law_40 (by decide) (by decide) (off := 1082) rfl (by decide) (L_case_26 hS hL hp hn b1 b2 (H.2.2.2.2.2.2.2.2.2.2.2.2.2.2.2.2.2.2.2.2.2.2.2.2.2.2.1 rfl) kk)
  by_cases c27 : x = 27
  · subst c27
    exact ew_tableIn dL_law_40 (by decide) (by decide) (off := 1095) rfl (by decide) (L_case_27 hS hL hp hn b1 b2 (H.2.2.2.2.2.2.2.2.2.2.2.2.2.2.2.2.2.2.2.2.2.2.2.2.2.2.2.1 rfl) kk)
  by_cases c28 : x = 28
  · subst c28
    exact ew_tableIn dL_law_40 (by decide) (by decide) (off := 1144) rfl (by decide) (L_case_28 hS hL hp hn b1 b2 (H.2.2.2.2.2.2.2.2.2.2.2.2.2.2.2.2.2.2.2.2.2.2.2.2.2.2.2.2.1 rfl) kk)
  by_cases c29 : x = 29
  · subst c29
    exact ew_tableIn dL_law_40 (by decide) (by decide) (off := 1205) rfl (by decide) (L_case_29 hS hL hp hn b1 b2 (H.2.2.2.2.2.2.2.2.2.2.2.2.2.2.2.2.2.2.2.2.2.2.2.2.2.2.2.2.2.1 rfl) kk)
  by_cases c30 : x = 30
  · subst c30
    exact ew_tableIn dL_law_40 (by decide) (by decide) (off := 1242) rfl (by decide) (L_case_30 hS hL hp hn b1 b2 (H.2.2.2.2.2.2.2.2.2.2.2.2.2.2.2.2.2.2.2.2.2.2.2.2.2.2.2.2.2.2.1 rfl) kk)
  by_cases c31 : x = 31
  · subst c31
    exact ew_tableIn dL_law_40 (by decide) (by decide) (off := 1255) rfl (by decide) (L_case_31 hS hL hp hn b1 b2 (H.2.2.2.2.2.2.2.2.2.2.2.2.2.2.2.2.2.2.2.2.2.2.2.2.2.2.2.2.2.2.2.1 rfl) kk)
  by_cases c32 : x = 32
  · subst c32
    exact ew_tableIn dL_law_40 (by decide) (by decide) (off := 1292) rfl (by decide) (L_case_32 hS hL hp hn b1 b2 (H.2.2.2.2.2.2.2.2.2.2.2.2.2.2.2.2.2.2.2.2.2.2.2.2.2.2.2.2.2.2.2.2.1 rfl) kk)
  by_cases c33 : x = 33
  · subst c33
    exact ew_tableIn dL_law_40 (by decide) (by decide) (off := 1329) rfl (by decide) (L_case_33 hS hL hp hn b1 b2 (H.2.2.2.2.2.2.2.2.2.2.2.2.2.2.2.2.2.2.2.2.2.2.2.2.2.2.2.2.2.2.2.2.2.1 rfl) kk)
  by_cases c34 : x = 34
  · subst c34
    exact ew_tableIn dL_law_40 (by decide) (by decide) (off := 1390) rfl (by decide) (L_case_34 hS hL hp hn b1 b2 (H.2.2.2.2.2.2.2.2.2.2.2.2.2.2.2.2.2.2.2.2.2.2.2.2.2.2.2.2.2.2.2.2.2.2.1 rfl) kk)
  by_cases c35 : x = 35
  · subst c35
    exact ew_tableIn dL_law_40 (by decide) (by decide) (off := 1403) rfl (by decide) (L_case_35 hS hL hp hn b1 b2 (H.2.2.2.2.2.2.2.2.2.2.2.2.2.2.2.2.2.2.2.2.2.2.2.2.2.2.2.2.2.2.2.2.2.2.2.1 rfl) kk)
  by_cases c36 : x = 36
  · subst c36
    exact ew_tableIn dL_law_40 (by decide) (by decide) (off := 1459) rfl (by decide) (L_case_36 hS hL hp hn b1 b2 (H.2.2.2.2.2.2.2.2.2.2.2.2.2.2.2.2.2.2.2.2.2.2.2.2.2.2.2.2.2.2.2.2.2.2.2.2.1 rfl) kk)
  by_cases c37 : x = 37
  · subst c37
    exact ew_tableIn dL_law_40 (by decide) (by decide) (off := 1472) rfl (by decide) (L_case_37 hS hL hp hn b1 b2 (H.2.2.2.2.2.2.2.2.2.2.2.2.2.2.2.2.2.2.2.2.2.2.2.2.2.2.2.2.2.2.2.2.2.2.2.2.2 rfl) kk)
  refine ew_tableOut (tgt := 1525) dL_law_40 (by omega) (by decide) ?_
  exact ew_room (Nat.le_refl _) (Nat.sub_le _ _) (Nat.sub_le _ _) (kk _ _ _ _ _ hL (H0 (fun c hc q => by
    rcases (show c = 0 ∨ c = 1 ∨ c = 2 ∨ c = 3 ∨ c = 4 ∨ c = 5 ∨ c = 6 ∨ c = 7 ∨ c = 8 ∨ c = 9 ∨ c = 10 ∨ c = 11 ∨ c = 12 ∨ c = 13 ∨ c = 14 ∨ c = 15 ∨ c = 16 ∨ c = 17 ∨ c = 18 ∨ c = 19 ∨ c = 20 ∨ c = 21 ∨ c = 22 ∨ c = 23 ∨ c = 24 ∨ c = 25 ∨ c = 26 ∨ c = 27 ∨ c = 28 ∨ c = 29 ∨ c = 30 ∨ c = 31 ∨ c = 32 ∨ c = 33 ∨ c = 34 ∨ c = 35 ∨ c = 36 ∨ c = 37 by omega) with rfl | rfl | rfl | rfl | rfl | rfl | rfl | rfl | rfl | rfl | rfl | rfl | rfl | rfl | rfl | rfl | rfl | rfl | rfl | rfl | rfl | rfl | rfl | rfl | rfl | rfl | rfl | rfl | rfl | rfl | rfl | rfl | rfl | rfl | rfl | rfl | rfl | rfl <;> contradiction)))
/-- the loop -/
theorem L_loop {Q : AO → AH → Prop} {n : Nat} {f : Int → Int} {J : Nat → XS → MS → Prop} (hS : scr Q n f) (hn : n ≤ 144) (hQ : ∀ h, Q (Sum.inl (some (aI 1))) h) (hD : ∀ k s m, J (k + 1) s m → J k s m) (hJ : ∀ (k : Nat) s m (p : Int), J (k + 1) s m → 0 ≤ p → p + 6 ≤ n → C_law (jand (f p) 63) (fun k => f (p + k)) s m (J k)) : ∀ (k : Nat) (p : Int) (kc ks N : Nat) (V : XV) (s : XS) (m : MS) (g : AH), p + 6 * k = 144 → 0 ≤ p → k * BC ≤ kc → k * BS ≤ ks → LH V N m g → J k s m → EW mm_law 90 kc ks Q 23 (lvL p) [] (xh V s g) := by
  have out : ∀ (p : Int) (kc ks : Nat) (V : XV) (s : XS) (g : AH), EW mm_law 90 kc ks Q 1531 (lvL p) [] (xh V s g) := fun p kc ks V s g => ew_iconst dL_law_1531 (inI_of rfl) (ew_ret (o := some (aI 1)) rfl (hQ _) ⟨dL_law_1532, .boolean, rfl, Or.inr (Or.inl rfl), by decide⟩)
  have head : ∀ (p : Int) (kc ks : Nat) (V : XV) (s : XS) (g : AH), (¬ (n : Int) - 6 < p → EW mm_law 90 kc ks Q 33 (lvL p) [] (xh V s g)) → EW mm_law 90 kc ks Q 23 (lvL p) [] (xh V s g) := by
    intro p kc ks V s g k
    refine ew_iload dL_law_23 lm4 ?_
    refine ew_aload_n dL_law_25 rfl lm0 ?_
    refine ew_slen rfl hS dL_law_26 (by omega) ?_
    refine ew_bipush dL_law_27 (inI_of rfl) (by decide) ?_
    refine ew_isub dL_law_29 ⟨by omega, by omega⟩ ?_
    exact ew_icmp_gt (tgt := 1531) dL_law_30 (by decide) (fun _ => out p kc ks V s g) k
  intro k
  induction k with
  | zero => exact fun p kc ks N V s m g hp h0 _ _ hL _ => head p kc ks V s g (fun c => by omega)
  | succ k ih =>
    intro p kc ks N V s m g hp h0 b1 b2 hL hs
    refine head p kc ks V s g (fun c => ?_)
    obtain ⟨b5, b3⟩ := bmul b1
    obtain ⟨b6, b4⟩ := bmul b2
    refine L_step hS hL ⟨h0, by omega⟩ hn b3 b4 (hJ k s m p hs h0 (by omega)) (fun _ => hD k s m hs) (fun V' N' s' m' g' hL' hs' => ?_)
    refine ew_iinc dL_law_1525 lm4 (by decide) ⟨by omega, by omega⟩ (lv' := [(4, aI (p + 6)), (0, aR (some sT)), (1, aR (some xT)), (2, aR (some mT)), (3, aR (some oT))]) rfl ?_
    refine ew_sub (lv' := lvL (p + 6)) (List.forall_mem_cons.mpr ⟨lm1, List.forall_mem_cons.mpr ⟨lm2, List.forall_mem_cons.mpr ⟨lm3, List.forall_mem_cons.mpr ⟨lm4, List.forall_mem_cons.mpr ⟨lm0, e_nm⟩⟩⟩⟩⟩) ?_
    refine ew_goto (tgt := 23) dL_law_1528 (by decide) ?_
    exact ih (p + 6) (kc - BC) (ks - BS) N' V' s' m' g' (by omega) (by omega) b5 b6 hL' hs'
def V0 : XV := fun _ => 0
theorem L_start {Q : AO → AH → Prop} {n : Nat} {f : Int → Int} {J : Nat → XS → MS → Prop} (hS : scr Q n f) (hn : n ≤ 144) (hQ : ∀ h, Q (Sum.inl (some (aI 1))) h) (hD : ∀ k s m, J (k + 1) s m → J k s m) (hJ : ∀ (k : Nat) s m (p : Int), J (k + 1) s m → 0 ≤ p → p + 6 ≤ n → C_law (jand (f p) 63) (fun k => f (p + k)) s m (J k)) (J0 : J 24 xs0 mm0) : EW mm_law 90 1200048 5501818 Q 0 [(0, aR (some sT))] [] (fun _ => none) := by
  have hr : xfree V0 (fun _ => none) := fun i _ => rfl
  have hlow : ∀ i : EId, i.1 < 10 → ¬ (i.1 = 0 ∧ i.2.1 = 2) → ∀ g : AH, xh V0 xs0 g i = g i := fun i h1 h2 g => xh_g (xC_low h1 h2)
  refine ew_newB (i := xT) (ci := 0) (n := 20) (fs := xd0 V0) (r := (RX1, TX1, 20)) dL_law_0 rfl rfl q141 q142 q108 (fun k hk => ⟨tyX1 k, tyX1_ok k hk, ?_⟩) rfl (by decide) (by decide) (by decide) ?_
  · rcases (show k = 0 ∨ k = 1 ∨ k = 2 ∨ k = 3 ∨ k = 4 ∨ k = 5 ∨ k = 6 ∨ k = 7 ∨ k = 8 ∨ k = 9 ∨ k = 10 ∨ k = 11 ∨ k = 12 ∨ k = 13 ∨ k = 14 ∨ k = 15 ∨ k = 16 ∨ k = 17 ∨ k = 18 ∨ k = 19 by omega) with rfl | rfl | rfl | rfl | rfl | rfl | rfl | rfl | rfl | rfl | rfl | rfl | rfl | rfl | rfl | rfl | rfl | rfl | rfl | rfl <;> rfl
  refine ew_dup dL_law_3 rfl ?_
  refine ew_callI (d := 89) (as := []) rfl dL_law_4 me_X1_init rfl rfl rfl (Or.inl q143) q144 (Nat.le_of_ble_eq_true rfl) (by decide) (by decide) (S_new_x (d := 84) (V := V0) hr) (fun o h' hq _ => ?_) (fun E i h' q _ => by cases q.1)
  obtain ⟨E1, rfl⟩ := hq
  cases E1
  refine ew_astore_n dL_law_7 rfl (by decide) (lv' := [(1, aR (some xT)), (0, aR (some sT))]) rfl ?_
  refine ew_newB (i := mT) (ci := 1) (n := 56) (fs := md0) (r := (RX7, TX7, 56)) dL_law_8 rfl rfl q1400 q1401 q117 (fun k hk => ⟨tyX7 k, tyX7_ok k hk, ?_⟩) (hlow mT (by decide) (by decide) _) (by decide) (by decide) (by decide) ?_
  · rcases (show k = 0 ∨ k = 1 ∨ k = 2 ∨ k = 3 ∨ k = 4 ∨ k = 5 ∨ k = 6 ∨ k = 7 ∨ k = 8 ∨ k = 9 ∨ k = 10 ∨ k = 11 ∨ k = 12 ∨ k = 13 ∨ k = 14 ∨ k = 15 ∨ k = 16 ∨ k = 17 ∨ k = 18 ∨ k = 19 ∨ k = 20 ∨ k = 21 ∨ k = 22 ∨ k = 23 ∨ k = 24 ∨ k = 25 ∨ k = 26 ∨ k = 27 ∨ k = 28 ∨ k = 29 ∨ k = 30 ∨ k = 31 ∨ k = 32 ∨ k = 33 ∨ k = 34 ∨ k = 35 ∨ k = 36 ∨ k = 37 ∨ k = 38 ∨ k = 39 ∨ k = 40 ∨ k = 41 ∨ k = 42 ∨ k = 43 ∨ k = 44 ∨ k = 45 ∨ k = 46 ∨ k = 47 ∨ k = 48 ∨ k = 49 ∨ k = 50 ∨ k = 51 ∨ k = 52 ∨ k = 53 ∨ k = 54 ∨ k = 55 by omega) with rfl | rfl | rfl | rfl | rfl | rfl | rfl | rfl | rfl | rfl | rfl | rfl | rfl | rfl | rfl | rfl | rfl | rfl | rfl | rfl | rfl | rfl | rfl | rfl | rfl | rfl | rfl | rfl | rfl | rfl | rfl | rfl | rfl | rfl | rfl | rfl | rfl | rfl | rfl | rfl | rfl | rfl | rfl | rfl | rfl | rfl | rfl | rfl | rfl | rfl | rfl | rfl | rfl | rfl | rfl | rfl <;> rfl
  refine ew_dup dL_law_11 rfl ?_
  refine ew_callI (d := 89) (as := []) rfl dL_law_12 me_X7_init rfl rfl rfl (Or.inl q1402) q1403 (Nat.le_of_ble_eq_true rfl) (by decide) (by decide) (S_new_m (d := 88) (g := xh V0 xs0 (fun _ => none)) (fun k => hlow (0, 1, k) (by show (0 : Nat) < 10; decide) (fun q => absurd q.2 (by show ¬ (1 : Nat) = 2; decide)) _)) (fun o h' hq _ => ?_) (fun E i h' q _ => by cases q.1)
  obtain ⟨E1, rfl⟩ := hq
  cases E1
  rw [← xh_mh]
  refine ew_astore_n dL_law_15 rfl (by decide) (lv' := [(2, aR (some mT)), (1, aR (some xT)), (0, aR (some sT))]) rfl ?_
  refine ew_iconst dL_law_16 (inI_of rfl) ?_
  refine ew_newLB (N := 1) (i := oT) dL_law_17 q389 rfl (by decide) ((hlow oT (by decide) (by decide) _).trans rfl) (by decide) (by decide) (by decide) ?_
  rw [xh_upg (xC_low (by decide) (by decide))]
  refine ew_astore_n dL_law_19 rfl (by decide) (lv' := [(3, aR (some oT)), (2, aR (some mT)), (1, aR (some xT)), (0, aR (some sT))]) rfl ?_
  refine ew_iconst dL_law_20 (inI_of rfl) ?_
  refine ew_istore dL_law_21 (by decide) (lv' := [(4, aI 0), (3, aR (some oT)), (2, aR (some mT)), (1, aR (some xT)), (0, aR (some sT))]) rfl ?_
  refine ew_sub (lv' := lvL 0) (List.forall_mem_cons.mpr ⟨lm4, List.forall_mem_cons.mpr ⟨lm3, List.forall_mem_cons.mpr ⟨lm2, List.forall_mem_cons.mpr ⟨lm1, List.forall_mem_cons.mpr ⟨lm0, e_nm⟩⟩⟩⟩⟩) ?_
  have hne : ∀ (i : EId) (o : Int → Int), i.1 ≠ 4 → ¬ (i.1 = 0 ∧ i.2.1 = 1) → hup (mh mm0 (fun _ => none)) oT (kL 1 o) i = none := fun i o h1 h2 => (hup_ne (fun e => h1 (by rw [e]))).trans (if_neg h2)
  refine L_loop (J := J) hS hn hQ hD hJ 24 0 _ _ 1 V0 xs0 mm0 _ (by decide) (by decide) (by decide) (by decide) ⟨⟨fun i hi => ?_, fun j => by show 0 < 1; decide, fun i hi => ?_, fun i hi => ?_⟩, fun k => ?_, _, hup_self _ _ _⟩ J0
  · unfold xreg at hi
    exact hne i _ (by omega) (by omega)
  · exact hne i _ (by omega) (by omega)
  · exact hne i _ (by omega) (by omega)
  · exact (hup_ne (fun e => absurd (congrArg (fun i : EId => i.1) e) (by show ¬ (0 : Nat) = 4; decide))).trans (mh_at _ _ _)
