/-! THE SYSTEM's METHODS: a fact more, rules (gen/facts2.py) -/
set_option maxRecDepth 100000
abbrev mm_X12_init : EM := (yX12_init, cX12_init, 3, (Option.none : Option Jvm.ClassFile.FieldType), [])
theorem me_X12_init : e_mth mm_X12_init 2 := ⟨rfl, q862, q137, by decide +kernel, by decide⟩

theorem A_fact {d : Nat} {h : AH} {i : EId} {fs : Nat → AV} {a b : Int} (hi : h i = some (kO 10 fs)) : Sp mm_X12_init (d + 1) 0 0 [aR (some i), aI a, aI b] h (fun o h' => o = Sum.inl none ∧ h' = hup h i (kO 10 (fup (fup fs 0 (aI a)) 1 (aI b)))) := by
  refine ew_sp rfl (Nat.le_of_ble_eq_true rfl) ?_
  refine ew_aload_n dX12_init_0 rfl lm0 ?_
  refine ew_objInit (d := d) dX12_init_1 q863 q147 q148 (Nat.le_of_ble_eq_true rfl) ?_
  refine ew_aload_n dX12_init_4 rfl lm0 ?_
  refine ew_iload_n dX12_init_5 rfl lm1 ?_
  refine ew_putF dX12_init_6 q864 sf_0 rfl hi lm0 (ty := .int) (by decide +kernel) trivial ?_
  refine ew_aload_n dX12_init_9 rfl lm0 ?_
  refine ew_iload_n dX12_init_10 rfl lm2 ?_
  refine ew_putF dX12_init_11 q866 sf_1 rfl (hup_self _ _ _) lm0 (ty := .int) (by decide +kernel) trivial ?_
  rw [hup_hup]
  exact ew_ret (o := none) rfl ⟨rfl, rfl⟩ ⟨rfl, dX12_init_14⟩
section NF
variable {M : EM} {d kc ks : Nat} {Q : AO → AH → Prop} {pc idx cnt : Nat} {lv : List (Nat × AV)} {st rest : List AV} {V : XV} {s : XS} {g : AH} {a b : Int}
theorem nf_none2 (hm : s.1.1 42 = s.1.1 32) : xC V s (bI V 12 (s.1.1 32).toNat) = none := (xC_b (by omega)).trans (bC_none (j := 2) (by omega) (by show (s.1.1 42).toNat ≤ _; rw [hm]; exact Nat.le_refl _))
theorem nf_new2 (hd : decode M.2.1 pc = .ok (.new idx, 3)) (w1 : Cond.classLink M.1.cls idx RX12 ∈ lw_all) (hm : s.1.1 42 = s.1.1 32) (hr : xfree V g) (b1 : 1 ≤ kc) (b2 : 2 ≤ ks) (k : EW M d (kc - 1) (ks - 2) Q (pc + 3) lv (aR (some (bI V 12 (s.1.1 32).toNat)) :: st) (xh V s (hup g (bI V 12 (s.1.1 32).toNat) (kO 10 (fun _ => aI 0))))) : EW M d kc ks Q pc lv st (xh V s g) := by
  refine ew_newB (i := (bI V 12 (s.1.1 32).toNat)) (ci := 10) (n := 2) (fs := fun _ => aI 0) (r := (RX12, TX12, 2)) hd rfl rfl w1 q859 q137 (fun k hk => ?_) ((xh_g (nf_none2 hm)).trans (hr _ (Or.inr (Or.inl ⟨rfl, by show 12 < 20; omega⟩)))) (by show 10 + V 9 ≠ 9; omega) b1 b2 ?_
  · rcases (show k = 0 ∨ k = 1 by omega) with rfl | rfl
    · exact ⟨.int, by decide +kernel, rfl⟩
    · exact ⟨.int, by decide +kernel, rfl⟩
  · rw [xh_upg (nf_none2 hm)]
    exact k
theorem nf_init2 (hd : decode M.2.1 pc = .ok (.invokespecial idx, 3)) (w1 : Cond.methodLink M.1.cls idx yX12_init ∈ lw_all) (hm : s.1.1 42 = s.1.1 32) (h8 : (rest.map fun v => if e_is2 v then 2 else 1).sum ≤ 8) (k : EW M (d + 2) kc ks Q (pc + 3) lv rest (xh V s (hup g (bI V 12 (s.1.1 32).toNat) (kO 10 (fup (fup (fun _ => aI 0) 0 (aI a)) 1 (aI b)))))) : EW M (d + 2) kc ks Q pc lv (aI b :: aI a :: aR (some (bI V 12 (s.1.1 32).toNat)) :: rest) (xh V s (hup g (bI V 12 (s.1.1 32).toNat) (kO 10 (fun _ => aI 0)))) := by
  refine ew_callI (d := d + 1) (as := [aI a, aI b]) rfl hd me_X12_init rfl rfl rfl (Or.inl w1) q861 h8 (Nat.zero_le _) (Nat.zero_le _) (A_fact (d := d) ((xh_g (nf_none2 hm)).trans (hup_self _ _ _))) (fun o h' hq _ => ?_) (fun E i h' q _ => by cases q.1)
  obtain ⟨E1, rfl⟩ := hq
  cases E1
  rw [xh_upg (nf_none2 hm), hup_hup]
  exact k
theorem nf_add2 (hd : decode M.2.1 pc = .ok (.invokeinterface idx cnt, 5)) (w1 : Cond.methodLink M.1.cls idx ⟨"java/util/List", "add", "(Ljava/lang/Object;)Z"⟩ ∈ lw_all) (hz : 0 ≤ s.1.1 32) (hm : s.1.1 42 = s.1.1 32) (hq : 0 ≤ s.1.1 52) (hok : xok s 2) (h0 : 0 < xcap 2 (s.1.1 52).toNat) (h3 : -1000000 ≤ s.1.1 72 ∧ s.1.1 72 ≤ 1000000) (hr : xfree V g) (h8 : (rest.map fun v => if e_is2 v then 2 else 1).sum ≤ 8) (b1 : 1 ≤ kc) (b2 : al_N (xcap 2 (s.1.1 52).toNat) ≤ ks) (k : ∀ s1, s1 = (yf2 s.1 a b, s.2) → EW M (d + 7) (kc - 1) (ks - al_N (xcap 2 (s.1.1 52).toNat)) Q (pc + 5) lv (aI 1 :: rest) (xh V s1 g)) : EW M (d + 7) kc ks Q pc lv (aR (some (bI V 12 (s.1.1 32).toNat)) :: aR (some (bI V 2 2)) :: rest) (xh V s (hup g (bI V 12 (s.1.1 32).toNat) (kO 10 (fup (fup (fun _ => aI 0) 0 (aI a)) 1 (aI b))))) := by
  have hne : ∀ q, bI V 2 2 ≠ bI V (3 + 2) q := fun q e => by
    have := congrArg (fun i : EId => i.2.1) e
    simp at this
  have hy : e_el (xh V s (hup g (bI V 12 (s.1.1 32).toNat) (kO 10 (fup (fup (fun _ => aI 0) 0 (aI a)) 1 (aI b))))) (bI V 12 (s.1.1 32).toNat) := Or.inl ⟨_, _, (xh_g (nf_none2 hm)).trans (hup_self _ _ _), by decide⟩
  by_cases c : s.1.1 32 = (xcap 2 (s.1.1 52).toNat : Int)
  · have hf : xh V s (hup g (bI V 12 (s.1.1 32).toNat) (kO 10 (fup (fup (fun _ => aI 0) 0 (aI a)) 1 (aI b)))) (bI V (3 + 2) ((s.1.1 52).toNat + 1)) = none := by
      have hn : bC V s.1 (3 + 2) ((s.1.1 52).toNat + 1) = none := if_neg (fun w => by have := w.2; omega)
      have h5 : (bI V (3 + 2) ((s.1.1 52).toNat + 1) : EId) ≠ (bI V 12 (s.1.1 32).toNat) := fun e => by
        have := congrArg (fun i : EId => i.2.1) e
        simp at this
      rw [xh_g ((xC_b (by omega)).trans hn), hup_ne h5]
      exact hr _ (Or.inr (Or.inl ⟨rfl, by show 3 + 2 < 20; omega⟩))
    have hel : ∀ i : Int, 0 ≤ i → i < (xcap 2 (s.1.1 52).toNat : Int) → ∀ y, xec V s.1 2 (s.1.1 52).toNat i = some y → e_el (xh V s (hup g (bI V 12 (s.1.1 32).toNat) (kO 10 (fup (fup (fun _ => aI 0) 0 (aI a)) 1 (aI b))))) y := by
      intro i i0 i1 y hy
      rw [xec_in (s := s) (j := 2) i0 (by show i < s.1.1 32; omega)] at hy
      cases hy
      exact Or.inl ⟨_, _, xh_sm ⟨i0, by omega⟩, by decide⟩
    refine ew_callF (x := ⟨"java/util/List", "add", "(Ljava/lang/Object;)Z"⟩) (d := d + 6) (as := [aR (some (bI V 12 (s.1.1 32).toNat))]) (ci := 11) rfl hd me_J2_add rfl rfl (xh_l (j := 2) (by omega)) rfl w1 q730 q732 lm2 h8 b1 b2 (A_addG (d := d) (E1 := bI V (3 + 2) ((s.1.1 52).toNat + 1)) (xh_l (j := 2) (by omega)) (xh_e (j := 2) (by omega) hok) hel h0 c hf (by show 10 + V 9 ≠ 9; omega) hy hz h3 (hne _) hok.2.2) (fun o h' hq' _ => ?_) (fun E i h' q _ => by cases q.1)
    obtain ⟨E1, rfl⟩ := hq'
    cases E1
    rw [show (50 + 2) = 52 from rfl, show (30 + 2) = 32 from rfl, show (70 + 2) = 72 from rfl, show (3 + 2) = 5 from rfl, xh_fB2 hz hm hq hok c]
    exact k _ rfl
  · refine ew_callF (x := ⟨"java/util/List", "add", "(Ljava/lang/Object;)Z"⟩) (d := d + 6) (as := [aR (some (bI V 12 (s.1.1 32).toNat))]) (ci := 11) rfl hd me_J2_add rfl rfl (xh_l (j := 2) (by omega)) rfl w1 q730 q732 lm2 h8 (Nat.zero_le _) (Nat.zero_le _) (A_add (d := d) (xh_l (j := 2) (by omega)) (xh_e (j := 2) (by omega) hok) (by have := hok.1; show s.1.1 32 < _; exact (Int.lt_iff_le_and_ne).mpr ⟨this, c⟩) hy hz h3 (hne _) hok.2.2) (fun o h' hq' _ => ?_) (fun E i h' q _ => by cases q.1)
    obtain ⟨E1, rfl⟩ := hq'
    cases E1
    rw [show (50 + 2) = 52 from rfl, show (30 + 2) = 32 from rfl, show (70 + 2) = 72 from rfl, show (3 + 2) = 5 from rfl, xh_fA2 hz hm hq hok c]
    exact ew_room (Nat.le_refl _) (Nat.sub_le _ _) (Nat.sub_le _ _) (k _ rfl)

theorem nf_none3 (hm : s.1.1 43 = s.1.1 33) : xC V s (bI V 13 (s.1.1 33).toNat) = none := (xC_b (by omega)).trans (bC_none (j := 3) (by omega) (by show (s.1.1 43).toNat ≤ _; rw [hm]; exact Nat.le_refl _))
theorem nf_new3 (hd : decode M.2.1 pc = .ok (.new idx, 3)) (w1 : Cond.classLink M.1.cls idx RX12 ∈ lw_all) (hm : s.1.1 43 = s.1.1 33) (hr : xfree V g) (b1 : 1 ≤ kc) (b2 : 2 ≤ ks) (k : EW M d (kc - 1) (ks - 2) Q (pc + 3) lv (aR (some (bI V 13 (s.1.1 33).toNat)) :: st) (xh V s (hup g (bI V 13 (s.1.1 33).toNat) (kO 10 (fun _ => aI 0))))) : EW M d kc ks Q pc lv st (xh V s g) := by
  refine ew_newB (i := (bI V 13 (s.1.1 33).toNat)) (ci := 10) (n := 2) (fs := fun _ => aI 0) (r := (RX12, TX12, 2)) hd rfl rfl w1 q859 q137 (fun k hk => ?_) ((xh_g (nf_none3 hm)).trans (hr _ (Or.inr (Or.inl ⟨rfl, by show 13 < 20; omega⟩)))) (by show 10 + V 9 ≠ 9; omega) b1 b2 ?_
  · rcases (show k = 0 ∨ k = 1 by omega) with rfl | rfl
    · exact ⟨.int, by decide +kernel, rfl⟩
    · exact ⟨.int, by decide +kernel, rfl⟩
  · rw [xh_upg (nf_none3 hm)]
    exact k
theorem nf_init3 (hd : decode M.2.1 pc = .ok (.invokespecial idx, 3)) (w1 : Cond.methodLink M.1.cls idx yX12_init ∈ lw_all) (hm : s.1.1 43 = s.1.1 33) (h8 : (rest.map fun v => if e_is2 v then 2 else 1).sum ≤ 8) (k : EW M (d + 2) kc ks Q (pc + 3) lv rest (xh V s (hup g (bI V 13 (s.1.1 33).toNat) (kO 10 (fup (fup (fun _ => aI 0) 0 (aI a)) 1 (aI b)))))) : EW M (d + 2) kc ks Q pc lv (aI b :: aI a :: aR (some (bI V 13 (s.1.1 33).toNat)) :: rest) (xh V s (hup g (bI V 13 (s.1.1 33).toNat) (kO 10 (fun _ => aI 0)))) := by
  refine ew_callI (d := d + 1) (as := [aI a, aI b]) rfl hd me_X12_init rfl rfl rfl (Or.inl w1) q861 h8 (Nat.zero_le _) (Nat.zero_le _) (A_fact (d := d) ((xh_g (nf_none3 hm)).trans (hup_self _ _ _))) (fun o h' hq _ => ?_) (fun E i h' q _ => by cases q.1)
  obtain ⟨E1, rfl⟩ := hq
  cases E1
  rw [xh_upg (nf_none3 hm), hup_hup]
  exact k
theorem nf_add3 (hd : decode M.2.1 pc = .ok (.invokeinterface idx cnt, 5)) (w1 : Cond.methodLink M.1.cls idx ⟨"java/util/List", "add", "(Ljava/lang/Object;)Z"⟩ ∈ lw_all) (hz : 0 ≤ s.1.1 33) (hm : s.1.1 43 = s.1.1 33) (hq : 0 ≤ s.1.1 53) (hok : xok s 3) (h0 : 0 < xcap 3 (s.1.1 53).toNat) (h3 : -1000000 ≤ s.1.1 73 ∧ s.1.1 73 ≤ 1000000) (hr : xfree V g) (h8 : (rest.map fun v => if e_is2 v then 2 else 1).sum ≤ 8) (b1 : 1 ≤ kc) (b2 : al_N (xcap 3 (s.1.1 53).toNat) ≤ ks) (k : ∀ s1, s1 = (yf3 s.1 a b, s.2) → EW M (d + 7) (kc - 1) (ks - al_N (xcap 3 (s.1.1 53).toNat)) Q (pc + 5) lv (aI 1 :: rest) (xh V s1 g)) : EW M (d + 7) kc ks Q pc lv (aR (some (bI V 13 (s.1.1 33).toNat)) :: aR (some (bI V 2 3)) :: rest) (xh V s (hup g (bI V 13 (s.1.1 33).toNat) (kO 10 (fup (fup (fun _ => aI 0) 0 (aI a)) 1 (aI b))))) := by
  have hne : ∀ q, bI V 2 3 ≠ bI V (3 + 3) q := fun q e => by
    have := congrArg (fun i : EId => i.2.1) e
    simp at this
  have hy : e_el (xh V s (hup g (bI V 13 (s.1.1 33).toNat) (kO 10 (fup (fup (fun _ => aI 0) 0 (aI a)) 1 (aI b))))) (bI V 13 (s.1.1 33).toNat) := Or.inl ⟨_, _, (xh_g (nf_none3 hm)).trans (hup_self _ _ _), by decide⟩
  by_cases c : s.1.1 33 = (xcap 3 (s.1.1 53).toNat : Int)
  · have hf : xh V s (hup g (bI V 13 (s.1.1 33).toNat) (kO 10 (fup (fup (fun _ => aI 0) 0 (aI a)) 1 (aI b)))) (bI V (3 + 3) ((s.1.1 53).toNat + 1)) = none := by
      have hn : bC V s.1 (3 + 3) ((s.1.1 53).toNat + 1) = none := if_neg (fun w => by have := w.2; omega)
      have h5 : (bI V (3 + 3) ((s.1.1 53).toNat + 1) : EId) ≠ (bI V 13 (s.1.1 33).toNat) := fun e => by
        have := congrArg (fun i : EId => i.2.1) e
        simp at this
      rw [xh_g ((xC_b (by omega)).trans hn), hup_ne h5]
      exact hr _ (Or.inr (Or.inl ⟨rfl, by show 3 + 3 < 20; omega⟩))
    have hel : ∀ i : Int, 0 ≤ i → i < (xcap 3 (s.1.1 53).toNat : Int) → ∀ y, xec V s.1 3 (s.1.1 53).toNat i = some y → e_el (xh V s (hup g (bI V 13 (s.1.1 33).toNat) (kO 10 (fup (fup (fun _ => aI 0) 0 (aI a)) 1 (aI b))))) y := by
      intro i i0 i1 y hy
      rw [xec_in (s := s) (j := 3) i0 (by show i < s.1.1 33; omega)] at hy
      cases hy
      exact Or.inl ⟨_, _, xh_df ⟨i0, by omega⟩, by decide⟩
    refine ew_callF (x := ⟨"java/util/List", "add", "(Ljava/lang/Object;)Z"⟩) (d := d + 6) (as := [aR (some (bI V 13 (s.1.1 33).toNat))]) (ci := 11) rfl hd me_J2_add rfl rfl (xh_l (j := 3) (by omega)) rfl w1 q730 q732 lm2 h8 b1 b2 (A_addG (d := d) (E1 := bI V (3 + 3) ((s.1.1 53).toNat + 1)) (xh_l (j := 3) (by omega)) (xh_e (j := 3) (by omega) hok) hel h0 c hf (by show 10 + V 9 ≠ 9; omega) hy hz h3 (hne _) hok.2.2) (fun o h' hq' _ => ?_) (fun E i h' q _ => by cases q.1)
    obtain ⟨E1, rfl⟩ := hq'
    cases E1
    rw [show (50 + 3) = 53 from rfl, show (30 + 3) = 33 from rfl, show (70 + 3) = 73 from rfl, show (3 + 3) = 6 from rfl, xh_fB3 hz hm hq hok c]
    exact k _ rfl
  · refine ew_callF (x := ⟨"java/util/List", "add", "(Ljava/lang/Object;)Z"⟩) (d := d + 6) (as := [aR (some (bI V 13 (s.1.1 33).toNat))]) (ci := 11) rfl hd me_J2_add rfl rfl (xh_l (j := 3) (by omega)) rfl w1 q730 q732 lm2 h8 (Nat.zero_le _) (Nat.zero_le _) (A_add (d := d) (xh_l (j := 3) (by omega)) (xh_e (j := 3) (by omega) hok) (by have := hok.1; show s.1.1 33 < _; exact (Int.lt_iff_le_and_ne).mpr ⟨this, c⟩) hy hz h3 (hne _) hok.2.2) (fun o h' hq' _ => ?_) (fun E i h' q _ => by cases q.1)
    obtain ⟨E1, rfl⟩ := hq'
    cases E1
    rw [show (50 + 3) = 53 from rfl, show (30 + 3) = 33 from rfl, show (70 + 3) = 73 from rfl, show (3 + 3) = 6 from rfl, xh_fA3 hz hm hq hok c]
    exact ew_room (Nat.le_refl _) (Nat.sub_le _ _) (Nat.sub_le _ _) (k _ rfl)

end NF
