/-! THE PURE PART, 66: many -/
set_option maxRecDepth 100000
/-- least or not, by the system -/
theorem x_isLeast {P : Int → Prop} {S ns : Int} {s : XS} {K : Int → Prop} (hns : 0 ≤ ns ∧ ns ≤ 12) (e32 : s.1.1 32 = ns) (S0 : 0 ≤ S) (S1 : S < 4096) (hk : kp P (S + 1) (s.1.2 14)) (h1 : lsS P ns S → K 1) (h0 : ¬ lsS P ns S → K 0) : C_X1_isLeast S s K := by
  intro X hX
  have hs := hk S S0 (by omega)
  refine ⟨⟨S0, S1⟩, fun e => h0 (fun g => by have := hs.1 g.1; omega), fun e => ?_⟩
  have hP : P S := Classical.not_not.mp (fun g => e (hs.2 g))
  have L : ∀ k, 0 ≤ k → k ≤ ns → (∀ i, 0 ≤ i → i < k → bit S i → ¬ P (jand S (jxor (jshl 1 i) (-1)))) → X S k := by
    refine upto (fun k k0 k1 ih hi => hX _ _ (x_sames ?_))
    rw [e32]
    refine ⟨fun q => h1 ⟨hP, fun i i0 i1 => hi i i0 (by omega)⟩, fun q => x_has (fun hb => ⟨fun q2 => absurd q2 (by decide), fun _ => ?_⟩) (fun hb => ⟨fun _ => ⟨inI_s (by omega), ih (by omega) (fun i i0 i1 => ?_)⟩, fun q2 => absurd rfl q2⟩)⟩
    · have hd := del_lt S0 S1 k0 (by omega) hb
      have hv := hk _ hd.1 (by omega)
      refine ⟨⟨hd.1, by omega⟩, fun q2 => ⟨inI_s (by omega), ih (by omega) (fun i i0 i1 => ?_)⟩, fun q2 => h0 (fun g => ?_)⟩
      · by_cases c : i = k
        · rw [c]
          exact fun _ g => by have := hv.1 g; omega
        · exact hi i i0 (by omega)
      · exact q2 (hv.2 (g.2 k k0 (by omega) hb))
    · by_cases c : i = k
      · rw [c]; exact fun g => absurd g hb
      · exact hi i i0 (by omega)
  exact L 0 (Int.le_refl _) hns.1 (fun i i0 i1 => by omega)
theorem p_many {a : Int → Int} {s : XS} {m : MS} {KN : XS → MS → Prop} (hB : JB s m) (hN : JN s m) (hE : JE s m) (hK : keepsJ s m KN) : C_law_21 a s m KN := by
  have hB0 := hB
  obtain ⟨hb, hr⟩ := hB
  have h24 : 0 ≤ m.1 27 ∧ m.1 27 ≤ 24 := hb.nt
  have h12 : 0 ≤ m.1 30 ∧ m.1 30 ≤ 12 := hb.ns
  have es : s.1.1 32 = m.1 30 := hr.1.2.2.1
  have h4 := jshl_4096 h12
  intro X20 X59 hX20 hX59
  refine p_ask hB0 hN hK (F := C_many (a 1) (a 2) m) (fun K w hw hk X20 X56 h20 h56 => c_whyN h24 hw hk) (fun hv he => ?_)
  have hBel : ∀ k, 0 ≤ k → k < jshl 1 (m.1 30) → below k (bkM m).ns := fun k k0 k1 => below_le h12.1 (show (bkM m).ns < 14 from (show m.1 30 < 14 by omega)) k0 (show k ≤ jshl 1 (m.1 30) - 1 by omega)
  -- the reference on one set
  have hc20 : ∀ (Y20 : Int → Int → Int → Int → MS → Prop) (Y56 : Int → Int → Int → Int → Int → Int → MS → Prop) (K : Int → MS → Prop) (acc S acc' : Int) (M : MS), (∀ x1 x2 x3 x4 s0, B_many_20 Y20 Y56 K x1 x2 x3 x4 s0 → Y20 x1 x2 x3 x4 s0) → (∀ x1 x2 x3 x4 x5 x6 s0, B_many_56 Y20 Y56 K x1 x2 x3 x4 x5 x6 s0 → Y56 x1 x2 x3 x4 x5 x6 s0) → qM (mref m 0) M → 0 ≤ S → S < jshl 1 (m.1 30) → 0 ≤ acc → acc ≤ 4096 → kp (fun T => oneBy (bkM m) T (a 1) (a 2)) S (M.2 46) → ((lsS (fun T => oneBy (bkM m) T (a 1) (a 2)) (m.1 30) S ∧ acc' = acc + 1) ∨ (¬ lsS (fun T => oneBy (bkM m) T (a 1) (a 2)) (m.1 30) S ∧ acc' = acc)) → (∀ m', qM (mref m 0) m' → kp (fun T => oneBy (bkM m) T (a 1) (a 2)) (S + 1) (m'.2 46) → Y20 (a 1) (a 2) acc' (S + 1) m') → Y20 (a 1) (a 2) acc S M := by
    intro Y20 Y56 K acc S acc' M h20 h56 q1 S0 S1 ac0 ac1 hkp hacc go
    refine h20 _ _ _ _ _ (c_allSames (m := M) (by rw [q1.1]; exact h12) ?_)
    rw [q1.1]
    refine ⟨fun q => absurd q (show ¬ jshl 1 (m.1 30) - 1 < S by omega), fun _ => ?_⟩
    have L56 : ∀ M2, qM (mref m 0) M2 → kp (fun T => oneBy (bkM m) T (a 1) (a 2)) (S + 1) (M2.2 46) → ∀ k, 0 ≤ k → k ≤ m.1 30 → (oneBy (bkM m) S (a 1) (a 2) → (∀ i, 0 ≤ i → i < k → bit S i → ¬ oneBy (bkM m) (jand S (jxor (jshl 1 i) (-1))) (a 1) (a 2)) → Y56 (a 1) (a 2) acc S 1 k M2) ∧ (¬ lsS (fun T => oneBy (bkM m) T (a 1) (a 2)) (m.1 30) S → Y56 (a 1) (a 2) acc S 0 k M2) := by
      intro M2 q2 hk2
      have e30 : M2.1 30 = m.1 30 := by rw [q2.1]; rfl
      refine upto (fun k k0 k1 ih => ⟨fun hP hi => h56 _ _ _ _ _ _ _ ?_, fun hno => h56 _ _ _ _ _ _ _ ?_⟩)
      · unfold B_many_56
        rw [e30]
        refine ⟨fun q => ⟨fun q3 => absurd q3 (by decide), fun _ => ⟨inI_s (by omega), inI_s (by omega), ?_⟩⟩, fun q => ⟨fun q3 => absurd q3 (by decide), fun _ => ⟨fun q3 => ⟨inI_s (by omega), (ih (by omega)).1 hP (fun i i0 i1 => ?_)⟩, fun q3 => ?_⟩⟩⟩
        · rcases hacc with ⟨_, g⟩ | ⟨g, _⟩
          · rw [← g]; exact go M2 q2 hk2
          · exact absurd ⟨hP, fun i i0 i1 => hi i i0 (by omega)⟩ g
        · by_cases c : i = k
          · rw [c]; exact fun g => absurd g (bit_no.mp q3)
          · exact hi i i0 (by omega)
        · have hbit : bit S k := Classical.not_not.mp (fun g => q3 (bit_no.mpr g))
          have hd := del_lt S0 (show S < 4096 by omega) k0 (by omega) hbit
          have hvv := hk2 _ hd.1 (by omega)
          refine ⟨⟨hd.1, by omega⟩, fun q4 => ⟨inI_s (by omega), (ih (by omega)).1 hP (fun i i0 i1 => ?_)⟩, fun q4 => ⟨inI_s (by omega), (ih (by omega)).2 (fun g => ?_)⟩⟩
          · by_cases c : i = k
            · rw [c]
              exact fun _ g => by have := hvv.1 g; omega
            · exact hi i i0 (by omega)
          · exact q4 (hvv.2 (g.2 k k0 (by omega) hbit))
      · unfold B_many_56
        rw [e30]
        refine ⟨fun q => ⟨fun _ => ⟨inI_s (by omega), inI_s (by omega), ?_⟩, fun q3 => absurd rfl q3⟩, fun q => ⟨fun _ => ⟨inI_s (by omega), (ih (by omega)).2 hno⟩, fun q3 => absurd rfl q3⟩⟩
        rcases hacc with ⟨g, _⟩ | ⟨_, g⟩
        · exact absurd g hno
        · rw [Int.add_zero, ← g]; exact go M2 q2 hk2
    have eb : bkM M = bkM m := q1.bk
    have hone : ∀ (K1 : Int → MS → Prop), (∀ m', pM M m' → (oneBy (bkM m) S (a 1) (a 2) → K1 1 m') ∧ (¬ oneBy (bkM m) S (a 1) (a 2) → K1 0 m')) → C_isOneBy S (a 1) (a 2) M K1 := fun K1 h => c_one (m0 := M) (by rw [eb]; exact hb) pM.rf (by rw [eb]; exact hBel S S0 S1) hv.1.1 (by rw [eb]; exact hv.1.2) hv.2.1 (by rw [eb]; exact hv.2.2) (fun ho m' q => (h m' q).1 (by rw [eb] at ho; exact ho)) (fun ho m' q => (h m' q).2 (by rw [eb] at ho; exact ho))
    have e46 : ∀ m', pM M m' → m'.2 46 = M.2 46 := fun m' q => q.2 46 (by decide)
    refine hone _ (fun m' q => ⟨fun ho => ⟨Or.inr rfl, ⟨S0, by omega⟩, ?_⟩, fun ho => ⟨Or.inl rfl, ⟨S0, by omega⟩, ?_⟩⟩)
    · rintro _ rfl
      have hq2 : qM (mref m 0) (ma m' 46 S 1) := ⟨by show m'.1 = _; rw [(q1.p q).1], fun k g1 g2 => (if_neg g2).trans ((q1.p q).2 k g1 g2)⟩
      have hk2 : kp (fun T => oneBy (bkM m) T (a 1) (a 2)) (S + 1) ((ma m' 46 S 1).2 46) := by
        show kp _ _ (iup (m'.2 46) S 1)
        rw [e46 m' q]
        exact kp_s hkp ⟨fun _ => rfl, fun g => absurd ho g⟩
      have e1 : (ma m' 46 S 1).2 46 S = 1 := by
        show iup (m'.2 46) S 1 S = 1
        exact iup_at
      refine ⟨⟨S0, by omega⟩, ?_⟩
      rw [e1]
      exact (L56 _ hq2 hk2 0 (Int.le_refl _) h12.1).1 ho (fun i i0 i1 => by omega)
    · rintro _ rfl
      have hq2 : qM (mref m 0) (ma m' 46 S 0) := ⟨by show m'.1 = _; rw [(q1.p q).1], fun k g1 g2 => (if_neg g2).trans ((q1.p q).2 k g1 g2)⟩
      have hk2 : kp (fun T => oneBy (bkM m) T (a 1) (a 2)) (S + 1) ((ma m' 46 S 0).2 46) := by
        show kp _ _ (iup (m'.2 46) S 0)
        rw [e46 m' q]
        exact kp_s hkp ⟨fun g => absurd g ho, fun _ => rfl⟩
      have e1 : (ma m' 46 S 0).2 46 S = 0 := by
        show iup (m'.2 46) S 0 S = 0
        exact iup_at
      refine ⟨⟨S0, by omega⟩, ?_⟩
      rw [e1]
      exact (L56 _ hq2 hk2 0 (Int.le_refl _) h12.1).2 (fun g => ho g.1)
  -- both count
  have hlp : ∀ (d : Nat) (S acc : Int), 0 ≤ S → S + d = jshl 1 (m.1 30) → 0 ≤ acc → acc ≤ S → ∃ v, (∀ s1, qX s s1 → kp (fun T => oneBy (bkM m) T (a 1) (a 2)) (jshl 1 (m.1 30)) (s1.1.2 14) → C_many (a 1) (a 2) m (fun r' m' => v = r' ∧ KN (xfin s1) m') → X59 acc S s1) ∧ ∀ (Y20 : Int → Int → Int → Int → MS → Prop) (Y56 : Int → Int → Int → Int → Int → Int → MS → Prop) (K : Int → MS → Prop) (M : MS), (∀ x1 x2 x3 x4 s0, B_many_20 Y20 Y56 K x1 x2 x3 x4 s0 → Y20 x1 x2 x3 x4 s0) → (∀ x1 x2 x3 x4 x5 x6 s0, B_many_56 Y20 Y56 K x1 x2 x3 x4 x5 x6 s0 → Y56 x1 x2 x3 x4 x5 x6 s0) → qM (mref m 0) M → kp (fun T => oneBy (bkM m) T (a 1) (a 2)) S (M.2 46) → (∀ m', qM (mref m 0) m' → K v m') → Y20 (a 1) (a 2) acc S M := by
    intro d
    induction d with
    | zero =>
      intro S acc S0 hS ac0 ac1
      refine ⟨acc, fun s1 q1 hk q2 => hX59 _ _ _ (x_every (by rw [q1.1, es]; exact h12) ?_), fun Y20 Y56 K M h20 h56 q1 hk q2 => h20 _ _ _ _ _ (c_allSames (m := M) (by rw [q1.1]; exact h12) ?_)⟩
      · rw [q1.1, es]
        exact ⟨fun _ => x_fine q2, fun q => by omega⟩
      · rw [q1.1]
        exact ⟨fun _ => q2 M q1, fun q => absurd (show jshl 1 (m.1 30) - 1 < S by omega) q⟩
    | succ d ih =>
      intro S acc S0 hS ac0 ac1
      by_cases hl : lsS (fun T => oneBy (bkM m) T (a 1) (a 2)) (m.1 30) S
      · obtain ⟨v, v1, v2⟩ := ih (S + 1) (acc + 1) (by omega) (by omega) (by omega) (by omega)
        refine ⟨v, fun s1 q1 hk q2 => hX59 _ _ _ (x_every (by rw [q1.1, es]; exact h12) ?_), fun Y20 Y56 K M h20 h56 q1 hk q2 => hc20 Y20 Y56 K acc S (acc + 1) M h20 h56 q1 S0 (by omega) ac0 (by omega) hk (Or.inl ⟨hl, rfl⟩) (fun m' q3 hk3 => v2 Y20 Y56 K m' h20 h56 q3 hk3 q2)⟩
        rw [q1.1, es]
        exact ⟨fun q => by omega, fun _ => x_isLeast (P := fun T => oneBy (bkM m) T (a 1) (a 2)) h12 (by rw [q1.1]; exact es) S0 (by omega) (fun T t0 t1 => hk T t0 (by omega)) (fun _ => ⟨fun q => absurd q (by decide), fun _ => ⟨inI_s (by omega), inI_s (by omega), v1 s1 q1 hk q2⟩⟩) (fun q => absurd hl q)⟩
      · obtain ⟨v, v1, v2⟩ := ih (S + 1) acc (by omega) (by omega) (by omega) (by omega)
        refine ⟨v, fun s1 q1 hk q2 => hX59 _ _ _ (x_every (by rw [q1.1, es]; exact h12) ?_), fun Y20 Y56 K M h20 h56 q1 hk q2 => hc20 Y20 Y56 K acc S acc M h20 h56 q1 S0 (by omega) ac0 (by omega) hk (Or.inr ⟨hl, rfl⟩) (fun m' q3 hk3 => v2 Y20 Y56 K m' h20 h56 q3 hk3 q2)⟩
        rw [q1.1, es]
        exact ⟨fun q => by omega, fun _ => x_isLeast (P := fun T => oneBy (bkM m) T (a 1) (a 2)) h12 (by rw [q1.1]; exact es) S0 (by omega) (fun T t0 t1 => hk T t0 (by omega)) (fun q => absurd q hl) (fun _ => ⟨fun _ => ⟨inI_s (by omega), inI_s (by omega), by rw [Int.add_zero]; exact v1 s1 q1 hk q2⟩, fun q => absurd rfl q⟩)⟩
  obtain ⟨v, v1, v2⟩ := hlp (jshl 1 (m.1 30)).toNat 0 0 (Int.le_refl _) (by omega) (Int.le_refl _) (Int.le_refl _)
  -- the system finds first which sets are enough
  have L20 : ∀ k, 0 ≤ k → k ≤ jshl 1 (m.1 30) → ∀ s1, qX s s1 → kp (fun T => oneBy (bkM m) T (a 1) (a 2)) k (s1.1.2 14) → X20 (a 1) (a 2) k s1 := by
    refine upto (fun k k0 k1 ih s1 q1 hk => hX20 _ _ _ _ (x_every (by rw [q1.1, es]; exact h12) ?_))
    rw [q1.1, es]
    refine ⟨fun q => v1 s1 q1 (by rw [show jshl 1 (m.1 30) = k by omega]; exact hk) (fun Y20 Y56 h20 h56 => c_why_yes h24 hv he (v2 Y20 Y56 _ (mref m 0) h20 h56 qM.rf (fun T t0 t1 => by omega) (fun m' q2 => ⟨rfl, hK _ _ (q1.x.tr eqX_o) (eqM_ref.tr q2.m) ⟨by rw [q2.1]; rfl, by rw [q2.1]; rfl⟩⟩))), fun q => ?_⟩
    refine x_by hb (q1.rxb hr) (by rw [q1.2.2 2 (by decide)]; exact hE.1) (by rw [q1.2.2 2 (by decide)]; exact hE.2) (fun r hg => ?_)
    have hq2 : qX s (psh s1 (bkM m).nt r) := q1.p pX_psh
    have go : ∀ v, ((oneBy (bkM m) k (a 1) (a 2) → v = 1) ∧ (¬ oneBy (bkM m) k (a 1) (a 2) → v = 0)) → X20 (a 1) (a 2) (k + 1) (xa (psh s1 (bkM m).nt r) 14 k v) := fun v hv2 => ih (by omega) _ ⟨by show (psh s1 (bkM m).nt r).1.1 = _; exact hq2.1, fun i g => (if_neg g).trans (hq2.2.1 i g), fun j g => hq2.2.2 j g⟩ (kp_s hk hv2)
    refine x_areOne ⟨hv.1.1, by omega⟩ ⟨hv.2.1, by omega⟩ (fun e => ⟨⟨Or.inr rfl, k0, by omega⟩, ?_⟩) (fun e => ⟨⟨Or.inl rfl, k0, by omega⟩, ?_⟩)
    · rintro _ rfl
      exact ⟨inI_s (by omega), go 1 ⟨fun _ => rfl, fun g => absurd ((good_one hg hv.1.1 hv.1.2 hv.2.1 hv.2.2).mp e) g⟩⟩
    · rintro _ rfl
      exact ⟨inI_s (by omega), go 0 ⟨fun g => absurd ((good_one hg hv.1.1 hv.1.2 hv.2.1 hv.2.2).mpr g) e, fun _ => rfl⟩⟩
  exact L20 0 (Int.le_refl _) (by omega) s qX.rf (fun T t0 t1 => by omega)
