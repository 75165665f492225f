/-! THE PURE PART, 76: costs, the system's walk -/
set_option maxRecDepth 100000
def stC (s : XS) (E A : Int → Int) : XS := xR (xR s 18 E) 17 A
theorem stC_17 {s : XS} {E A A' : Int → Int} : xR (stC s E A) 17 A' = stC s E A' := by
  unfold stC xR
  rw [maR_maR]
theorem stC_18 {s : XS} {E A E' : Int → Int} : xR (stC s E A) 18 E' = stC s E' A := by
  unfold stC xR
  refine Prod.ext (Prod.ext rfl (funext fun k => ?_)) rfl
  show (if k = 18 then E' else if k = 17 then A else if k = 18 then E else s.1.2 k) = (if k = 17 then A else if k = 18 then E' else s.1.2 k)
  by_cases c : k = 18
  · rw [if_pos c, if_neg (by omega : ¬ k = 17), if_pos c]
  · rw [if_neg c, if_neg c, if_neg c]
theorem stC_a17 {s : XS} {E A : Int → Int} : (stC s E A).1.2 17 = A := xR_at
theorem stC_a18 {s : XS} {E A : Int → Int} : (stC s E A).1.2 18 = E := (xR_ne (by decide)).trans xR_at
theorem SA_0 {b : PB} {R A : Int → Int} (h : ∀ i j, 0 ≤ i → i < b.nt → 0 ≤ j → j < b.nt → A (24 * i + j) = if i = j then 0 else 1000000000) : SA b R A := by
  refine ⟨fun i j i0 i1 j0 j1 => ?_, fun i i0 i1 => ?_, fun i j i0 i1 j0 j1 q => ?_, fun X hX i j i0 i1 j0 j1 => ?_⟩
  · rw [h i j i0 i1 j0 j1]; split <;> omega
  · rw [h i i i0 i1 i0 i1, if_pos rfl]
  · rw [h i j i0 i1 j0 j1] at q
    by_cases c : i = j
    · rw [c]
    · rw [if_neg c] at q; omega
  · rw [h i j i0 i1 j0 j1]
    by_cases c : i = j
    · rw [if_pos c, c]; exact hX.2.1 j j0 j1
    · rw [if_neg c]; exact (hX.1 i j i0 i1 j0 j1).2
theorem x_laysCosts {b : PB} {R : Int → Int} {s : XS} {K : XS → Prop} (hb : b.ok) (hg : good b b.nt (sE b) R) (hr : RXb b s) (hR : (s.2 4).2 0 = R) (h : ∀ A E, SA b R A → PF b A → (∀ i j, 0 ≤ i → i < b.nt → 0 ≤ j → j < b.nt → E (24 * i + j) = evC b R A i j) → K (stC s E A)) : C_X1_laysCosts s K := by
  intro X2 X12 X57 X69 X79 X152 h2 h12 h57 h69 h79 h152
  have h24 := hb.nt
  have ex : ∀ E A, (stC s E A).1.1 31 = b.nt := fun E A => hr.1.2.1
  have hrs : ∀ E A, RXb b (stC s E A) := fun E A => (hr.xR (by decide)).xR (by decide)
  -- the edges' pass
  have edges : ∀ (A0 E : Int → Int), SA b R A0 → (∀ i j, 0 ≤ i → i < b.nt → 0 ≤ j → j < b.nt → E (24 * i + j) = evC b R A0 i j) → (∀ f A, SA b R A → ((f = 0 ∧ A = A0 ∧ ∀ i j, 0 ≤ i → i < b.nt → 0 ≤ j → j < b.nt → A0 (24 * i + j) ≤ evC b R A0 i j) ∨ (f = 1 ∧ msrC A < msrC A0)) → X152 f (stC s E A)) → X69 0 0 (stC s E A0) := by
    intro A0 E hA0 hE go
    have L69 : ∀ i, 0 ≤ i → i ≤ b.nt → ∀ f A, SA b R A → ((f = 0 ∧ A = A0 ∧ ∀ p q, 0 ≤ p → p < b.nt → 0 ≤ q → q < b.nt → p < i → A0 (24 * p + q) ≤ evC b R A0 p q) ∨ (f = 1 ∧ msrC A < msrC A0)) → X69 f i (stC s E A) := by
      refine upto (fun i i0 i1 ih f A hA hf => h69 _ _ _ (x_terms ?_))
      rw [ex]
      refine ⟨fun e => go f A hA (hf.elim (fun g => Or.inl ⟨g.1, g.2.1, fun p q p0 p1 q0 q1 => g.2.2 p q p0 p1 q0 q1 (by omega)⟩) Or.inr), fun e => ?_⟩
      have L79 : ∀ j, 0 ≤ j → j ≤ b.nt → ∀ f A, SA b R A → ((f = 0 ∧ A = A0 ∧ ∀ p q, 0 ≤ p → p < b.nt → 0 ≤ q → q < b.nt → (p < i ∨ (p = i ∧ q < j)) → A0 (24 * p + q) ≤ evC b R A0 p q) ∨ (f = 1 ∧ msrC A < msrC A0)) → X79 f i j (stC s E A) := by
        refine upto (fun j j0 j1 ih2 f A hA hf => h79 _ _ _ _ (x_terms ?_))
        rw [ex]
        refine ⟨fun e2 => ⟨inI_s (by omega), ih (by omega) f A hA (hf.elim (fun g => Or.inl ⟨g.1, g.2.1, fun p q p0 p1 q0 q1 hc => g.2.2 p q p0 p1 q0 q1 (by omega)⟩) Or.inr)⟩, fun e2 => ?_⟩
        have hI1 : inI (24 * i) := inI_s (by omega)
        have hI2 : inI (24 * i + j) := inI_s (by omega)
        have hx : 0 ≤ 24 * i + j ∧ 24 * i + j < 576 := ⟨by omega, by omega⟩
        have hev := SA_ev hb hg hA0 i0 (show i < b.nt by omega) j0 (show j < b.nt by omega)
        have hEij := hE i j i0 (by omega) j0 (by omega)
        rw [stC_a17, stC_a18]
        refine ⟨hI1, hI2, hx, hI1, hI2, hx, fun q => ⟨hI1, hI2, hI1, hI2, hx, hx, ?_⟩, fun q => ⟨inI_s (by omega), ih2 (by omega) f A hA (hf.elim (fun g => Or.inl ⟨g.1, g.2.1, fun p q' p0 p1 q0 q1 hc => ?_⟩) Or.inr)⟩⟩
        · rintro _ rfl
          have e3 : xa (stC s E A) 17 (24 * i + j) (E (24 * i + j)) = stC s E (iup A (24 * i + j) (E (24 * i + j))) := by
            unfold stC
            rw [xa_xR]
          rw [e3]
          have hm := msrC_lt (A := A) (x := 24 * i + j) (v := E (24 * i + j)) hx.1 hx.2 (by omega) q
          refine ⟨inI_s (by omega), ih2 (by omega) 1 _ (SA_put hb hA i0 (by omega) j0 (by omega) q (by omega) (by rw [hEij]; exact hev.2.1) (by rw [hEij]; exact hev.2.2)) (Or.inr ⟨rfl, ?_⟩)⟩
          rcases hf with g | g
          · rw [← g.2.1]; exact hm
          · have := g.2; omega
        · by_cases c : p = i ∧ q' = j
          · rw [c.1, c.2, ← hEij]
            have := g.2.1
            rw [this] at q
            omega
          · exact g.2.2 p q' p0 p1 q0 q1 (by omega)
      exact L79 0 (Int.le_refl _) h24.1 f A hA (hf.elim (fun g => Or.inl ⟨g.1, g.2.1, fun p q p0 p1 q0 q1 hc => g.2.2 p q p0 p1 q0 q1 (by omega)⟩) Or.inr)
    exact L69 0 (Int.le_refl _) h24.1 0 A0 hA0 (Or.inl ⟨rfl, rfl, fun p q p0 p1 q0 q1 hc => by omega⟩)
  -- again and again
  have main : ∀ (N : Nat) (A E : Int → Int), SA b R A → msrC A < N → X57 1 (stC s E A) := by
    intro N
    induction N with
    | zero => intro A E _ hN; have := msrC_nn (A := A); omega
    | succ N ihN =>
      intro A0 E hA0 hN
      refine h57 _ _ ⟨fun q => absurd q (by decide), fun _ => x_laysEdges hb (hrs E A0) (R := R) hR (by rw [stC_a17]; exact hA0.1) (fun E1 hE1 => ?_)⟩
      rw [stC_18]
      rw [stC_a17] at hE1
      refine edges A0 E1 hA0 hE1 (fun f A hA hf => ?_)
      have P152 : ∀ (M : Nat) (f : Int) (A : Int → Int), SA b R A → msrC A < M → ((f = 0 ∧ A = A0 ∧ ∀ i j, 0 ≤ i → i < b.nt → 0 ≤ j → j < b.nt → A0 (24 * i + j) ≤ evC b R A0 i j) ∨ (f = 1 ∧ msrC A < msrC A0)) → X152 f (stC s E1 A) := by
        intro M
        induction M with
        | zero => intro f A _ hM; have := msrC_nn (A := A); omega
        | succ M ihM =>
          intro f A hA hM hf
          refine h152 _ _ (x_spreads (b := b) (Inv := SA b R) (A0 := A) h24 (Or.inl rfl) ⟨by decide, by decide⟩ (ex E1 A) stC_a17 hA (fun A hA => hA.1) (fun A hA i k j i0 i1 k0 k1 j0 j1 hv => SA_via hb hA i0 i1 k0 k1 j0 j1 hv) (fun g A' hA' hg' => ?_))
          rw [stC_17]
          rcases hg' with ⟨g0, gA, gT⟩ | ⟨g1, gm⟩
          · refine ⟨fun _ => ?_, fun q => absurd g0 q⟩
            rw [gA]
            rcases hf with ⟨f0, fA, fE⟩ | ⟨f1, fm⟩
            · rw [f0, fA]
              rw [fA] at gT
              exact h57 _ _ ⟨fun _ => h A0 E1 hA0 (SA_end hb hA0 fE (fun k i j k0 k1 i0 i1 j0 j1 => gT k i j k0 k1 i0 i1 j0 j1)) hE1, fun q => absurd rfl q⟩
            · rw [f1]
              exact ihN A E1 hA (by omega)
          · refine ⟨fun q => by omega, fun _ => ihM 1 A' hA' (by omega) (Or.inr ⟨rfl, ?_⟩)⟩
            rcases hf with ⟨f0, fA, fE⟩ | ⟨f1, fm⟩
            · rw [fA] at gm; exact gm
            · omega
      exact P152 (msrC A).toNat.succ f A hA (by have := msrC_nn (A := A); omega) hf
  -- the beginning
  have L2 : ∀ i, 0 ≤ i → i ≤ b.nt → ∀ A, (∀ p q, 0 ≤ p → p < i → 0 ≤ q → q < b.nt → A (24 * p + q) = if p = q then 0 else 1000000000) → X2 i (stC s (s.1.2 18) A) := by
    refine upto (fun i i0 i1 ih A hA => h2 _ _ (x_terms ?_))
    rw [ex]
    refine ⟨fun e => main (msrC A).toNat.succ A _ (SA_0 (fun p q p0 p1 q0 q1 => hA p q p0 (by omega) q0 q1)) (by have := msrC_nn (A := A); omega), fun e => ?_⟩
    have L12 : ∀ j, 0 ≤ j → j ≤ b.nt → ∀ A, (∀ p q, 0 ≤ p → p < b.nt → 0 ≤ q → q < b.nt → (p < i ∨ (p = i ∧ q < j)) → A (24 * p + q) = if p = q then 0 else 1000000000) → X12 i j (stC s (s.1.2 18) A) := by
      refine upto (fun j j0 j1 ih2 A hA => h12 _ _ _ (x_terms ?_))
      rw [ex]
      refine ⟨fun e2 => ⟨inI_s (by omega), ih (by omega) A (fun p q p0 p1 q0 q1 => hA p q p0 (by omega) q0 q1 (by omega))⟩, fun e2 => ⟨inI_s (by omega), inI_s (by omega), fun eq => ⟨⟨by omega, by omega⟩, ?_⟩, fun ne => ⟨⟨by omega, by omega⟩, ?_⟩⟩⟩
      · rintro _ rfl
        have e3 : xa (stC s (s.1.2 18) A) 17 (24 * i + j) 0 = stC s (s.1.2 18) (iup A (24 * i + j) 0) := by
          unfold stC
          rw [xa_xR]
        rw [e3]
        refine ⟨inI_s (by omega), ih2 (by omega) _ (fun p q p0 p1 q0 q1 hc => ?_)⟩
        by_cases c : p = i ∧ q = j
        · rw [c.1, c.2, iup_at, if_pos eq]
        · rw [iup_ne (ix_ne j0 (by omega) q0 (by omega) c)]; exact hA p q p0 p1 q0 q1 (by omega)
      · rintro _ rfl
        have e3 : xa (stC s (s.1.2 18) A) 17 (24 * i + j) 1000000000 = stC s (s.1.2 18) (iup A (24 * i + j) 1000000000) := by
          unfold stC
          rw [xa_xR]
        rw [e3]
        refine ⟨inI_s (by omega), ih2 (by omega) _ (fun p q p0 p1 q0 q1 hc => ?_)⟩
        by_cases c : p = i ∧ q = j
        · rw [c.1, c.2, iup_at, if_neg ne]
        · rw [iup_ne (ix_ne j0 (by omega) q0 (by omega) c)]; exact hA p q p0 p1 q0 q1 (by omega)
    exact L12 0 (Int.le_refl _) h24.1 A (fun p q p0 p1 q0 q1 hc => hA p q p0 (by omega) q0 q1)
  have := L2 0 (Int.le_refl _) h24.1 (s.1.2 17) (fun p q p0 p1 q0 q1 => by omega)
  have e : stC s (s.1.2 18) (s.1.2 17) = s := by
    unfold stC
    rw [xR_id, xR_id]
  rw [e] at this
  exact this
