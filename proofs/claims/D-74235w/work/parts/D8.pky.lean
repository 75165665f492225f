/-! THE PURE PART, 75: costs, the system's walks: spreading -/
set_option maxRecDepth 100000
/-- one pass over all ways through a third -/
theorem x_spreads {b : PB} {a : Nat} {cap : Int} {Inv : (Int → Int) → Prop} {s : XS} {A0 : Int → Int} {K : Int → XS → Prop} (hn : 0 ≤ b.nt ∧ b.nt ≤ 24) (ha : a = 17 ∨ a = 19) (hcap : 0 < cap ∧ cap ≤ 10000000000000) (ex : s.1.1 31 = b.nt) (h0 : s.1.2 a = A0) (hI0 : Inv A0)
    (hI : ∀ A, Inv A → ∀ i j, 0 ≤ i → i < b.nt → 0 ≤ j → j < b.nt → 0 ≤ A (24 * i + j) ∧ A (24 * i + j) ≤ cap)
    (hP : ∀ A, Inv A → ∀ i k j, 0 ≤ i → i < b.nt → 0 ≤ k → k < b.nt → 0 ≤ j → j < b.nt → A (24 * i + k) + A (24 * k + j) < A (24 * i + j) → Inv (iup A (24 * i + j) (A (24 * i + k) + A (24 * k + j))))
    (h : ∀ f A, Inv A → ((f = 0 ∧ A = A0 ∧ ∀ k i j, 0 ≤ k → k < b.nt → 0 ≤ i → i < b.nt → 0 ≤ j → j < b.nt → A0 (24 * i + j) ≤ A0 (24 * i + k) + A0 (24 * k + j)) ∨ (f = 1 ∧ msrC A < msrC A0)) → K f (xR s a A)) : C_X1_spreads a cap s K := by
  intro X6 X18 X30 h6 h18 h30
  have ex' : ∀ A, (xR s a A).1.1 31 = b.nt := fun _ => ex
  have L6 : ∀ k, 0 ≤ k → k ≤ b.nt → ∀ f A, (Inv A ∧ ((f = 0 ∧ A = A0 ∧ ∀ k' i' j', 0 ≤ k' → k' < b.nt → 0 ≤ i' → i' < b.nt → 0 ≤ j' → j' < b.nt → (k' < k ∨ (k' = k ∧ (i' < 0 ∨ (i' = 0 ∧ j' < 0)))) → A0 (24 * i' + j') ≤ A0 (24 * i' + k') + A0 (24 * k' + j')) ∨ (f = 1 ∧ msrC A < msrC A0))) → X6 a cap f k (xR s a A) := by
    refine upto (fun k k0 k1 ih f A hA => h6 _ _ _ _ _ (x_terms ?_))
    rw [ex']
    refine ⟨fun e => ⟨hA.2.elim (fun q => Or.inl q.1) (fun q => Or.inr q.1), h f A hA.1 (hA.2.elim (fun q => Or.inl ⟨q.1, q.2.1, fun k' i' j' a0 a1 b0 b1 c0 c1 => q.2.2 k' i' j' a0 a1 b0 b1 c0 c1 (Or.inl (by omega))⟩) Or.inr)⟩, fun e => ?_⟩
    have L18 : ∀ i, 0 ≤ i → i ≤ b.nt → ∀ f A, (Inv A ∧ ((f = 0 ∧ A = A0 ∧ ∀ k' i' j', 0 ≤ k' → k' < b.nt → 0 ≤ i' → i' < b.nt → 0 ≤ j' → j' < b.nt → (k' < k ∨ (k' = k ∧ (i' < i ∨ (i' = i ∧ j' < 0)))) → A0 (24 * i' + j') ≤ A0 (24 * i' + k') + A0 (24 * k' + j')) ∨ (f = 1 ∧ msrC A < msrC A0))) → X18 a cap f k i (xR s a A) := by
      refine upto (fun i i0 i1 ih2 f A hA => h18 _ _ _ _ _ _ (x_terms ?_))
      rw [ex']
      refine ⟨fun e2 => ⟨inI_s (by omega), ih (by omega) f A ⟨hA.1, hA.2.elim (fun q => Or.inl ⟨q.1, q.2.1, fun k' i' j' a0 a1 b0 b1 c0 c1 hc => q.2.2 k' i' j' a0 a1 b0 b1 c0 c1 (by omega)⟩) Or.inr⟩⟩, fun e2 => ?_⟩
      have L30 : ∀ j, 0 ≤ j → j ≤ b.nt → ∀ f A, (Inv A ∧ ((f = 0 ∧ A = A0 ∧ ∀ k' i' j', 0 ≤ k' → k' < b.nt → 0 ≤ i' → i' < b.nt → 0 ≤ j' → j' < b.nt → (k' < k ∨ (k' = k ∧ (i' < i ∨ (i' = i ∧ j' < j)))) → A0 (24 * i' + j') ≤ A0 (24 * i' + k') + A0 (24 * k' + j')) ∨ (f = 1 ∧ msrC A < msrC A0))) → X30 a cap f k i j (xR s a A) := by
        refine upto (fun j j0 j1 ih3 f A hA => h30 _ _ _ _ _ _ _ (x_terms ?_))
        rw [ex']
        refine ⟨fun e3 => ⟨inI_s (by omega), ih2 (by omega) f A ⟨hA.1, hA.2.elim (fun q => Or.inl ⟨q.1, q.2.1, fun k' i' j' a0 a1 b0 b1 c0 c1 hc => q.2.2 k' i' j' a0 a1 b0 b1 c0 c1 (by omega)⟩) Or.inr⟩⟩, fun e3 => ?_⟩
        have d1 := hI A hA.1 i k i0 (by omega) k0 (by omega)
        have d2 := hI A hA.1 k j k0 (by omega) j0 (by omega)
        have d3 := hI A hA.1 i j i0 (by omega) j0 (by omega)
        rw [xR_at]
        refine ⟨inI_s (by omega), inI_s (by omega), ⟨ha, by omega, by omega⟩, inI_s (by omega), inI_s (by omega), ⟨ha, by omega, by omega⟩, ⟨by omega, by omega⟩, inI_s (by omega), inI_s (by omega), ⟨ha, by omega, by omega⟩, fun q => ⟨inI_s (by omega), ih3 (by omega) f A ⟨hA.1, hA.2.elim (fun g => Or.inl ⟨g.1, g.2.1, fun k' i' j' a0 a1 b0 b1 c0 c1 hc => ?_⟩) Or.inr⟩⟩, fun q => ⟨fun _ => ⟨inI_s (by omega), inI_s (by omega), ⟨ha, by omega, by omega⟩, ?_⟩, fun q2 => absurd (by omega) q2⟩⟩
        · by_cases c : k' = k ∧ i' = i ∧ j' = j
          · rw [c.1, c.2.1, c.2.2, ← g.2.1]; exact q
          · exact g.2.2 k' i' j' a0 a1 b0 b1 c0 c1 (by omega)
        · rintro _ rfl
          rw [xa_xR]
          have hm := msrC_lt (A := A) (x := 24 * i + j) (v := A (24 * i + k) + A (24 * k + j)) (by omega) (by omega) (by omega) (by omega)
          refine ⟨inI_s (by omega), ih3 (by omega) 1 _ ⟨hP A hA.1 i k j i0 (by omega) k0 (by omega) j0 (by omega) (by omega), Or.inr ⟨rfl, ?_⟩⟩⟩
          rcases hA.2 with g | g
          · rw [← g.2.1]; exact hm
          · have := g.2; omega
      exact L30 0 (Int.le_refl _) hn.1 f A hA
    exact L18 0 (Int.le_refl _) hn.1 f A hA
  have := L6 0 (Int.le_refl _) hn.1 0 A0 ⟨hI0, Or.inl ⟨rfl, rfl, fun k' i' j' a0 a1 b0 b1 c0 c1 hc => by omega⟩⟩
  rw [← h0, xR_id] at this
  exact this
