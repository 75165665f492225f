/-! THE PURE PART, 78: costs, the reference lessens -/
set_option maxRecDepth 100000
def stK (m : MS) (E D : Int → Int) : MS := maR (maR m 50 E) 49 D
theorem stK_50 {m : MS} {E D : Int → Int} {x v : Int} : ma (stK m E D) 50 x v = stK m (iup E x v) D := by
  unfold stK
  refine Prod.ext rfl (funext fun k => ?_)
  show (if k = 50 then iup (if (50 : Nat) = 49 then D else if (50 : Nat) = 50 then E else m.2 50) x v else if k = 49 then D else if k = 50 then E else m.2 k) = (if k = 49 then D else if k = 50 then iup E x v else m.2 k)
  by_cases c : k = 50
  · rw [if_pos c, if_neg (by omega : ¬ k = 49), if_pos c, if_neg (by decide), if_pos rfl]
  · rw [if_neg c, if_neg c, if_neg c]
theorem stK_49 {m : MS} {E D : Int → Int} {x v : Int} : ma (stK m E D) 49 x v = stK m E (iup D x v) := by
  unfold stK
  rw [ma_maR]
theorem stK_a49 {m : MS} {E D : Int → Int} : (stK m E D).2 49 = D := maR_at
theorem stK_a50 {m : MS} {E D : Int → Int} : (stK m E D).2 50 = E := (maR_ne (by decide)).trans maR_at
theorem c_lessens {b : PB} {R : Int → Int} {m : MS} {E0 D0 : Int → Int} {K : Int → MS → Prop} (eb : bkM m = b) (hb : b.ok) (hg : good b b.nt (sE b) R) (hD0 : DM b R D0) (h : ∀ f E D, DM b R D → ((f = 0 ∧ D = D0 ∧ (∀ i j, 0 ≤ i → i < b.nt → 0 ≤ j → j < b.nt → (E (24 * i + j) = if i = j then 0 else sdC b D0 i j) ∧ (i ≠ j → D0 (24 * i + j) ≤ sdC b D0 i j)) ∧ ∀ k i j, 0 ≤ k → k < b.nt → 0 ≤ i → i < b.nt → 0 ≤ j → j < b.nt → D0 (24 * i + j) ≤ vaC D0 i k j) ∨ (f = 1 ∧ msrC D < msrC D0)) → K f (stK m E D)) : C_lessens (stK m E0 D0) K := by
  intro X4 X14 X107 X117 X128 h4 h14 h107 h117 h128
  have h24 := hb.nt
  have e27 : ∀ E D, (stK m E D).1 27 = b.nt := fun E D => by rw [← eb]; rfl
  have ebk : ∀ E D, bkM (stK m E D) = b := fun E D => by rw [← eb]; rfl
  have ndn : ∀ {D : Int → Int} {i j v : Int}, DM b R D → 0 ≤ i → i < b.nt → 0 ≤ j → j < b.nt → ¬ D (24 * i + j) ≤ v → okC v → msrC (iup D (24 * i + j) v) < msrC D := fun {D i j v} hD i0 i1 j0 j1 hv hok => msrC_lt (by omega) (by omega) (by unfold okC at hok; omega) (by omega)
  -- ways through a third
  have L107 : ∀ k, 0 ≤ k → k ≤ b.nt → ∀ f E D, DM b R D → ((f = 0 ∧ D = D0 ∧ (∀ i j, 0 ≤ i → i < b.nt → 0 ≤ j → j < b.nt → (E (24 * i + j) = if i = j then 0 else sdC b D0 i j) ∧ (i ≠ j → D0 (24 * i + j) ≤ sdC b D0 i j)) ∧ ∀ k' i j, 0 ≤ k' → k' < b.nt → 0 ≤ i → i < b.nt → 0 ≤ j → j < b.nt → k' < k → D0 (24 * i + j) ≤ vaC D0 i k' j) ∨ (f = 1 ∧ msrC D < msrC D0)) → X107 f k (stK m E D) := by
    refine upto (fun k k0 k1 ih f E D hD hf => h107 _ _ _ ?_)
    unfold B_lessens_107
    rw [e27]
    refine ⟨fun e => ⟨hf.elim (fun g => Or.inl g.1) (fun g => Or.inr g.1), h f E D hD (hf.elim (fun g => Or.inl ⟨g.1, g.2.1, g.2.2.1, fun k' i j a0 a1 b0 b1 c0 c1 => g.2.2.2 k' i j a0 a1 b0 b1 c0 c1 (by omega)⟩) Or.inr)⟩, fun e => ?_⟩
    have L117 : ∀ i, 0 ≤ i → i ≤ b.nt → ∀ f E D, DM b R D → ((f = 0 ∧ D = D0 ∧ (∀ i j, 0 ≤ i → i < b.nt → 0 ≤ j → j < b.nt → (E (24 * i + j) = if i = j then 0 else sdC b D0 i j) ∧ (i ≠ j → D0 (24 * i + j) ≤ sdC b D0 i j)) ∧ ∀ k' i' j, 0 ≤ k' → k' < b.nt → 0 ≤ i' → i' < b.nt → 0 ≤ j → j < b.nt → (k' < k ∨ (k' = k ∧ i' < i)) → D0 (24 * i' + j) ≤ vaC D0 i' k' j) ∨ (f = 1 ∧ msrC D < msrC D0)) → X117 f k i (stK m E D) := by
      refine upto (fun i i0 i1 ih2 f E D hD hf => h117 _ _ _ _ ?_)
      unfold B_lessens_117
      rw [e27]
      refine ⟨fun e2 => ⟨inI_s (by omega), ih (by omega) f E D hD (hf.elim (fun g => Or.inl ⟨g.1, g.2.1, g.2.2.1, fun k' i' j a0 a1 b0 b1 c0 c1 hc => g.2.2.2 k' i' j a0 a1 b0 b1 c0 c1 (by omega)⟩) Or.inr)⟩, fun e2 => ?_⟩
      have L128 : ∀ j, 0 ≤ j → j ≤ b.nt → ∀ f E D, DM b R D → ((f = 0 ∧ D = D0 ∧ (∀ i j, 0 ≤ i → i < b.nt → 0 ≤ j → j < b.nt → (E (24 * i + j) = if i = j then 0 else sdC b D0 i j) ∧ (i ≠ j → D0 (24 * i + j) ≤ sdC b D0 i j)) ∧ ∀ k' i' j', 0 ≤ k' → k' < b.nt → 0 ≤ i' → i' < b.nt → 0 ≤ j' → j' < b.nt → (k' < k ∨ (k' = k ∧ (i' < i ∨ (i' = i ∧ j' < j)))) → D0 (24 * i' + j') ≤ vaC D0 i' k' j') ∨ (f = 1 ∧ msrC D < msrC D0)) → X128 f k i j (stK m E D) := by
        refine upto (fun j j0 j1 ih3 f E D hD hf => h128 _ _ _ _ _ ?_)
        unfold B_lessens_128
        rw [e27]
        refine ⟨fun e3 => ⟨inI_s (by omega), ih2 (by omega) f E D hD (hf.elim (fun g => Or.inl ⟨g.1, g.2.1, g.2.2.1, fun k' i' j' a0 a1 b0 b1 c0 c1 hc => g.2.2.2 k' i' j' a0 a1 b0 b1 c0 c1 (by omega)⟩) Or.inr)⟩, fun e3 => ?_⟩
        have hv := DM_va hD i0 (show i < b.nt by omega) k0 (show k < b.nt by omega) j0 (show j < b.nt by omega)
        have dij := hD.1 i j i0 (by omega) j0 (by omega)
        have dik := hD.1 i k i0 (by omega) k0 (by omega)
        have dkj := hD.1 k j k0 (by omega) j0 (by omega)
        have hx : 0 ≤ 24 * i + j ∧ 24 * i + j < 576 := ⟨by omega, by omega⟩
        have keep : D (24 * i + j) ≤ vaC D i k j → inI (j + 1) ∧ X128 f k i (j + 1) (stK m E D) := fun q => ⟨inI_s (by omega), ih3 (by omega) f E D hD (hf.elim (fun g => Or.inl ⟨g.1, g.2.1, g.2.2.1, fun k' i' j' a0 a1 b0 b1 c0 c1 hc => by
          by_cases c : k' = k ∧ i' = i ∧ j' = j
          · rw [c.1, c.2.1, c.2.2, ← g.2.1]; exact q
          · exact g.2.2.2 k' i' j' a0 a1 b0 b1 c0 c1 (by omega)⟩) Or.inr)⟩
        have put : ¬ D (24 * i + j) ≤ vaC D i k j → inI (j + 1) ∧ X128 1 k i (j + 1) (ma (stK m E D) 49 (24 * i + j) (vaC D i k j)) := fun q => by
          rw [stK_49]
          refine ⟨inI_s (by omega), ih3 (by omega) 1 E _ (DM_put hb hD i0 (by omega) j0 (by omega) (by omega) hv.1 hv.2.1 hv.2.2) (Or.inr ⟨rfl, ?_⟩)⟩
          have hm := ndn hD i0 (show i < b.nt by omega) j0 (show j < b.nt by omega) q hv.1
          rcases hf with g | g
          · rw [← g.2.1]; exact hm
          · have := g.2; omega
        unfold okC at dij dik dkj
        have hfar : D (24 * i + j) ≤ 4000000000 := by omega
        refine c_pair ⟨i0, by omega⟩ ⟨k0, by omega⟩ ⟨⟨by omega, by omega⟩, c_pair ⟨k0, by omega⟩ ⟨j0, by omega⟩ ⟨⟨by omega, by omega⟩, ?_⟩⟩
        rw [stK_a49]
        refine ⟨fun q1 => c_pair ⟨i0, by omega⟩ ⟨j0, by omega⟩ ⟨hx, ?_⟩, fun q1 => ⟨fun q2 => ⟨⟨by omega, by omega⟩, c_held (c_pair ⟨i0, by omega⟩ ⟨j0, by omega⟩ ⟨hx, ?_⟩)⟩, fun q2 => c_pair ⟨i0, by omega⟩ ⟨j0, by omega⟩ ⟨hx, ?_⟩⟩⟩
        · rw [stK_a49]
          refine ⟨fun _ => keep ?_, fun q => absurd hfar q⟩
          unfold vaC
          rw [if_pos q1]; exact hfar
        · rw [stK_a49]
          have e5 : vaC D i k j = hlC (D (24 * i + k) + D (24 * k + j)) := by
            unfold vaC
            rw [if_neg q1, if_pos q2]
          rw [← e5]
          refine ⟨fun q => keep q, fun q => c_pair ⟨i0, by omega⟩ ⟨j0, by omega⟩ ⟨hx, ?_⟩⟩
          rintro _ rfl
          exact put q
        · rw [stK_a49]
          refine ⟨fun _ => keep ?_, fun q => absurd hfar q⟩
          unfold vaC
          rw [if_neg q1, if_neg q2]; exact hfar
      exact L128 0 (Int.le_refl _) h24.1 f E D hD (hf.elim (fun g => Or.inl ⟨g.1, g.2.1, g.2.2.1, fun k' i' j a0 a1 b0 b1 c0 c1 hc => g.2.2.2 k' i' j a0 a1 b0 b1 c0 c1 (by omega)⟩) Or.inr)
    exact L117 0 (Int.le_refl _) h24.1 f E D hD (hf.elim (fun g => Or.inl ⟨g.1, g.2.1, g.2.2.1, fun k' i' j a0 a1 b0 b1 c0 c1 hc => g.2.2.2 k' i' j a0 a1 b0 b1 c0 c1 (by omega)⟩) Or.inr)
  -- edges
  have L4 : ∀ i, 0 ≤ i → i ≤ b.nt → ∀ f E D, DM b R D → ((f = 0 ∧ D = D0 ∧ (∀ p q, 0 ≤ p → p < b.nt → 0 ≤ q → q < b.nt → p < i → (E (24 * p + q) = if p = q then 0 else sdC b D0 p q) ∧ (p ≠ q → D0 (24 * p + q) ≤ sdC b D0 p q))) ∨ (f = 1 ∧ msrC D < msrC D0)) → X4 f i (stK m E D) := by
    refine upto (fun i i0 i1 ih f E D hD hf => h4 _ _ _ ?_)
    unfold B_lessens_4
    rw [e27]
    refine ⟨fun e => L107 0 (Int.le_refl _) h24.1 f E D hD (hf.elim (fun g => Or.inl ⟨g.1, g.2.1, fun p q p0 p1 q0 q1 => g.2.2 p q p0 p1 q0 q1 (by omega), fun k' i' j a0 a1 b0 b1 c0 c1 hc => by omega⟩) Or.inr), fun e => ?_⟩
    have L14 : ∀ j, 0 ≤ j → j ≤ b.nt → ∀ f E D, DM b R D → ((f = 0 ∧ D = D0 ∧ (∀ p q, 0 ≤ p → p < b.nt → 0 ≤ q → q < b.nt → (p < i ∨ (p = i ∧ q < j)) → (E (24 * p + q) = if p = q then 0 else sdC b D0 p q) ∧ (p ≠ q → D0 (24 * p + q) ≤ sdC b D0 p q))) ∨ (f = 1 ∧ msrC D < msrC D0)) → X14 f i j (stK m E D) := by
      refine upto (fun j j0 j1 ih2 f E D hD hf => h14 _ _ _ _ ?_)
      unfold B_lessens_14
      rw [e27]
      refine ⟨fun e2 => ⟨inI_s (by omega), ih (by omega) f E D hD (hf.elim (fun g => Or.inl ⟨g.1, g.2.1, fun p q p0 p1 q0 q1 hc => g.2.2 p q p0 p1 q0 q1 (by omega)⟩) Or.inr)⟩, fun e2 => ?_⟩
      have hx : 0 ≤ 24 * i + j ∧ 24 * i + j < 576 := ⟨by omega, by omega⟩
      have hi : 0 ≤ i ∧ i < 24 := ⟨i0, by omega⟩
      have hj : 0 ≤ j ∧ j < 24 := ⟨j0, by omega⟩
      refine c_pair hi hj ⟨fun eq => ⟨hx, ?_⟩, fun ne => c_sideOf (R := R) (ebk E D) hb (by rw [stK_a49]; exact hD) i0 (by omega) j0 (by omega) ⟨hx, ?_⟩⟩
      · rintro _ rfl
        rw [stK_50]
        refine c_pair hi hj ⟨hx, c_pair hi hj ⟨hx, ?_⟩⟩
        rw [stK_a49, stK_a50]
        have e0 := hD.2.1 j j0 (show j < b.nt by omega)
        refine ⟨fun q => ⟨inI_s (by omega), ih2 (by omega) f (iup E (24 * i + j) 0) D hD (hf.elim (fun g => Or.inl ⟨g.1, g.2.1, fun p q p0 p1 q0 q1 hc => ?_⟩) Or.inr)⟩, fun q => absurd ?_ q⟩
        · by_cases c : p = i ∧ q = j
          · rw [c.1, c.2, iup_at, if_pos eq]
            exact ⟨rfl, fun ne => absurd eq ne⟩
          · rw [iup_ne (ix_ne j0 (by omega) q0 (by omega) c)]; exact g.2.2 p q p0 p1 q0 q1 (by omega)
        · rw [iup_at, eq, e0]; decide
      · rintro _ rfl
        rw [stK_50, stK_a49]
        have hs := DM_sd hb hg hD i0 (show i < b.nt by omega) j0 (show j < b.nt by omega) ne
        refine c_pair hi hj ⟨hx, c_pair hi hj ⟨hx, ?_⟩⟩
        rw [stK_a49, stK_a50, iup_at]
        refine ⟨fun q => ⟨inI_s (by omega), ih2 (by omega) f (iup E (24 * i + j) (sdC b D i j)) D hD (hf.elim (fun g => Or.inl ⟨g.1, g.2.1, fun p q' p0 p1 q0 q1 hc => ?_⟩) Or.inr)⟩, fun q => c_pair hi hj (c_pair hi hj ⟨hx, hx, ?_⟩)⟩
        · by_cases c : p = i ∧ q' = j
          · rw [c.1, c.2, iup_at, if_neg ne, ← g.2.1]
            exact ⟨rfl, fun _ => q⟩
          · rw [iup_ne (ix_ne j0 (by omega) q0 (by omega) c)]; exact g.2.2 p q' p0 p1 q0 q1 (by omega)
        · rintro _ rfl
          rw [stK_49, stK_a50, iup_at]
          refine ⟨inI_s (by omega), ih2 (by omega) 1 _ _ (DM_put hb hD i0 (by omega) j0 (by omega) (by omega) hs.1 hs.2.1 hs.2.2) (Or.inr ⟨rfl, ?_⟩)⟩
          have hm := ndn hD i0 (show i < b.nt by omega) j0 (show j < b.nt by omega) q hs.1
          rcases hf with g | g
          · rw [← g.2.1]; exact hm
          · have := g.2; omega
    exact L14 0 (Int.le_refl _) h24.1 f E D hD (hf.elim (fun g => Or.inl ⟨g.1, g.2.1, fun p q p0 p1 q0 q1 hc => g.2.2 p q p0 p1 q0 q1 (by omega)⟩) Or.inr)
  exact L4 0 (Int.le_refl _) h24.1 0 E0 D0 hD0 (Or.inl ⟨rfl, rfl, fun p q p0 p1 q0 q1 hc => by omega⟩)
