/-! THE PURE PART, 79: cost -/
set_option maxRecDepth 100000
theorem DM_0 {b : PB} {R A : Int → Int} (h : ∀ i j, 0 ≤ i → i < b.nt → 0 ≤ j → j < b.nt → A (24 * i + j) = if i = j then 0 else 4000000000) : DM b R A := by
  refine ⟨fun i j i0 i1 j0 j1 => ?_, fun i i0 i1 => ?_, fun i j i0 i1 j0 j1 q => ?_, fun X hX i j i0 i1 j0 j1 => ?_⟩
  · rw [h i j i0 i1 j0 j1]; unfold okC; split <;> omega
  · rw [h i i i0 i1 i0 i1, if_pos rfl]
  · rw [h i j i0 i1 j0 j1] at q
    by_cases c : i = j
    · rw [c]
    · rw [if_neg c] at q; omega
  · rw [h i j i0 i1 j0 j1]
    by_cases c : i = j
    · rw [if_pos c, c]; exact hX.2.1 j j0 j1
    · rw [if_neg c]; have := (hX.1 i j i0 i1 j0 j1).2; omega
/-- the reference's costs, done -/
def DE (b : PB) (R E D : Int → Int) : Prop := DM b R D ∧ (∀ i j, 0 ≤ i → i < b.nt → 0 ≤ j → j < b.nt → (E (24 * i + j) = if i = j then 0 else sdC b D i j) ∧ (i ≠ j → D (24 * i + j) ≤ sdC b D i j)) ∧ ∀ k i j, 0 ≤ k → k < b.nt → 0 ≤ i → i < b.nt → 0 ≤ j → j < b.nt → D (24 * i + j) ≤ vaC D i k j
theorem c_laysCosts {b : PB} {R : Int → Int} {m : MS} {K : MS → Prop} (eb : bkM m = b) (hb : b.ok) (hg : good b b.nt (sE b) R) (h : ∀ E D, DE b R E D → K (stK m E D)) : C_laysCosts m K := by
  intro X2 X12 X56 h2 h12 h56
  have h24 := hb.nt
  have e27 : ∀ E D, (stK m E D).1 27 = b.nt := fun E D => by rw [← eb]; rfl
  have main : ∀ (N : Nat) (D E : Int → Int), DM b R D → msrC D < N → X56 1 (stK m E D) := by
    intro N
    induction N with
    | zero => intro D E _ hN; have := msrC_nn (A := D); omega
    | succ N ih =>
      intro D E hD hN
      refine h56 _ _ ⟨fun q => absurd q (by decide), fun _ => c_lessens eb hb hg hD (fun f E' D' hD' hf => ?_)⟩
      rcases hf with ⟨f0, fD, fE, fT⟩ | ⟨f1, fm⟩
      · rw [f0, fD]
        exact h56 _ _ ⟨fun _ => h E' D ⟨hD, fE, fT⟩, fun q => absurd rfl q⟩
      · rw [f1]
        exact ih D' E' hD' (by omega)
  have L2 : ∀ i, 0 ≤ i → i ≤ b.nt → ∀ D, (∀ p q, 0 ≤ p → p < i → 0 ≤ q → q < b.nt → D (24 * p + q) = if p = q then 0 else 4000000000) → X2 i (stK m (m.2 50) D) := by
    refine upto (fun i i0 i1 ih D hD => h2 _ _ ?_)
    unfold B_laysCosts_2
    rw [e27]
    refine ⟨fun e => main (msrC D).toNat.succ D _ (DM_0 (fun p q p0 p1 q0 q1 => hD p q p0 (by omega) q0 q1)) (by have := msrC_nn (A := D); omega), fun e => ?_⟩
    have L12 : ∀ j, 0 ≤ j → j ≤ b.nt → ∀ D, (∀ p q, 0 ≤ p → p < b.nt → 0 ≤ q → q < b.nt → (p < i ∨ (p = i ∧ q < j)) → D (24 * p + q) = if p = q then 0 else 4000000000) → X12 i j (stK m (m.2 50) D) := by
      refine upto (fun j j0 j1 ih2 D hD => h12 _ _ _ ?_)
      unfold B_laysCosts_12
      rw [e27]
      refine ⟨fun e2 => ⟨inI_s (by omega), ih (by omega) D (fun p q p0 p1 q0 q1 => hD p q p0 (by omega) q0 q1 (by omega))⟩, fun e2 => c_pair ⟨i0, by omega⟩ ⟨j0, by omega⟩ ⟨fun eq => ⟨⟨by omega, by omega⟩, ?_⟩, fun ne => ⟨⟨by omega, by omega⟩, ?_⟩⟩⟩
      · rintro _ rfl
        rw [stK_49]
        refine ⟨inI_s (by omega), ih2 (by omega) _ (fun p q p0 p1 q0 q1 hc => ?_)⟩
        by_cases c : p = i ∧ q = j
        · rw [c.1, c.2, iup_at, if_pos eq]
        · rw [iup_ne (ix_ne j0 (by omega) q0 (by omega) c)]; exact hD p q p0 p1 q0 q1 (by omega)
      · rintro _ rfl
        rw [stK_49]
        refine ⟨inI_s (by omega), ih2 (by omega) _ (fun p q p0 p1 q0 q1 hc => ?_)⟩
        by_cases c : p = i ∧ q = j
        · rw [c.1, c.2, iup_at, if_neg ne]
        · rw [iup_ne (ix_ne j0 (by omega) q0 (by omega) c)]; exact hD p q p0 p1 q0 q1 (by omega)
    exact L12 0 (Int.le_refl _) h24.1 D (fun p q p0 p1 q0 q1 hc => hD p q p0 (by omega) q0 q1)
  have := L2 0 (Int.le_refl _) h24.1 (m.2 49) (fun p q p0 p1 q0 q1 => by omega)
  have e : stK m (m.2 50) (m.2 49) = m := by
    unfold stK
    rw [maR_id, maR_id]
  rw [e] at this
  exact this
theorem stC_x {s : XS} {E A : Int → Int} : eqX s (stC s E A) := ⟨fun _ _ _ => rfl, fun k _ _ h17 h18 _ => (if_neg h17).trans (if_neg h18), rfl, fun _ _ => rfl, fun _ _ _ => rfl⟩
theorem stK_m {m : MS} {E D : Int → Int} : eqM m (stK m E D) := ⟨fun _ _ => rfl, fun k q _ _ => (if_neg (fun e => q (by unfold mscA; omega))).trans (if_neg (fun e => q (by unfold mscA; omega))), fun _ _ _ => ⟨rfl, rfl⟩⟩
theorem p_cost {a : Int → Int} {s : XS} {m : MS} {z : ZS} {KN : XS → MS → Prop} (hJ : JZ s m z) (hK : keepsJ s m KN) : C_law_24 a s m KN := by
  have hgx := goodX_JZ hJ
  obtain ⟨hb, hr⟩ := hJ.b
  obtain ⟨n1, n2, n3, n4⟩ := hJ.n
  have h24 : 0 ≤ m.1 27 ∧ m.1 27 ≤ 24 := hb.nt
  refine p_ask hJ.b hJ.n hK (F := C_cost (a 1) (a 2) m) (fun K w hw hk => c_whyN h24 hw hk) (fun hv he => ?_)
  have heR : (s.2 4).2 0 (a 1) = (s.2 4).2 0 (a 2) := by rw [(n2 _ hv.1.1 hv.1.2).1, (n2 _ hv.2.1 hv.2.2).1]; exact he
  refine x_laysCosts hb hgx hr rfl (fun A E hA hPF hE => ?_)
  have hAab := hA.1 (a 1) (a 2) hv.1.1 hv.1.2 hv.2.1 hv.2.2
  rw [stC_a17]
  refine ⟨inI_s (by omega), inI_s (by omega), ⟨by omega, by omega⟩, ⟨by omega, by omega⟩, x_fine (c_why_yes h24 hv he (c_laysCosts (m := mref m 0) (b := bkM m) (R := (s.2 4).2 0) rfl hb hgx (fun E' D hDE => c_pair ⟨hv.1.1, by omega⟩ ⟨hv.2.1, by omega⟩ ⟨⟨by omega, by omega⟩, ?_⟩)))⟩
  obtain ⟨hD, hDE1, hDT⟩ := hDE
  have hDPF := DM_end hb hD (fun i j i0 i1 j0 j1 ne => (hDE1 i j i0 i1 j0 j1).2 ne) hDT
  have e1 := cost_eq hA hPF hD hDPF hv.1.1 hv.1.2 hv.2.1 hv.2.2
  have e2 := DM_fin hb hgx hD (fun i j i0 i1 j0 j1 ne => (hDE1 i j i0 i1 j0 j1).2 ne) hDT hv.1.1 hv.1.2 hv.2.1 hv.2.2 heR
  have e3 := (cpC_b (hD.1 (a 1) (a 2) hv.1.1 hv.1.2 hv.2.1 hv.2.2)).2.2.1 e2
  rw [stK_a49]
  exact ⟨⟨by omega, by omega⟩, by omega, hK _ _ (stC_x.tr eqX_o) (eqM_ref.tr stK_m) ⟨rfl, rfl⟩⟩
