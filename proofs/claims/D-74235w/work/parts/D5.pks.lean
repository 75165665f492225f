/-! THE PURE PART, 72: costs, the plain law: what the least is -/
set_option maxRecDepth 100000
/-- costs of the parts together -/
def spC (b : PB) (A : Int → Int) (i j : Int) : Int := su (fun k => A (24 * b.pt i k + b.pt j k)) (b.tk (b.fn i))
/-- a same between two -/
abbrev saC (b : PB) (i j : Int) : Prop := fi (fun k => (b.sa k = i ∧ b.sb k = j) ∨ (b.sa k = j ∧ b.sb k = i)) b.ns ≠ -2
theorem saC_iff {b : PB} {i j : Int} : saC b i j ↔ ∃ k, (0 ≤ k ∧ k < b.ns) ∧ ((b.sa k = i ∧ b.sb k = j) ∨ (b.sa k = j ∧ b.sb k = i)) := by
  rcases fi_is (P := fun k => (b.sa k = i ∧ b.sb k = j) ∨ (b.sa k = j ∧ b.sb k = i)) (n := b.ns) with ⟨h1, h2⟩ | ⟨h1, h2, h3, _⟩
  · exact ⟨fun q => absurd h1 q, fun ⟨k, ⟨k0, k1⟩, q⟩ => absurd q (h2 k k0 k1)⟩
  · exact ⟨fun _ => ⟨_, ⟨h1, h2⟩, h3⟩, fun _ q => by omega⟩
/-- a matrix of costs that no rule makes less -/
def PF (b : PB) (X : Int → Int) : Prop :=
  (∀ i j, 0 ≤ i → i < b.nt → 0 ≤ j → j < b.nt → 0 ≤ X (24 * i + j) ∧ X (24 * i + j) ≤ 1000000000) ∧ (∀ i, 0 ≤ i → i < b.nt → X (24 * i + i) ≤ 0) ∧
  (∀ i j, 0 ≤ i → i < b.nt → 0 ≤ j → j < b.nt → saC b i j → X (24 * i + j) ≤ 1) ∧
  (∀ i j, 0 ≤ i → i < b.nt → 0 ≤ j → j < b.nt → i ≠ j → b.fn i = b.fn j → X (24 * i + j) ≤ spC b X i j) ∧
  (∀ i k j, 0 ≤ i → i < b.nt → 0 ≤ k → k < b.nt → 0 ≤ j → j < b.nt → X (24 * i + j) ≤ X (24 * i + k) + X (24 * k + j))
theorem spC_le {b : PB} {A B : Int → Int} {i j : Int} (hb : b.ok) (i0 : 0 ≤ i) (i1 : i < b.nt) (j0 : 0 ≤ j) (j1 : j < b.nt) (hf : b.fn i = b.fn j) (h : ∀ p q, 0 ≤ p → p < b.nt → 0 ≤ q → q < b.nt → A (24 * p + q) ≤ B (24 * p + q)) : spC b A i j ≤ spC b B i j :=
  su_le (fun k k0 k1 => by
    have h1 := hb.pt i i0 i1 k k0 k1
    have h2 := hb.pt j j0 j1 k k0 (by rw [← hf]; exact k1)
    exact h _ _ h1.1 (by omega) h2.1 (by omega))
theorem su_ge {f : Int → Int} {n k : Int} (h0 : ∀ i, 0 ≤ i → i < n → 0 ≤ f i) (k0 : 0 ≤ k) (k1 : k < n) : f k ≤ su f n := by
  have L : ∀ d : Nat, (d : Int) ≤ n → 0 ≤ su f d ∧ (k < d → f k ≤ su f d) := by
    intro d
    induction d with
    | zero => exact fun _ => ⟨Int.le_refl _, fun q => by omega⟩
    | succ d ih =>
      intro hd
      have h1 := ih (by omega)
      have h2 := h0 d (by omega) (by omega)
      have e : su f ((d + 1 : Nat) : Int) = su f d + f d := by
        rw [show ((d + 1 : Nat) : Int) = (d : Int) + 1 by omega]; exact su_s (by omega)
      rw [e]
      refine ⟨by omega, fun q => ?_⟩
      by_cases c : k = d
      · rw [c]; omega
      · have := h1.2 (by omega); omega
  have := (L n.toNat (by omega)).2 (by omega)
  rw [show ((n.toNat : Nat) : Int) = n by omega] at this
  exact this
theorem su_nn {f : Int → Int} {n : Int} (h0 : ∀ i, 0 ≤ i → i < n → 0 ≤ f i) (hn : 0 ≤ n) : 0 ≤ su f n := by
  have := su_le (f := fun _ => 0) (g := f) (n := n) h0
  have e : su (fun _ => (0 : Int)) n = 0 := by
    unfold su
    rw [sn_c]; omega
  omega
/-- amid the system's work -/
def SA (b : PB) (R A : Int → Int) : Prop :=
  (∀ i j, 0 ≤ i → i < b.nt → 0 ≤ j → j < b.nt → 0 ≤ A (24 * i + j) ∧ A (24 * i + j) ≤ 1000000000) ∧ (∀ i, 0 ≤ i → i < b.nt → A (24 * i + i) = 0) ∧
  (∀ i j, 0 ≤ i → i < b.nt → 0 ≤ j → j < b.nt → A (24 * i + j) < 1000000000 → R i = R j) ∧
  ∀ X, PF b X → ∀ i j, 0 ≤ i → i < b.nt → 0 ≤ j → j < b.nt → X (24 * i + j) ≤ A (24 * i + j)
abbrev flC (b : PB) (R : Int → Int) (i j : Int) : Prop := b.fn i = b.fn j ∧ fi (fun k => R (b.pt i k) ≠ R (b.pt j k)) (b.tk (b.fn i)) = -2
theorem flC_iff {b : PB} {R : Int → Int} {i j : Int} : flC b R i j ↔ alk b R i j := by
  refine ⟨fun ⟨h1, h2⟩ => ⟨h1, fun k k0 k1 => ?_⟩, fun ⟨h1, h2⟩ => ⟨h1, ?_⟩⟩
  · rcases fi_is (P := fun k => R (b.pt i k) ≠ R (b.pt j k)) (n := b.tk (b.fn i)) with ⟨_, g⟩ | ⟨g, _⟩
    · exact Classical.not_not.mp (g k k0 k1)
    · omega
  · rcases fi_is (P := fun k => R (b.pt i k) ≠ R (b.pt j k)) (n := b.tk (b.fn i)) with ⟨g, _⟩ | ⟨g1, g2, g3, _⟩
    · exact g
    · exact absurd (h2 _ g1 g2) g3
/-- an edge, by the system -/
def evC (b : PB) (R A : Int → Int) (i j : Int) : Int := if i ≠ j ∧ flC b R i j then jmin (if saC b i j then 1 else 1000000000) (jmin 1000000000 (spC b A i j)) else if saC b i j then 1 else 1000000000
theorem jmin_c {x y : Int} : (jmin x y = x ∨ jmin x y = y) ∧ jmin x y ≤ x ∧ jmin x y ≤ y := by
  unfold jmin
  split <;> omega
theorem SA_ev {b : PB} {R A : Int → Int} {i j : Int} (hb : b.ok) (hg : good b b.nt (sE b) R) (h : SA b R A) (i0 : 0 ≤ i) (i1 : i < b.nt) (j0 : 0 ≤ j) (j1 : j < b.nt) : (0 ≤ evC b R A i j ∧ evC b R A i j ≤ 1000000000) ∧ (evC b R A i j < 1000000000 → R i = R j) ∧ ∀ X, PF b X → X (24 * i + j) ≤ evC b R A i j := by
  obtain ⟨h1, h2, h3, h4⟩ := h
  have hsame : saC b i j → R i = R j := fun q => by
    obtain ⟨k, ⟨k0, k1⟩, q⟩ := saC_iff.mp q
    have := hg.has (b.sa k) (b.sb k) ⟨k, k0, k1, rfl, rfl⟩
    rcases q with ⟨e1, e2⟩ | ⟨e1, e2⟩
    · rw [← e1, ← e2]; exact this
    · rw [← e1, ← e2]; exact this.symm
  have base : ∀ x, x = (if saC b i j then (1 : Int) else 1000000000) → (0 ≤ x ∧ x ≤ 1000000000) ∧ (x < 1000000000 → R i = R j) ∧ ∀ X, PF b X → X (24 * i + j) ≤ x := by
    intro x hx
    by_cases c : saC b i j
    · rw [if_pos c] at hx
      exact ⟨by omega, fun _ => hsame c, fun X hX => by have := hX.2.2.1 i j i0 i1 j0 j1 c; omega⟩
    · rw [if_neg c] at hx
      exact ⟨by omega, fun q => by omega, fun X hX => by have := (hX.1 i j i0 i1 j0 j1).2; omega⟩
  obtain ⟨b1, b2, b3⟩ := base _ rfl
  unfold evC
  by_cases c : i ≠ j ∧ flC b R i j
  · rw [if_pos c]
    have hal := flC_iff.mp c.2
    have hR := hg.closed i j i0 i1 j0 j1 hal
    have hn : 0 ≤ spC b A i j := su_nn (fun k k0 k1 => by
      have h1' := hb.pt i i0 i1 k k0 k1
      have h2' := hb.pt j j0 j1 k k0 (by rw [← hal.1]; exact k1)
      exact (h1 _ _ h1'.1 (by omega) h2'.1 (by omega)).1) (hb.tk _ (hb.fn i i0 i1).1 (hb.fn i i0 i1).2).1
    have m1 := jmin_c (x := 1000000000) (y := spC b A i j)
    have m2 := jmin_c (x := (if saC b i j then (1 : Int) else 1000000000)) (y := jmin 1000000000 (spC b A i j))
    refine ⟨⟨by omega, by omega⟩, fun _ => hR, fun X hX => ?_⟩
    have hX1 := hX.2.2.2.1 i j i0 i1 j0 j1 c.1 hal.1
    have hX2 := spC_le hb i0 i1 j0 j1 hal.1 (fun p q p0 p1 q0 q1 => h4 X hX p q p0 p1 q0 q1)
    have hX3 := (hX.1 i j i0 i1 j0 j1).2
    have hX4 := b3 X hX
    omega
  · rw [if_neg c]; exact ⟨b1, b2, b3⟩
theorem ix_ne {i j p q : Int} (j0 : 0 ≤ j) (j1 : j < 24) (q0 : 0 ≤ q) (q1 : q < 24) (h : ¬ (p = i ∧ q = j)) : 24 * p + q ≠ 24 * i + j := by omega
/-- one cost made less -/
theorem SA_put {b : PB} {R A : Int → Int} {i j v : Int} (hb : b.ok) (h : SA b R A) (i0 : 0 ≤ i) (i1 : i < b.nt) (j0 : 0 ≤ j) (j1 : j < b.nt) (hv : v < A (24 * i + j)) (v1 : 0 ≤ v) (v2 : v < 1000000000 → R i = R j) (v3 : ∀ X, PF b X → X (24 * i + j) ≤ v) : SA b R (iup A (24 * i + j) v) := by
  have h24 := hb.nt
  obtain ⟨h1, h2, h3, h4⟩ := h
  have hij := h1 i j i0 i1 j0 j1
  refine ⟨fun p q p0 p1 q0 q1 => ?_, fun p p0 p1 => ?_, fun p q p0 p1 q0 q1 => ?_, fun X hX p q p0 p1 q0 q1 => ?_⟩
  · by_cases e : p = i ∧ q = j
    · rw [e.1, e.2, iup_at]; omega
    · rw [iup_ne (ix_ne j0 (by omega) q0 (by omega) e)]; exact h1 p q p0 p1 q0 q1
  · by_cases e : p = i ∧ p = j
    · have := h2 i i0 i1
      rw [← e.1, ← e.2] at hv
      rw [← e.1] at this
      omega
    · rw [iup_ne (ix_ne j0 (by omega) p0 (by omega) e)]; exact h2 p p0 p1
  · by_cases e : p = i ∧ q = j
    · rw [e.1, e.2, iup_at]; exact v2
    · rw [iup_ne (ix_ne j0 (by omega) q0 (by omega) e)]; exact h3 p q p0 p1 q0 q1
  · by_cases e : p = i ∧ q = j
    · rw [e.1, e.2, iup_at]; exact v3 X hX
    · rw [iup_ne (ix_ne j0 (by omega) q0 (by omega) e)]; exact h4 X hX p q p0 p1 q0 q1
theorem SA_via {b : PB} {R A : Int → Int} {i k j : Int} (hb : b.ok) (h : SA b R A) (i0 : 0 ≤ i) (i1 : i < b.nt) (k0 : 0 ≤ k) (k1 : k < b.nt) (j0 : 0 ≤ j) (j1 : j < b.nt) (hv : A (24 * i + k) + A (24 * k + j) < A (24 * i + j)) : SA b R (iup A (24 * i + j) (A (24 * i + k) + A (24 * k + j))) := by
  obtain ⟨h1, h2, h3, h4⟩ := h
  have a1 := h1 i k i0 i1 k0 k1
  have a2 := h1 k j k0 k1 j0 j1
  have a3 := h1 i j i0 i1 j0 j1
  refine SA_put hb ⟨h1, h2, h3, h4⟩ i0 i1 j0 j1 hv (by omega) (fun _ => (h3 i k i0 i1 k0 k1 (by omega)).trans (h3 k j k0 k1 j0 j1 (by omega))) (fun X hX => ?_)
  have x1 := hX.2.2.2.2 i k j i0 i1 k0 k1 j0 j1
  have x2 := h4 X hX i k i0 i1 k0 k1
  have x3 := h4 X hX k j k0 k1 j0 j1
  omega
/-- nothing more can be made less: it is such a matrix itself -/
theorem SA_end {b : PB} {R A : Int → Int} (hb : b.ok) (h : SA b R A) (hE : ∀ i j, 0 ≤ i → i < b.nt → 0 ≤ j → j < b.nt → A (24 * i + j) ≤ evC b R A i j) (hT : ∀ k i j, 0 ≤ k → k < b.nt → 0 ≤ i → i < b.nt → 0 ≤ j → j < b.nt → A (24 * i + j) ≤ A (24 * i + k) + A (24 * k + j)) : PF b A := by
  obtain ⟨h1, h2, h3, h4⟩ := h
  refine ⟨h1, fun i i0 i1 => Int.le_of_eq (h2 i i0 i1), fun i j i0 i1 j0 j1 hs => ?_, fun i j i0 i1 j0 j1 ne hf => ?_, fun i k j i0 i1 k0 k1 j0 j1 => hT k i j k0 k1 i0 i1 j0 j1⟩
  · have he := hE i j i0 i1 j0 j1
    unfold evC at he
    by_cases c : i ≠ j ∧ flC b R i j
    · rw [if_pos c, if_pos hs] at he
      have := jmin_c (x := (1 : Int)) (y := jmin 1000000000 (spC b A i j))
      omega
    · rw [if_neg c, if_pos hs] at he; exact he
  · have hnn : ∀ k, 0 ≤ k → k < b.tk (b.fn i) → 0 ≤ A (24 * b.pt i k + b.pt j k) := fun k k0 k1 => by
      have g1 := hb.pt i i0 i1 k k0 k1
      have g2 := hb.pt j j0 j1 k k0 (by rw [← hf]; exact k1)
      exact (h1 _ _ g1.1 (by omega) g2.1 (by omega)).1
    by_cases c : flC b R i j
    · have he := hE i j i0 i1 j0 j1
      unfold evC at he
      rw [if_pos ⟨ne, c⟩] at he
      have m1 := jmin_c (x := 1000000000) (y := spC b A i j)
      have m2 := jmin_c (x := (if saC b i j then (1 : Int) else 1000000000)) (y := jmin 1000000000 (spC b A i j))
      omega
    · rcases fi_is (P := fun k => R (b.pt i k) ≠ R (b.pt j k)) (n := b.tk (b.fn i)) with ⟨g, _⟩ | ⟨g1, g2, g3, _⟩
      · exact absurd ⟨hf, g⟩ c
      · have p1 := hb.pt i i0 i1 _ g1 g2
        have p2 := hb.pt j j0 j1 _ g1 (by rw [← hf]; exact g2)
        have hd := h1 _ _ p1.1 (show b.pt i (fi (fun k => R (b.pt i k) ≠ R (b.pt j k)) (b.tk (b.fn i))) < b.nt by omega) p2.1 (show b.pt j (fi (fun k => R (b.pt i k) ≠ R (b.pt j k)) (b.tk (b.fn i))) < b.nt by omega)
        have hbig : 1000000000 ≤ A (24 * b.pt i (fi (fun k => R (b.pt i k) ≠ R (b.pt j k)) (b.tk (b.fn i))) + b.pt j (fi (fun k => R (b.pt i k) ≠ R (b.pt j k)) (b.tk (b.fn i)))) := by
          by_cases q : A (24 * b.pt i (fi (fun k => R (b.pt i k) ≠ R (b.pt j k)) (b.tk (b.fn i))) + b.pt j (fi (fun k => R (b.pt i k) ≠ R (b.pt j k)) (b.tk (b.fn i)))) < 1000000000
          · exact absurd (h3 _ _ p1.1 (by omega) p2.1 (by omega) q) g3
          · omega
        have hs := su_ge (f := fun k => A (24 * b.pt i k + b.pt j k)) hnn g1 g2
        have := (h1 i j i0 i1 j0 j1).2
        show A (24 * i + j) ≤ su _ _
        omega
