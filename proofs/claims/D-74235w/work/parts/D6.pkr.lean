/-! THE PURE PART, 73: costs, the plain law: the reference -/
set_option maxRecDepth 100000
def hlC (x : Int) : Int := if x < 4000000000 then (if x ≤ 1000000000 then x else 1000000000) else 4000000000
def cpC (x : Int) : Int := if x ≤ 1000000000 then x else 1000000000
def okC (x : Int) : Prop := (0 ≤ x ∧ x ≤ 1000000000) ∨ x = 4000000000
/-- the parts' costs together, by the reference -/
def pfC (b : PB) (D : Int → Int) (i j : Int) : Nat → Int
  | 0 => 0
  | k + 1 => if 4000000000 ≤ pfC b D i j k then pfC b D i j k else if D (24 * b.pt i k + b.pt j k) < 4000000000 then hlC (pfC b D i j k + D (24 * b.pt i k + b.pt j k)) else 4000000000
/-- an edge, by the reference -/
def sdC (b : PB) (D : Int → Int) (i j : Int) : Int := if b.fn i = b.fn j then (if (if saC b i j then (1 : Int) else 4000000000) ≤ pfC b D i j (b.tk (b.fn i)).toNat then (if saC b i j then (1 : Int) else 4000000000) else pfC b D i j (b.tk (b.fn i)).toNat) else (if saC b i j then (1 : Int) else 4000000000)
def vaC (D : Int → Int) (i k j : Int) : Int := if 4000000000 ≤ D (24 * i + k) then 4000000000 else if D (24 * k + j) < 4000000000 then hlC (D (24 * i + k) + D (24 * k + j)) else 4000000000
/-- amid the reference's work -/
def DM (b : PB) (R D : Int → Int) : Prop :=
  (∀ i j, 0 ≤ i → i < b.nt → 0 ≤ j → j < b.nt → okC (D (24 * i + j))) ∧ (∀ i, 0 ≤ i → i < b.nt → D (24 * i + i) = 0) ∧
  (∀ i j, 0 ≤ i → i < b.nt → 0 ≤ j → j < b.nt → D (24 * i + j) < 4000000000 → R i = R j) ∧
  ∀ X, PF b X → ∀ i j, 0 ≤ i → i < b.nt → 0 ≤ j → j < b.nt → X (24 * i + j) ≤ D (24 * i + j)
theorem hlC_ok {x : Int} (h : 0 ≤ x) (h2 : x < 4000000000) : okC (hlC x) ∧ hlC x < 4000000000 ∧ (hlC x = x ∨ (1000000000 < x ∧ hlC x = 1000000000)) := by
  unfold hlC okC
  rw [if_pos h2]
  by_cases c : x ≤ 1000000000
  · rw [if_pos c]; omega
  · rw [if_neg c]; omega
theorem pfC_p {b : PB} {R D : Int → Int} {i j : Int} (hb : b.ok) (h : DM b R D) (i0 : 0 ≤ i) (i1 : i < b.nt) (j0 : 0 ≤ j) (j1 : j < b.nt) (hf : b.fn i = b.fn j) : ∀ k : Nat, (k : Int) ≤ b.tk (b.fn i) → okC (pfC b D i j k) ∧ (∀ X, PF b X → su (fun k => X (24 * b.pt i k + b.pt j k)) k ≤ pfC b D i j k ∨ 1000000000 ≤ pfC b D i j k) ∧ (pfC b D i j k < 4000000000 → (∀ l, 0 ≤ l → l < (k : Int) → D (24 * b.pt i l + b.pt j l) < 4000000000)) ∧ ((∀ l, 0 ≤ l → l < (k : Int) → D (24 * b.pt i l + b.pt j l) < 4000000000) → pfC b D i j k = cpC (su (fun l => D (24 * b.pt i l + b.pt j l)) k)) := by
  obtain ⟨h1, h2, h3, h4⟩ := h
  intro k
  induction k with
  | zero => exact fun _ => ⟨Or.inl ⟨Int.le_refl _, by show (0 : Int) ≤ 1000000000; decide⟩, fun X _ => Or.inl (Int.le_refl _), fun _ l l0 l1 => by omega, fun _ => rfl⟩
  | succ k ih =>
    intro hk
    obtain ⟨g1, g2, g3, g4⟩ := ih (by omega)
    have p1 := hb.pt i i0 i1 (k : Int) (by omega) (by omega)
    have p2 := hb.pt j j0 j1 (k : Int) (by omega) (by rw [← hf]; omega)
    have hd := h1 (b.pt i k) (b.pt j k) p1.1 (by omega) p2.1 (by omega)
    have es : ∀ f : Int → Int, su f ((k + 1 : Nat) : Int) = su f k + f k := fun f => by
      rw [show ((k + 1 : Nat) : Int) = (k : Int) + 1 by omega]; exact su_s (by omega)
    have eF : pfC b D i j (k + 1) = if 4000000000 ≤ pfC b D i j k then pfC b D i j k else if D (24 * b.pt i k + b.pt j k) < 4000000000 then hlC (pfC b D i j k + D (24 * b.pt i k + b.pt j k)) else 4000000000 := rfl
    by_cases c : 4000000000 ≤ pfC b D i j k
    · rw [eF, if_pos c]
      refine ⟨g1, fun X hX => Or.inr (by omega), fun q => by omega, fun q => ?_⟩
      have := g4 (fun l l0 l1 => q l l0 (by omega))
      unfold cpC at this
      split at this <;> omega
    · by_cases c2 : D (24 * b.pt i k + b.pt j k) < 4000000000
      · rw [eF, if_neg c, if_pos c2]
        have hdk : 0 ≤ D (24 * b.pt i k + b.pt j k) ∧ D (24 * b.pt i k + b.pt j k) ≤ 1000000000 := hd.elim id (fun q => by omega)
        have hgk : 0 ≤ pfC b D i j k ∧ pfC b D i j k ≤ 1000000000 := g1.elim id (fun q => by omega)
        have hh := hlC_ok (x := pfC b D i j k + D (24 * b.pt i k + b.pt j k)) (by omega) (by omega)
        refine ⟨hh.1, fun X hX => ?_, fun _ l l0 l1 => ?_, fun q => ?_⟩
        · rw [es]
          have hx := h4 X hX (b.pt i k) (b.pt j k) p1.1 (by omega) p2.1 (by omega)
          rcases hh.2.2 with e | ⟨e1, e2⟩
          · rcases g2 X hX with q | q
            · exact Or.inl (by rw [e]; omega)
            · exact Or.inr (by rw [e]; omega)
          · exact Or.inr (by rw [e2]; omega)
        · by_cases e : l = k
          · rw [e]; exact c2
          · exact g3 (by omega) l l0 (by omega)
        · rw [es]
          have e := g4 (fun l l0 l1 => q l l0 (by omega))
          unfold cpC at e ⊢
          unfold hlC
          rw [if_pos (by omega)]
          by_cases c3 : su (fun l => D (24 * b.pt i l + b.pt j l)) k ≤ 1000000000
          · rw [if_pos c3] at e
            rw [e]
          · rw [if_neg c3] at e
            rw [e]
            by_cases c4 : D (24 * b.pt i k + b.pt j k) = 0
            · rw [if_pos (by omega), if_neg (by omega)]; omega
            · rw [if_neg (by omega), if_neg (by omega)]
      · rw [eF, if_neg c, if_neg c2]
        exact ⟨Or.inr rfl, fun X hX => Or.inr (by omega), fun q => by omega, fun q => absurd (q k (by omega) (by omega)) c2⟩
theorem DM_sd {b : PB} {R D : Int → Int} {i j : Int} (hb : b.ok) (hg : good b b.nt (sE b) R) (h : DM b R D) (i0 : 0 ≤ i) (i1 : i < b.nt) (j0 : 0 ≤ j) (j1 : j < b.nt) (ne : i ≠ j) : okC (sdC b D i j) ∧ (sdC b D i j < 4000000000 → R i = R j) ∧ ∀ X, PF b X → X (24 * i + j) ≤ sdC b D i j := by
  have h0 := h
  obtain ⟨h1, h2, h3, h4⟩ := h
  have hsame : saC b i j → R i = R j := fun q => by
    obtain ⟨k, ⟨k0, k1⟩, q⟩ := saC_iff.mp q
    have := hg.has (b.sa k) (b.sb k) ⟨k, k0, k1, rfl, rfl⟩
    rcases q with ⟨e1, e2⟩ | ⟨e1, e2⟩
    · rw [← e1, ← e2]; exact this
    · rw [← e1, ← e2]; exact this.symm
  have base : okC (if saC b i j then (1 : Int) else 4000000000) ∧ ((if saC b i j then (1 : Int) else 4000000000) < 4000000000 → R i = R j) ∧ ∀ X, PF b X → X (24 * i + j) ≤ (if saC b i j then (1 : Int) else 4000000000) := by
    by_cases c : saC b i j
    · rw [if_pos c]
      exact ⟨Or.inl ⟨by decide, by decide⟩, fun _ => hsame c, fun X hX => hX.2.2.1 i j i0 i1 j0 j1 c⟩
    · rw [if_neg c]
      exact ⟨Or.inr rfl, fun q => by omega, fun X hX => by have := (hX.1 i j i0 i1 j0 j1).2; omega⟩
  unfold sdC
  by_cases hf : b.fn i = b.fn j
  · rw [if_pos hf]
    have htk := hb.tk _ (hb.fn i i0 i1).1 (hb.fn i i0 i1).2
    obtain ⟨g1, g2, g3, -⟩ := pfC_p hb h0 i0 i1 j0 j1 hf (b.tk (b.fn i)).toNat (by omega)
    rw [show (((b.tk (b.fn i)).toNat : Nat) : Int) = b.tk (b.fn i) by omega] at g2 g3
    by_cases c : (if saC b i j then (1 : Int) else 4000000000) ≤ pfC b D i j (b.tk (b.fn i)).toNat
    · rw [if_pos c]; exact base
    · rw [if_neg c]
      refine ⟨g1, fun q => ?_, fun X hX => ?_⟩
      · have hall := g3 q
        refine hg.closed i j i0 i1 j0 j1 ⟨hf, fun k k0 k1 => ?_⟩
        have p1 := hb.pt i i0 i1 k k0 k1
        have p2 := hb.pt j j0 j1 k k0 (by rw [← hf]; exact k1)
        exact h3 _ _ p1.1 (by omega) p2.1 (by omega) (hall k k0 k1)
      · have x1 := hX.2.2.2.1 i j i0 i1 j0 j1 ne hf
        have x2 := (hX.1 i j i0 i1 j0 j1).2
        rcases g2 X hX with q | q
        · exact Int.le_trans x1 q
        · omega
  · rw [if_neg hf]; exact base
theorem DM_put {b : PB} {R D : Int → Int} {i j v : Int} (hb : b.ok) (h : DM b R D) (i0 : 0 ≤ i) (i1 : i < b.nt) (j0 : 0 ≤ j) (j1 : j < b.nt) (hv : v < D (24 * i + j)) (v1 : okC v) (v2 : v < 4000000000 → R i = R j) (v3 : ∀ X, PF b X → X (24 * i + j) ≤ v) : DM b R (iup D (24 * i + j) v) := by
  have h24 := hb.nt
  obtain ⟨h1, h2, h3, h4⟩ := h
  refine ⟨fun p q p0 p1 q0 q1 => ?_, fun p p0 p1 => ?_, fun p q p0 p1 q0 q1 => ?_, fun X hX p q p0 p1 q0 q1 => ?_⟩
  · by_cases e : p = i ∧ q = j
    · rw [e.1, e.2, iup_at]; exact v1
    · rw [iup_ne (ix_ne j0 (by omega) q0 (by omega) e)]; exact h1 p q p0 p1 q0 q1
  · by_cases e : p = i ∧ p = j
    · have := h2 i i0 i1
      rw [← e.1, ← e.2] at hv
      rw [← e.1] at this
      unfold okC at v1
      omega
    · rw [iup_ne (ix_ne j0 (by omega) p0 (by omega) e)]; exact h2 p p0 p1
  · by_cases e : p = i ∧ q = j
    · rw [e.1, e.2, iup_at]; exact v2
    · rw [iup_ne (ix_ne j0 (by omega) q0 (by omega) e)]; exact h3 p q p0 p1 q0 q1
  · by_cases e : p = i ∧ q = j
    · rw [e.1, e.2, iup_at]; exact v3 X hX
    · rw [iup_ne (ix_ne j0 (by omega) q0 (by omega) e)]; exact h4 X hX p q p0 p1 q0 q1
theorem DM_va {b : PB} {R D : Int → Int} {i k j : Int} (h : DM b R D) (i0 : 0 ≤ i) (i1 : i < b.nt) (k0 : 0 ≤ k) (k1 : k < b.nt) (j0 : 0 ≤ j) (j1 : j < b.nt) : okC (vaC D i k j) ∧ (vaC D i k j < 4000000000 → R i = R j) ∧ ∀ X, PF b X → X (24 * i + j) ≤ vaC D i k j := by
  obtain ⟨h1, h2, h3, h4⟩ := h
  have a1 := h1 i k i0 i1 k0 k1
  have a2 := h1 k j k0 k1 j0 j1
  unfold vaC
  by_cases c1 : 4000000000 ≤ D (24 * i + k)
  · rw [if_pos c1]
    exact ⟨Or.inr rfl, fun q => by omega, fun X hX => by have := (hX.1 i j i0 i1 j0 j1).2; omega⟩
  · rw [if_neg c1]
    by_cases c2 : D (24 * k + j) < 4000000000
    · rw [if_pos c2]
      have b1 : 0 ≤ D (24 * i + k) ∧ D (24 * i + k) ≤ 1000000000 := a1.elim id (fun q => by omega)
      have b2 : 0 ≤ D (24 * k + j) ∧ D (24 * k + j) ≤ 1000000000 := a2.elim id (fun q => by omega)
      have hh := hlC_ok (x := D (24 * i + k) + D (24 * k + j)) (by omega) (by omega)
      refine ⟨hh.1, fun _ => (h3 i k i0 i1 k0 k1 (by omega)).trans (h3 k j k0 k1 j0 j1 c2), fun X hX => ?_⟩
      have x0 := (hX.1 i j i0 i1 j0 j1).2
      have x1 := hX.2.2.2.2 i k j i0 i1 k0 k1 j0 j1
      have x2 := h4 X hX i k i0 i1 k0 k1
      have x3 := h4 X hX k j k0 k1 j0 j1
      rcases hh.2.2 with e | ⟨e1, e2⟩
      · rw [e]; omega
      · rw [e2]; exact x0
    · rw [if_neg c2]
      exact ⟨Or.inr rfl, fun q => by omega, fun X hX => by have := (hX.1 i j i0 i1 j0 j1).2; omega⟩
theorem cpC_b {x : Int} (h : okC x) : 0 ≤ cpC x ∧ cpC x ≤ 1000000000 ∧ (x < 4000000000 → cpC x = x) ∧ (¬ x < 4000000000 → cpC x = 1000000000) ∧ cpC x ≤ x := by
  unfold okC at h
  unfold cpC
  split <;> omega
theorem DM_end {b : PB} {R D : Int → Int} (hb : b.ok) (h : DM b R D) (hE : ∀ i j, 0 ≤ i → i < b.nt → 0 ≤ j → j < b.nt → i ≠ j → D (24 * i + j) ≤ sdC b D i j) (hT : ∀ k i j, 0 ≤ k → k < b.nt → 0 ≤ i → i < b.nt → 0 ≤ j → j < b.nt → D (24 * i + j) ≤ vaC D i k j) : PF b (fun x => cpC (D x)) := by
  have h0 := h
  obtain ⟨h1, h2, h3, h4⟩ := h
  refine ⟨fun i j i0 i1 j0 j1 => ?_, fun i i0 i1 => ?_, fun i j i0 i1 j0 j1 hs => ?_, fun i j i0 i1 j0 j1 ne hf => ?_, fun i k j i0 i1 k0 k1 j0 j1 => ?_⟩
  · have := cpC_b (h1 i j i0 i1 j0 j1)
    exact ⟨this.1, this.2.1⟩
  · show cpC (D (24 * i + i)) ≤ 0
    rw [h2 i i0 i1]; decide
  · show cpC (D (24 * i + j)) ≤ 1
    have hc := cpC_b (h1 i j i0 i1 j0 j1)
    by_cases e : i = j
    · rw [e, h2 j j0 j1]; decide
    · have he := hE i j i0 i1 j0 j1 e
      unfold sdC at he
      rw [if_pos hs] at he
      by_cases hf : b.fn i = b.fn j
      · rw [if_pos hf] at he
        by_cases c : (1 : Int) ≤ pfC b D i j (b.tk (b.fn i)).toNat
        · rw [if_pos c] at he; omega
        · rw [if_neg c] at he; omega
      · rw [if_neg hf] at he; omega
  · show cpC (D (24 * i + j)) ≤ su (fun k => cpC (D (24 * b.pt i k + b.pt j k))) (b.tk (b.fn i))
    have hc := cpC_b (h1 i j i0 i1 j0 j1)
    have htk := hb.tk _ (hb.fn i i0 i1).1 (hb.fn i i0 i1).2
    have he := hE i j i0 i1 j0 j1 ne
    obtain ⟨g1, g2, g3, g4⟩ := pfC_p hb h0 i0 i1 j0 j1 hf (b.tk (b.fn i)).toNat (by omega)
    rw [show (((b.tk (b.fn i)).toNat : Nat) : Int) = b.tk (b.fn i) by omega] at g3 g4
    have hpt : ∀ k, 0 ≤ k → k < b.tk (b.fn i) → okC (D (24 * b.pt i k + b.pt j k)) := fun k k0 k1 => by
      have p1 := hb.pt i i0 i1 k k0 k1
      have p2 := hb.pt j j0 j1 k k0 (by rw [← hf]; exact k1)
      exact h1 _ _ p1.1 (by omega) p2.1 (by omega)
    by_cases hall : ∀ l, 0 ≤ l → l < b.tk (b.fn i) → D (24 * b.pt i l + b.pt j l) < 4000000000
    · have e1 := g4 hall
      have e2 : su (fun k => cpC (D (24 * b.pt i k + b.pt j k))) (b.tk (b.fn i)) = su (fun l => D (24 * b.pt i l + b.pt j l)) (b.tk (b.fn i)) := su_congr (fun k k0 k1 => (cpC_b (hpt k k0 k1)).2.2.1 (hall k k0 k1))
      rw [e2]
      have he2 : sdC b D i j ≤ pfC b D i j (b.tk (b.fn i)).toNat := by
        unfold sdC
        rw [if_pos hf]
        by_cases c : (if saC b i j then (1 : Int) else 4000000000) ≤ pfC b D i j (b.tk (b.fn i)).toNat
        · rw [if_pos c]; exact c
        · rw [if_neg c]; exact Int.le_refl _
      unfold cpC at e1
      split at e1 <;> omega
    · obtain ⟨l, hl⟩ := Classical.not_forall.mp hall
      obtain ⟨l0, hl⟩ := Classical.not_imp.mp hl
      obtain ⟨l1, hl⟩ := Classical.not_imp.mp hl
      have hs := su_ge (f := fun k => cpC (D (24 * b.pt i k + b.pt j k))) (fun k k0 k1 => (cpC_b (hpt k k0 k1)).1) l0 l1
      have := (cpC_b (hpt l l0 l1)).2.2.2.1 hl
      have hs : cpC (D (24 * b.pt i l + b.pt j l)) ≤ su (fun k => cpC (D (24 * b.pt i k + b.pt j k))) (b.tk (b.fn i)) := hs
      omega
  · show cpC (D (24 * i + j)) ≤ cpC (D (24 * i + k)) + cpC (D (24 * k + j))
    have c1 := cpC_b (h1 i j i0 i1 j0 j1)
    have c2 := cpC_b (h1 i k i0 i1 k0 k1)
    have c3 := cpC_b (h1 k j k0 k1 j0 j1)
    have ht := hT k i j k0 k1 i0 i1 j0 j1
    unfold vaC at ht
    by_cases q1 : 4000000000 ≤ D (24 * i + k)
    · have := c2.2.2.2.1 (by omega); omega
    · rw [if_neg q1] at ht
      by_cases q2 : D (24 * k + j) < 4000000000
      · rw [if_pos q2] at ht
        have e2 := c2.2.2.1 (by omega)
        have e3 := c3.2.2.1 q2
        have hh := hlC_ok (x := D (24 * i + k) + D (24 * k + j)) (by omega) (by have := c2.2.1; have := c3.2.1; omega)
        rcases hh.2.2 with e | ⟨e, f⟩ <;> omega
      · have := c3.2.2.2.1 q2; omega
/-- both have the same in the end -/
theorem cost_eq {b : PB} {R A D : Int → Int} (hA : SA b R A) (hA2 : PF b A) (hD : DM b R D) (hD2 : PF b (fun x => cpC (D x))) {i j : Int} (i0 : 0 ≤ i) (i1 : i < b.nt) (j0 : 0 ≤ j) (j1 : j < b.nt) : A (24 * i + j) = cpC (D (24 * i + j)) := by
  have h1 : cpC (D (24 * i + j)) ≤ A (24 * i + j) := hA.2.2.2 _ hD2 i j i0 i1 j0 j1
  have h2 := hD.2.2.2 _ hA2 i j i0 i1 j0 j1
  have h3 := (hA2.1 i j i0 i1 j0 j1).2
  have h4 := cpC_b (hD.1 i j i0 i1 j0 j1)
  by_cases c : D (24 * i + j) < 4000000000
  · have := h4.2.2.1 c; omega
  · have := h4.2.2.2.1 c; omega
/-- what is one has a cost -/
theorem DM_fin {b : PB} {R D : Int → Int} (hb : b.ok) (hg : good b b.nt (sE b) R) (h : DM b R D) (hE : ∀ i j, 0 ≤ i → i < b.nt → 0 ≤ j → j < b.nt → i ≠ j → D (24 * i + j) ≤ sdC b D i j) (hT : ∀ k i j, 0 ≤ k → k < b.nt → 0 ≤ i → i < b.nt → 0 ≤ j → j < b.nt → D (24 * i + j) ≤ vaC D i k j) {i j : Int} (i0 : 0 ≤ i) (i1 : i < b.nt) (j0 : 0 ≤ j) (j1 : j < b.nt) (e : R i = R j) : D (24 * i + j) < 4000000000 := by
  have h0 := h
  obtain ⟨h1, h2, h3, h4⟩ := h
  have hs : ∀ x y, 0 ≤ x → x < b.nt → 0 ≤ y → y < b.nt → saC b x y → D (24 * x + y) < 4000000000 := fun x y x0 x1 y0 y1 q => by
    by_cases ne : x = y
    · rw [ne, h2 y y0 y1]; decide
    · have he := hE x y x0 x1 y0 y1 ne
      unfold sdC at he
      rw [if_pos q] at he
      by_cases hf : b.fn x = b.fn y
      · rw [if_pos hf] at he
        by_cases c : (1 : Int) ≤ pfC b D x y (b.tk (b.fn x)).toNat
        · rw [if_pos c] at he; omega
        · rw [if_neg c] at he; omega
      · rw [if_neg hf] at he; omega
  have hp : ∀ x y, 0 ≤ x → x < b.nt → 0 ≤ y → y < b.nt → b.fn x = b.fn y → (∀ l, 0 ≤ l → l < b.tk (b.fn x) → D (24 * b.pt x l + b.pt y l) < 4000000000) → D (24 * x + y) < 4000000000 := fun x y x0 x1 y0 y1 hf hl => by
    by_cases ne : x = y
    · rw [ne, h2 y y0 y1]; decide
    · have he := hE x y x0 x1 y0 y1 ne
      have htk := hb.tk _ (hb.fn x x0 x1).1 (hb.fn x x0 x1).2
      obtain ⟨-, -, -, g4⟩ := pfC_p hb h0 x0 x1 y0 y1 hf (b.tk (b.fn x)).toNat (by omega)
      rw [show (((b.tk (b.fn x)).toNat : Nat) : Int) = b.tk (b.fn x) by omega] at g4
      have e1 := g4 hl
      have e2 : pfC b D x y (b.tk (b.fn x)).toNat ≤ 1000000000 := by
        rw [e1]; unfold cpC; split <;> omega
      unfold sdC at he
      rw [if_pos hf] at he
      by_cases c : (if saC b x y then (1 : Int) else 4000000000) ≤ pfC b D x y (b.tk (b.fn x)).toNat
      · rw [if_pos c] at he; omega
      · rw [if_neg c] at he; omega
  have htr : ∀ x y w, 0 ≤ x → x < b.nt → 0 ≤ y → y < b.nt → 0 ≤ w → w < b.nt → D (24 * x + y) < 4000000000 → D (24 * y + w) < 4000000000 → D (24 * x + w) < 4000000000 := fun x y w x0 x1 y0 y1 w0 w1 q1 q2 => by
    have ht := hT y x w y0 y1 x0 x1 w0 w1
    unfold vaC at ht
    rw [if_neg (by omega), if_pos q2] at ht
    have d1 := h1 x y x0 x1 y0 y1
    have d2 := h1 y w y0 y1 w0 w1
    unfold okC at d1 d2
    have := (hlC_ok (x := D (24 * x + y) + D (24 * y + w)) (by omega) (by omega)).2.1
    omega
  have hQ : (fun x y => x = y ∨ ((0 ≤ x ∧ x < b.nt) ∧ (0 ≤ y ∧ y < b.nt) ∧ D (24 * x + y) < 4000000000 ∧ D (24 * y + x) < 4000000000)) i j := by
    refine hg.sound (fun x y => x = y ∨ ((0 ≤ x ∧ x < b.nt) ∧ (0 ≤ y ∧ y < b.nt) ∧ D (24 * x + y) < 4000000000 ∧ D (24 * y + x) < 4000000000)) ⟨fun _ => Or.inl rfl, fun x y q => ?_, fun x y w q1 q2 => ?_, fun x y q => ?_, fun x y x0 x1 y0 y1 q => ?_⟩ i j i0 i1 j0 j1 e
    · rcases q with q | ⟨a, c, d, f⟩
      · exact Or.inl q.symm
      · exact Or.inr ⟨c, a, f, d⟩
    · rcases q1 with q1 | ⟨a, c, d, f⟩
      · rw [q1]; exact q2
      · rcases q2 with q2 | ⟨a', c', d', f'⟩
        · rw [← q2]; exact Or.inr ⟨a, c, d, f⟩
        · exact Or.inr ⟨a, c', htr x y w a.1 a.2 c.1 c.2 c'.1 c'.2 d d', htr w y x c'.1 c'.2 c.1 c.2 a.1 a.2 f' f⟩
    · obtain ⟨k, k0, k1, rfl, rfl⟩ := q
      have ha := hb.sa k k0 k1
      have hb' := hb.sb k k0 k1
      exact Or.inr ⟨ha, hb', hs _ _ ha.1 ha.2 hb'.1 hb'.2 (saC_iff.mpr ⟨k, ⟨k0, k1⟩, Or.inl ⟨rfl, rfl⟩⟩), hs _ _ hb'.1 hb'.2 ha.1 ha.2 (saC_iff.mpr ⟨k, ⟨k0, k1⟩, Or.inr ⟨rfl, rfl⟩⟩)⟩
    · obtain ⟨hf, hq⟩ := q
      have one : ∀ l, 0 ≤ l → l < b.tk (b.fn x) → D (24 * b.pt x l + b.pt y l) < 4000000000 ∧ D (24 * b.pt y l + b.pt x l) < 4000000000 := fun l l0 l1 => by
        have p1 := hb.pt x x0 x1 l l0 l1
        rcases hq l l0 l1 with q | ⟨_, _, d, f⟩
        · rw [← q, h2 _ p1.1 (by omega)]; exact ⟨by decide, by decide⟩
        · exact ⟨d, f⟩
      exact Or.inr ⟨⟨x0, x1⟩, ⟨y0, y1⟩, hp x y x0 x1 y0 y1 hf (fun l l0 l1 => (one l l0 l1).1), hp y x y0 y1 x0 x1 hf.symm (fun l l0 l1 => (one l l0 (by rw [hf]; exact l1)).2)⟩
  rcases hQ with q | ⟨_, _, q, _⟩
  · rw [q, h2 j j0 j1]; decide
  · exact q
