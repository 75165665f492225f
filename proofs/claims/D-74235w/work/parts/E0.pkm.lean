/-! THE PURE PART, 77: costs, the reference's walks -/
set_option maxRecDepth 100000
theorem c_pair {i j : Int} {m : MS} {K : Int → MS → Prop} (hi : 0 ≤ i ∧ i < 24) (hj : 0 ≤ j ∧ j < 24) (h : K (24 * i + j) m) : C_pair i j m K := ⟨inI_s (by omega), inI_s (by omega), h⟩
theorem c_held {x : Int} {m : MS} {K : Int → MS → Prop} (h : K (hlC x) m) : C_held x m K := by
  unfold hlC at h
  refine ⟨fun q => ⟨fun q2 => ?_, fun q2 => ?_⟩, fun q => ?_⟩
  · rw [if_pos q, if_pos q2] at h; exact h
  · rw [if_pos q, if_neg q2] at h; exact h
  · rw [if_neg q] at h; exact h
theorem pfC_stop {b : PB} {D : Int → Int} {i j : Int} {k : Nat} (h : 4000000000 ≤ pfC b D i j k) : ∀ d : Nat, pfC b D i j (k + d) = pfC b D i j k := by
  intro d
  induction d with
  | zero => rfl
  | succ d ih =>
    show (if 4000000000 ≤ pfC b D i j (k + d) then pfC b D i j (k + d) else _) = _
    rw [ih, if_pos h]
theorem c_sideOf {b : PB} {R : Int → Int} {i j : Int} {m : MS} {K : Int → MS → Prop} (eb : bkM m = b) (hb : b.ok) (hD : DM b R (m.2 49)) (i0 : 0 ≤ i) (i1 : i < b.nt) (j0 : 0 ≤ j) (j1 : j < b.nt) (h : K (sdC b (m.2 49) i j) m) : C_sideOf i j m K := by
  intro X7 X107 h7 h107
  subst eb
  have h24 : 0 ≤ m.1 27 ∧ m.1 27 ≤ 24 := hb.nt
  have h12 : 0 ≤ m.1 30 ∧ m.1 30 ≤ 12 := hb.ns
  have hnt : (bkM m).nt = m.1 27 := rfl
  -- the parts
  have parts : ∀ x3 : Int, x3 = (if saC (bkM m) i j then (1 : Int) else 4000000000) → (bkM m).fn i = (bkM m).fn j → X107 i j x3 0 0 m := by
    intro x3 hx3 hf
    have htk := hb.tk _ (hb.fn i i0 i1).1 (hb.fn i i0 i1).2
    have hsd : sdC (bkM m) (m.2 49) i j = (if x3 ≤ pfC (bkM m) (m.2 49) i j ((bkM m).tk ((bkM m).fn i)).toNat then x3 else pfC (bkM m) (m.2 49) i j ((bkM m).tk ((bkM m).fn i)).toNat) := by
      unfold sdC
      rw [if_pos hf, ← hx3]
    have fin : ∀ v, v = pfC (bkM m) (m.2 49) i j ((bkM m).tk ((bkM m).fn i)).toNat → (x3 ≤ v → K x3 m) ∧ (¬ x3 ≤ v → K v m) := by
      intro v hv
      rw [hsd, ← hv] at h
      refine ⟨fun q => ?_, fun q => ?_⟩
      · rw [if_pos q] at h; exact h
      · rw [if_neg q] at h; exact h
    have L : ∀ k, 0 ≤ k → k ≤ (bkM m).tk ((bkM m).fn i) → X107 i j x3 (pfC (bkM m) (m.2 49) i j k.toNat) k m := by
      refine upto (fun k k0 k1 ih => h107 _ _ _ _ _ _ (c_takesOf hb i0 i1 ⟨fun e => ?_, fun e => ⟨fun q => ?_, fun q => ?_⟩⟩))
      · have : k = (bkM m).tk ((bkM m).fn i) := by omega
        rw [this]; exact fin _ rfl
      · have hs := pfC_stop q (((bkM m).tk ((bkM m).fn i)).toNat - k.toNat)
        rw [show k.toNat + (((bkM m).tk ((bkM m).fn i)).toNat - k.toNat) = ((bkM m).tk ((bkM m).fn i)).toNat by omega] at hs
        exact fin _ hs.symm
      · have p1 := hb.pt i i0 i1 k k0 (by omega)
        have p2 := hb.pt j j0 j1 k k0 (by rw [← hf]; omega)
        have p1 : 0 ≤ m.2 29 (3 * i + k) ∧ m.2 29 (3 * i + k) < i := p1
        have p2 : 0 ≤ m.2 29 (3 * j + k) ∧ m.2 29 (3 * j + k) < j := p2
        have hd := hD.1 (m.2 29 (3 * i + k)) (m.2 29 (3 * j + k)) p1.1 (by omega) p2.1 (by omega)
        obtain ⟨g1, -, -, -⟩ := pfC_p hb hD i0 i1 j0 j1 hf k.toNat (by omega)
        have hi := ih (by omega)
        rw [show (k + 1).toNat = k.toNat + 1 by omega] at hi
        have e1 : pfC (bkM m) (m.2 49) i j (k.toNat + 1) = if m.2 49 (24 * m.2 29 (3 * i + k) + m.2 29 (3 * j + k)) < 4000000000 then hlC (pfC (bkM m) (m.2 49) i j k.toNat + m.2 49 (24 * m.2 29 (3 * i + k) + m.2 29 (3 * j + k))) else 4000000000 := by
          show (if 4000000000 ≤ pfC (bkM m) (m.2 49) i j k.toNat then _ else if m.2 49 (24 * m.2 29 (3 * i + ((k.toNat : Nat) : Int)) + m.2 29 (3 * j + ((k.toNat : Nat) : Int))) < 4000000000 then hlC (pfC (bkM m) (m.2 49) i j k.toNat + m.2 49 (24 * m.2 29 (3 * i + ((k.toNat : Nat) : Int)) + m.2 29 (3 * j + ((k.toNat : Nat) : Int)))) else 4000000000) = _
          rw [if_neg q, show ((k.toNat : Nat) : Int) = k by omega]
        rw [e1] at hi
        unfold okC at hd g1
        refine ⟨inI_s (by omega), inI_s (by omega), ⟨by omega, by omega⟩, inI_s (by omega), inI_s (by omega), ⟨by omega, by omega⟩, c_pair ⟨p1.1, by omega⟩ ⟨p2.1, by omega⟩ ⟨⟨by omega, by omega⟩, fun q2 => ⟨⟨by omega, by omega⟩, c_held ⟨inI_s (by omega), ?_⟩⟩, fun q2 => ⟨inI_s (by omega), ?_⟩⟩⟩
        · rw [if_pos q2] at hi; exact hi
        · rw [if_neg q2] at hi; exact hi
    exact L 0 (Int.le_refl _) htk.1
  -- the sames
  have L7 : ∀ k, 0 ≤ k → k ≤ m.1 30 → ∀ x3 : Int, ((x3 = 1 ∧ saC (bkM m) i j) ∨ (x3 = 4000000000 ∧ ∀ l, 0 ≤ l → l < k → ¬ (((bkM m).sa l = i ∧ (bkM m).sb l = j) ∨ ((bkM m).sa l = j ∧ (bkM m).sb l = i)))) → X7 i j x3 k m := by
    refine upto (fun k k0 k1 ih x3 hx => h7 _ _ _ _ _ ⟨fun e => ?_, fun e => ?_⟩)
    · have hx3 : x3 = (if saC (bkM m) i j then (1 : Int) else 4000000000) := by
        rcases hx with ⟨a, c⟩ | ⟨a, c⟩
        · rw [if_pos c]; exact a
        · rw [if_neg (fun q => by
            obtain ⟨l, ⟨l0, l1⟩, ql⟩ := saC_iff.mp q
            exact c l l0 (by have : l < m.1 30 := l1; omega) ql)]; exact a
      refine ⟨⟨i0, by omega⟩, ⟨j0, by omega⟩, fun hf => parts x3 hx3 hf, fun hf => ?_⟩
      have hf : ¬ (bkM m).fn i = (bkM m).fn j := hf
      unfold sdC at h
      rw [if_neg hf, ← hx3] at h
      exact h
    · have yes : (((bkM m).sa k = i ∧ (bkM m).sb k = j) ∨ ((bkM m).sa k = j ∧ (bkM m).sb k = i)) → inI (k + 1) ∧ X7 i j 1 (k + 1) m := fun q => ⟨inI_s (by omega), ih (by omega) 1 (Or.inl ⟨rfl, saC_iff.mpr ⟨k, ⟨k0, by show k < m.1 30; omega⟩, q⟩⟩)⟩
      have no : ¬ (((bkM m).sa k = i ∧ (bkM m).sb k = j) ∨ ((bkM m).sa k = j ∧ (bkM m).sb k = i)) → inI (k + 1) ∧ X7 i j x3 (k + 1) m := fun q => ⟨inI_s (by omega), ih (by omega) x3 (hx.elim Or.inl (fun g => Or.inr ⟨g.1, fun l l0 l1 => by
        by_cases c : l = k
        · rw [c]; exact q
        · exact g.2 l l0 (by omega)⟩))⟩
      have hk : 0 ≤ k ∧ k < 13 := ⟨k0, by omega⟩
      exact ⟨hk, fun e1 => ⟨hk, fun e2 => yes (Or.inl ⟨e1, e2⟩), fun e2 => ⟨hk, fun e3 => ⟨hk, fun e4 => yes (Or.inr ⟨e3, e4⟩), fun e4 => no (fun q => q.elim (fun q => e2 q.2) (fun q => e4 q.2))⟩, fun e3 => no (fun q => q.elim (fun q => e2 q.2) (fun q => e3 q.1))⟩⟩, fun e1 => ⟨hk, fun e3 => ⟨hk, fun e4 => yes (Or.inr ⟨e3, e4⟩), fun e4 => no (fun q => q.elim (fun q => e1 q.1) (fun q => e4 q.2))⟩, fun e3 => no (fun q => q.elim (fun q => e1 q.1) (fun q => e3 q.1))⟩⟩
  exact L7 0 (Int.le_refl _) h12.1 4000000000 (Or.inr ⟨rfl, fun l l0 l1 => by omega⟩)
