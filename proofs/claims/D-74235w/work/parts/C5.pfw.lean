/-! THE PURE PART, 62: the fewest, the core -/
set_option maxRecDepth 100000
abbrev pcS (k : Int) : Nat := pq k.toNat 13
/-- the best so far, one set on -/
def nxB (P : Int → Prop) (best k best' : Int) : Prop := ((best = -2 ∨ pcS k < pcS best) ∧ P k ∧ best' = k) ∨ (¬ ((best = -2 ∨ pcS k < pcS best) ∧ P k) ∧ best' = best)
theorem nxB_ex {P : Int → Prop} {best k : Int} : ∃ best', nxB P best k best' := by
  by_cases h : (best = -2 ∨ pcS k < pcS best) ∧ P k
  · exact ⟨k, Or.inl ⟨h.1, h.2, rfl⟩⟩
  · exact ⟨best, Or.inr ⟨h, rfl⟩⟩
def wfB (best : Int) : Prop := best = -2 ∨ (0 ≤ best ∧ best < 4096)
theorem nxB_wf {P : Int → Prop} {best k best' : Int} (h : nxB P best k best') (hb : wfB best) (k0 : 0 ≤ k) (k1 : k < 4096) : wfB best' := by
  rcases h with ⟨_, _, rfl⟩ | ⟨_, rfl⟩
  · exact Or.inr ⟨k0, k1⟩
  · exact hb
theorem x_bc {k : Int} {K : Int → Prop} (k0 : 0 ≤ k) (k1 : k < 4096) (h : K ((pcS k : Nat) : Int)) : C_J15_bitCount k K := by
  have := x_bitCount (n := k.toNat) (K := K) (by omega) h
  rw [show ((k.toNat : Nat) : Int) = k by omega] at this
  exact this
theorem c_on {k : Int} {m : MS} {K : Int → MS → Prop} (k0 : 0 ≤ k) (k1 : k < 4096) (h : K ((pcS k : Nat) : Int) m) : C_ones k m K := by
  have := c_ones (n := k.toNat) (m := m) (K := K) (by omega) h
  rw [show ((k.toNat : Nat) : Int) = k by omega] at this
  exact this
/-- one set on, by the system -/
theorem x_fwS {P : Int → Prop} {R : XS → (Int → Prop) → Prop} {X5 : Int → Int → XS → Prop} {K : Int → XS → Prop} {s0 s1 : XS} {best k best' ns : Int} (hX : ∀ (x2 x3 : Int) (s0 : XS), B_X1_fewestBy_5 R X5 K x2 x3 s0 → X5 x2 x3 s0) (hq : pX s0 s1) (hns : 0 ≤ ns ∧ ns ≤ 12) (e32 : s0.1.1 32 = ns) (k0 : 0 ≤ k) (k1 : k ≤ jshl 1 ns - 1) (hB : wfB best) (hn : nxB P best k best') (hR : ∀ (s1 : XS) (K1 : Int → XS → Prop), pX s0 s1 → (∀ s', pX s0 s' → (P k → K1 1 s') ∧ (¬ P k → K1 0 s')) → C_X1_by k s1 (fun s' => R s' (fun r => K1 r s'))) (h : ∀ s', pX s0 s' → X5 best' (k + 1) s') : X5 best k s1 := by
  have hev := every_is hns.1 (show ns < 14 by omega)
  have h4096 : jshl 1 ns ≤ 4096 := by
    rw [hev]
    have : (2 : Int) ^ ns.toNat ≤ 2 ^ 12 := by
      have hle : ns.toNat ≤ 12 := by omega
      have := Nat.pow_le_pow_right (show 0 < 2 by decide) hle
      exact_mod_cast this
    have e : (2 : Int) ^ 12 = 4096 := by decide
    omega
  have e1 : s1.1.1 32 = ns := by rw [hq.1]; exact e32
  refine hX _ _ _ (x_every (by omega) ?_)
  rw [e1]
  have ask : C_X1_by k s1 (fun s' => R s' (fun r => (r = 0 → (inI (k + 1) ∧ X5 best (k + 1) s')) ∧ (¬ r = 0 → (inI (k + 1) ∧ X5 k (k + 1) s')))) ∨ ¬ (best = -2 ∨ pcS k < pcS best) := by
    by_cases hc : best = -2 ∨ pcS k < pcS best
    · refine Or.inl (hR s1 (fun r s' => (r = 0 → (inI (k + 1) ∧ X5 best (k + 1) s')) ∧ (¬ r = 0 → (inI (k + 1) ∧ X5 k (k + 1) s'))) hq (fun s' q => ⟨fun hp => ⟨fun q2 => absurd q2 (by decide), fun _ => ⟨inI_s (by omega), ?_⟩⟩, fun hp => ⟨fun _ => ⟨inI_s (by omega), ?_⟩, fun q2 => absurd rfl q2⟩⟩))
      · rcases hn with ⟨_, _, rfl⟩ | ⟨g, _⟩
        · exact h s' q
        · exact absurd ⟨hc, hp⟩ g
      · rcases hn with ⟨_, g, _⟩ | ⟨_, rfl⟩
        · exact absurd g hp
        · exact h s' q
    · exact Or.inr hc
  refine ⟨fun q => by omega, fun _ => ⟨fun e => ?_, fun e => ?_⟩⟩
  · exact ask.elim id (fun g => absurd (Or.inl e) g)
  · have hb : 0 ≤ best ∧ best < 4096 := hB.elim (fun q => absurd q e) id
    refine x_bc k0 (by omega) (x_bc hb.1 hb.2 ⟨fun q => ask.elim id (fun g => absurd (Or.inr (by omega)) g), fun q => ⟨inI_s (by omega), ?_⟩⟩)
    rcases hn with ⟨g, _, _⟩ | ⟨_, rfl⟩
    · exact absurd g (fun g => g.elim e (fun g => q (by omega)))
    · exact h s1 hq
theorem x_fwE {R : XS → (Int → Prop) → Prop} {X5 : Int → Int → XS → Prop} {K : Int → XS → Prop} {s0 s1 : XS} {best k ns : Int} (hX : ∀ (x2 x3 : Int) (s0 : XS), B_X1_fewestBy_5 R X5 K x2 x3 s0 → X5 x2 x3 s0) (hq : pX s0 s1) (hns : 0 ≤ ns ∧ ns ≤ 12) (e32 : s0.1.1 32 = ns) (k1 : k = jshl 1 ns) (h : K best s1) : X5 best k s1 := by
  have e1 : s1.1.1 32 = ns := by rw [hq.1]; exact e32
  refine hX _ _ _ (x_every (by omega) ?_)
  rw [e1]
  exact ⟨fun _ => h, fun q => by omega⟩
