/-! THE PURE PART, 51: text -/
set_option maxRecDepth 100000
theorem RW_pre {r m : MS} : ∀ (R : Nat) (t s d : Int), RW r m R t s d → ∀ k, k ≤ R → ∃ t' s' d', RW r m k t' s' d' ∧ t' ≤ t ∧ s' ≤ s ∧ d' ≤ d := by
  intro R
  induction R with
  | zero => exact fun t s d h k hk => ⟨t, s, d, by rw [show k = 0 by omega]; exact h, Int.le_refl _, Int.le_refl _, Int.le_refl _⟩
  | succ R ih =>
    intro t s d h k hk
    by_cases e : k = R + 1
    · exact ⟨t, s, d, by rw [e]; exact h, Int.le_refl _, Int.le_refl _, Int.le_refl _⟩
    · rcases h with ⟨-, h, -⟩ | ⟨-, h, -⟩ | ⟨-, h, -⟩
      · obtain ⟨t', s', d', a, b, c, e⟩ := ih _ _ _ h k (by omega)
        exact ⟨t', s', d', a, by omega, by omega, by omega⟩
      · obtain ⟨t', s', d', a, b, c, e⟩ := ih _ _ _ h k (by omega)
        exact ⟨t', s', d', a, by omega, by omega, by omega⟩
      · obtain ⟨t', s', d', a, b, c, e⟩ := ih _ _ _ h k (by omega)
        exact ⟨t', s', d', a, by omega, by omega, by omega⟩
theorem xj_i {s : XS} {r : MS} {k : Nat} (h : 30 ≤ k) : (xjoin s r).1.1 k = r.1 k := if_neg (by omega)
theorem xj_a {s : XS} {r : MS} {k : Nat} (h : 30 ≤ k) : (xjoin s r).1.2 k = r.2 k := if_neg (by omega)
theorem xj_ok {s : XS} {r : MS} {j : Nat} (h : rok r j) : xok (xjoin s r) j := by
  unfold xok
  rw [xj_i (by omega), xj_i (by omega), xj_i (by omega)]
  exact h
theorem RXb_R {s : XS} {r m : MS} {z : ZS} (h : BR r m) (ha : agR r z) (e1 : z.1.1 27 = r.1 31) (e2 : z.1.1 30 = r.1 32) (e3 : z.1.1 33 = r.1 33) : RXb (bkM z.1) (xjoin s r) := by
  obtain ⟨⟨c1, c2, c3, c4, c5, c6⟩, h2, h3, h4, h5, h6⟩ := h
  obtain ⟨⟨a1, a2⟩, a3, a4, a5⟩ := ha
  refine ⟨⟨(xj_i (by decide)).trans a1.symm, (xj_i (by decide)).trans e1.symm, (xj_i (by decide)).trans e2.symm, (xj_i (by decide)).trans e3.symm⟩, ⟨?_, ?_, ?_, ?_⟩, ⟨xj_ok ((h2 0 (by decide)).rok (by decide)).1, xj_ok ((h2 1 (by decide)).rok (by decide)).1, xj_ok ((h2 2 (by decide)).rok (by decide)).1, xj_ok ((h2 3 (by decide)).rok (by decide)).1⟩, fun f f0 f1 => ?_, fun t t0 t1 => ?_, fun k k0 k1 => ?_, fun k k0 k1 => ?_⟩
  · rw [xj_i (by decide)]; show z.1.1 6 ≤ _; rw [a1]; exact ((h2 0 (by decide)).rok (by decide)).2
  · rw [xj_i (by decide)]; show z.1.1 27 ≤ _; rw [e1]; exact ((h2 1 (by decide)).rok (by decide)).2
  · rw [xj_i (by decide)]; show z.1.1 30 ≤ _; rw [e2]; exact ((h2 2 (by decide)).rok (by decide)).2
  · rw [xj_i (by decide)]; show z.1.1 33 ≤ _; rw [e3]; exact ((h2 3 (by decide)).rok (by decide)).2
  · rw [xj_a (by decide)]
    have f1 : f < z.1.1 6 := f1
    exact (a2 f f0 (by omega)).symm
  · have t1 : t < z.1.1 27 := t1
    obtain ⟨q1, q2, q3, q4⟩ := a3 t t0 t1
    rw [xj_a (by decide), xj_a (by decide), xj_a (by omega)]
    refine ⟨q1.symm, ?_, fun k k0 k1 => ?_⟩
    · show r.2 34 t = z.1.2 7 (z.1.2 28 t)
      rw [q1, a2 _ q2.1 q2.2]; exact q3
    · have k1 : k < z.1.2 7 (z.1.2 28 t) := k1
      rw [q1, a2 _ q2.1 q2.2] at k1
      exact (q4 k k0 k1).symm
  · rw [xj_a (by decide), xj_a (by decide)]
    exact ⟨(a4 k k0 k1).1.symm, (a4 k k0 k1).2.symm⟩
  · rw [xj_a (by decide), xj_a (by decide)]
    exact ⟨(a5 k k0 k1).1.symm, (a5 k k0 k1).2.symm⟩
theorem sr0_Tr {s : XS} (h : s.2 4 = sr0) : Tr s := by
  have e1 : xq s = 0 := by unfold xq; rw [h]; rfl
  have e2 : trl s = 0 := by unfold trl; rw [h]; rfl
  refine ⟨by omega, ⟨0, by omega⟩, by rw [e2]; omega, fun k hk => by omega⟩
theorem sr0_RN {s : XS} {nf : Int} {tk : Int → Int} (h : s.2 4 = sr0) : RN s (nilZ nf tk) := by
  unfold RN
  rw [h]
  refine ⟨rfl, ⟨fun t t0 t1 => absurd (show t < 0 from t1) (by omega), fun t t0 t1 => ?_⟩, rfl, fun k k0 k1 => absurd (show k < 0 from k1) (by omega)⟩
  have t0 : 0 ≤ t := t0
  show upf 24 t = -1
  unfold upf
  exact if_pos ⟨t0, t1⟩
theorem sr0_TB {s : XS} {nf : Int} {tk : Int → Int} (h : s.2 4 = sr0) : TB s (nilZ nf tk) := by
  unfold TB trl
  rw [h]
  exact Int.le_refl (0 : Int)
