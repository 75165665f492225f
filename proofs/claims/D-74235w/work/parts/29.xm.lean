/-! THE SYSTEM's METHODS: a made object at a list's end -/
set_option maxRecDepth 100000
theorem xh_upl3 {V : XV} {s : XS} {r : MS} {g : AH} {j q m : Nat} {c0 c1 c2 : ACell} (hj : j < 5) (hx : xCx V r = xCx V s.1) (h1 : bC V r 2 j = some c1) (h2 : bC V r (3 + j) q = some c2) (h0 : bC V r (10 + j) m = some c0) (hn : bC V s.1 (10 + j) m = none) (h3 : ∀ reg k, ¬ (reg = 2 ∧ k = j) → ¬ (reg = 3 + j ∧ k = q) → ¬ (reg = 10 + j ∧ k = m) → bC V r reg k = bC V s.1 reg k) :
    hup (hup (xh V s (hup g (bI V (10 + j) m) c0)) (bI V (3 + j) q) c2) (bI V 2 j) c1 = xh V (r, s.2) g := by
  funext i
  by_cases e1 : i = bI V 2 j
  · subst e1
    rw [hup_self, xh_of ((xC_b (by omega)).trans h1)]
  · rw [hup_ne e1]
    by_cases e2 : i = bI V (3 + j) q
    · subst e2
      rw [hup_self, xh_of ((xC_b (by omega)).trans h2)]
    · rw [hup_ne e2]
      by_cases e0 : i = bI V (10 + j) m
      · subst e0
        rw [xh_of (s := (r, s.2)) ((xC_b (by omega)).trans h0), xh_g ((xC_b (by omega)).trans hn), hup_self]
      · have e3 : xC V (r, s.2) i = xC V s i := by
          unfold xC
          split
          · rw [hx]
          · split
            · next e =>
              have key : ∀ a b, i.2.1 = a → i.2.2 = b → i = bI V a b := fun a b ha hb => by
                obtain ⟨x, y, z⟩ := i
                simp at e ha hb
                simp only [bI, Prod.mk.injEq]
                exact ⟨e.1, ha, hb⟩
              exact h3 _ _ (fun z => e1 (key _ _ z.1 z.2)) (fun z => e2 (key _ _ z.1 z.2)) (fun z => e0 (key _ _ z.1 z.2))
            · rfl
        unfold xh
        rw [e3, hup_ne e0]
theorem bC_none {V : XV} {r : MS} {j m : Nat} (hj : j < 4) (h : (r.1 (40 + j)).toNat ≤ m) : bC V r (10 + j) m = none := by
  rcases (show j = 0 ∨ j = 1 ∨ j = 2 ∨ j = 3 by omega) with rfl | rfl | rfl | rfl <;> exact if_neg (Nat.not_lt.mpr h)
