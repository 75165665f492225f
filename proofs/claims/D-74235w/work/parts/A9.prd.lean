/-! THE PURE PART, 46: texts: all of it is read by both -/
set_option maxRecDepth 100000
theorem OutL.fin {m0 : MS} {S S1 : (MS → Prop) → (Int → Int → Prop) → Prop} {M M1 : (Int → MS → Prop) → Prop} {Q : MS → MS → Prop} (h : OutL m0 S1 M1 Q) (hS : ∀ K KX, S1 K KX → S K KX) (hM : ∀ K, M1 K → M K) : OutL m0 S M Q := OutL.step hS hM h
theorem read_loop {tp : Int → Int} : ∀ (d : Nat) (r m : MS) (kc ks : Nat), RD tp r m → sumR r + d = 53 → 60 * d + 1 ≤ kc → 600 * d + 8 ≤ ks →
    OutL m (fun K KX => ∀ X8 : Nat → Nat → MS → Prop, (∀ kc ks s0, B_X8_read_8 X8 K KX kc ks tp s0 → X8 kc ks s0) → X8 kc ks r) (fun K => ∀ X48 : MS → Prop, (∀ s0, B_readAll_48 X48 K s0 → X48 s0) → X48 m) (RD tp) := by
  intro d
  induction d with
  | zero =>
    intro r m kc ks h hd hc hs
    have h1 := h.2.2.2.fun
    have h2 := h.2.2.2.term
    have h3 := h.2.2.2.same
    have h4 := h.2.2.2.diff
    unfold sumR at hd
    omega
  | succ d ih =>
    intro r m kc ks h hd hc hs
    have stp : (m.1 16 = 0 ↔ r.1 4 = 1) := by
      obtain ⟨-, -, hk⟩ := h.2.2.1
      rcases hk with k | k | k | k | k
      · omega
      · omega
      · omega
      · omega
      · have := k.2.2; unfold isSg at this; omega
    by_cases e : m.1 16 = 59
    · obtain ⟨r1, m1, u1, v1, f1, g1, h1⟩ := h.go
      rcases line_all (kc := 60) (ks := 600) h1 (Nat.le_refl _) (Nat.le_refl _) with ⟨r2, m2, a, b, ⟨c, cs⟩, f⟩ | ⟨kd, pl, m2, a, b, c⟩
      · have es : sumR r1 = sumR r := by
          unfold sumR
          rw [f1.1 30 (by decide) (by decide) (by decide) (by decide) (by decide), f1.1 31 (by decide) (by decide) (by decide) (by decide) (by decide), f1.1 32 (by decide) (by decide) (by decide) (by decide) (by decide), f1.1 33 (by decide) (by decide) (by decide) (by decide) (by decide)]
        have hi := ih r2 m2 (kc - 60) (ks - 600) c (by omega) (by omega) (by omega)
        refine OutL.fr (g1.r.tr f) (OutL.step (fun K KX q X8 hX => ?_) (fun K q X48 hX => ?_) hi)
        · exact hX _ _ _ (h.sg sg59 (fun _ => ⟨fun q2 => absurd q2 (by decide), fun _ => u1 _ ⟨60, 600, by omega, by omega, a _ _ (q X8 hX)⟩⟩) (fun q2 => absurd e q2))
        · exact hX _ ⟨fun _ => v1 _ (b _ ⟨fun q2 => absurd q2 (by decide), fun _ => q X48 hX⟩), fun q2 => absurd e q2⟩
      · refine Or.inr ⟨kd, pl, m2, fun K KX q X8 hX => ?_, fun K q X48 hX => ?_, c.1, c.2.1, c.2.2.1, g1.r.tr c.2.2.2⟩
        · exact hX _ _ _ (h.sg sg59 (fun _ => ⟨fun q2 => absurd q2 (by decide), fun _ => u1 _ ⟨60, 600, by omega, by omega, a _ _ q⟩⟩) (fun q2 => absurd e q2))
        · exact hX _ ⟨fun _ => v1 _ (b _ ⟨fun _ => q, fun q2 => absurd rfl q2⟩), fun q2 => absurd e q2⟩
    · by_cases e0 : m.1 16 = 0
      · exact OutL.good (r := r) (m := m) (fun K KX q X8 hX => hX _ _ _ (h.sg sg59 (fun q2 => absurd q2 e) (fun _ => ⟨fun _ => ⟨fun _ => ⟨⟨by omega, by omega⟩, q⟩, fun q2 => absurd (stp.mp e0) q2⟩, fun q2 => absurd rfl q2⟩))) (fun K q X48 hX => hX _ ⟨fun q2 => absurd q2 e, fun _ => ⟨fun _ => q, fun q2 => absurd e0 q2⟩⟩) h frR.rf
      · exact OutL.bad frR.rf h.pm (by decide) (fun K KX q X8 hX => hX _ _ _ (h.sg sg59 (fun q2 => absurd q2 e) (fun _ => ⟨fun _ => ⟨fun q2 => absurd (stp.mpr q2) e0, fun _ => ⟨⟨by omega, by omega⟩, q⟩⟩, fun q2 => absurd rfl q2⟩))) (fun K q X48 hX => hX _ ⟨fun q2 => absurd q2 e, fun _ => ⟨fun q2 => absurd q2 e0, fun _ => c_errs ⟨fun _ => q, fun q2 => absurd rfl q2⟩⟩⟩)
/-- the reference as it begins to read -/
def begM (m : MS) (n : Int) : MS := ms (ms (ms (ms (ms (ms (ms m 13 n) 15 0) 20 0) 21 0) 22 0) 23 0) 24 0
theorem begBR (m : MS) (n : Int) : BR (rr0 n) (begM m n) := by
  refine ⟨⟨rfl, rfl, rfl, rfl, rfl, rfl⟩, fun j hj => ?_, ⟨fun k hk => absurd (show (k : Int) < 0 from hk) (by omega), fun x x0 x1 => absurd (show x < 0 from x1) (by omega)⟩, fun f f0 f1 => absurd (show f < 0 from f1) (by omega), fun f f0 f1 => absurd (show f < 0 from f1) (by omega), ⟨rfl, rfl, rfl⟩⟩
  have z : ∀ k : Nat, 30 ≤ k → (rr0 n).1 k = 0 := fun k hk => if_neg (by omega)
  unfold lsR
  rw [z (30 + j) (by omega), z (40 + j) (by omega), z (50 + j) (by omega), z (60 + j) (by omega), z (70 + j) (by omega)]
  rcases (show j = 0 ∨ j = 1 ∨ j = 2 ∨ j = 3 ∨ j = 4 by omega) with rfl | rfl | rfl | rfl | rfl <;> decide
theorem read_all {tp : Int → Int} {m : MS} {n : Int} {kc ks : Nat} (ht : tpR tp (m.2 4)) (hn : 0 ≤ n ∧ n ≤ 500) (hc : 3300 ≤ kc) (hs : 32000 ≤ ks) :
    OutL m (fun K KX => C_X8_read kc ks tp (rr0 n) K KX) (fun K => C_readAll n m K) (RD tp) := by
  have f0 : frR m (begM m n) := (((((((frR_ms (k := 13) (by decide)).tr (frR_ms (k := 15) (by decide))).tr (frR_ms (k := 20) (by decide))).tr (frR_ms (k := 21) (by decide))).tr (frR_ms (k := 22) (by decide))).tr (frR_ms (k := 23) (by decide))).tr (frR_ms (k := 24) (by decide)))
  obtain ⟨r1, m1, u1, v1, f1, g1, h1, -⟩ := lex (tp := tp) (r := rr0 n) (m := begM m n) ht rfl hn.2 rfl ⟨Int.le_refl _, hn.1⟩
  have x0 : r1.1 0 = n := f1.1 0 (by decide) (by decide) (by decide) (by decide) (by decide)
  have y13 : m1.1 13 = n := g1.1 13 (by decide) (by decide) (by decide) (by decide)
  have hRD : RD tp r1 m1 := ⟨by rw [g1.2]; exact ht, ⟨by omega, by omega, by omega⟩, by rw [g1.2]; exact h1, ((begBR m n).r f1).g g1⟩
  have z1 : ∀ k, 30 ≤ k → r1.1 k = 0 := fun k hk => (f1.1 k (by omega) (by omega) (by omega) (by omega) (by omega)).trans (if_neg (by omega))
  have es : sumR r1 = 0 := by
    unfold sumR
    rw [z1 30 (by decide), z1 31 (by decide), z1 32 (by decide), z1 33 (by decide)]; rfl
  have mS : ∀ {K : Int → MS → Prop}, (∀ X48 : MS → Prop, (∀ s0, B_readAll_48 X48 K s0 → X48 s0) → C_readLine m1 (fun r18 s => ((r18 = 0 → K 0 s) ∧ (¬ r18 = 0 → X48 s)))) → C_readAll n m K := by
    intro K q X48 hX
    rintro _ rfl _ rfl _ rfl _ rfl _ rfl _ rfl _ rfl
    exact v1 _ (q X48 hX)
  rcases line_all (kc := 60) (ks := 600) hRD (Nat.le_refl _) (Nat.le_refl _) with ⟨r2, m2, a, b, ⟨c, cs⟩, f⟩ | ⟨kd, pl, m2, a, b, c⟩
  · have hi := read_loop (tp := tp) 52 r2 m2 (kc - 60) (ks - 600) c (by omega) (by omega) (by omega)
    refine OutL.fr (f0.tr (g1.r.tr f)) (OutL.step (fun K KX q X8 hX => ?_) (fun K q => ?_) hi)
    · exact u1 _ ⟨60, 600, by omega, by omega, a _ _ (q X8 hX)⟩
    · exact mS (fun X48 hX => b _ ⟨fun q2 => absurd q2 (by decide), fun _ => q X48 hX⟩)
  · refine Or.inr ⟨kd, pl, m2, fun K KX q X8 hX => ?_, fun K q => ?_, c.1, c.2.1, c.2.2.1, f0.tr (g1.r.tr c.2.2.2)⟩
    · exact u1 _ ⟨60, 600, by omega, by omega, a _ _ q⟩
    · exact mS (fun X48 hX => b _ ⟨fun _ => q, fun q2 => absurd rfl q2⟩)
