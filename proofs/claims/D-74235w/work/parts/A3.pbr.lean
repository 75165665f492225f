/-! THE PURE PART, 40: texts: what is read so far, by both -/
set_option maxRecDepth 100000
/-- rows read so far: how many terms, sames, diffs, and that they are the same -/
def RW (r m : MS) : Nat → Int → Int → Int → Prop
  | 0, t, s, d => t = 0 ∧ s = 0 ∧ d = 0
  | k + 1, t, s, d =>
    (m.2 10 (48 + (k : Int)) = 0 ∧ RW r m k (t - 1) s d ∧ r.2 44 (t - 1 + s) = -1 ∧ (0 ≤ r.2 33 (t - 1) ∧ r.2 33 (t - 1) < r.1 30) ∧ m.2 11 (4 * (48 + (k : Int))) = r.2 33 (t - 1) ∧ r.2 34 (t - 1) = r.2 31 (r.2 33 (t - 1)) ∧ ∀ i, 0 ≤ i → i < r.2 31 (r.2 33 (t - 1)) → (0 ≤ r.2 (100 + (t - 1).toNat) i ∧ r.2 (100 + (t - 1).toNat) i < t - 1) ∧ m.2 11 (4 * (48 + (k : Int)) + 1 + i) = r.2 (100 + (t - 1).toNat) i) ∨
    (m.2 10 (48 + (k : Int)) = 1 ∧ RW r m k t (s - 1) d ∧ r.2 44 (t + (s - 1)) = s - 1 ∧ ((0 ≤ r.2 40 (s - 1) ∧ r.2 40 (s - 1) < t) ∧ 0 ≤ r.2 41 (s - 1) ∧ r.2 41 (s - 1) < t) ∧ m.2 11 (4 * (48 + (k : Int))) = r.2 40 (s - 1) ∧ m.2 11 (4 * (48 + (k : Int)) + 1) = r.2 41 (s - 1)) ∨
    (m.2 10 (48 + (k : Int)) = 2 ∧ RW r m k t s (d - 1) ∧ ((0 ≤ r.2 42 (d - 1) ∧ r.2 42 (d - 1) < t) ∧ 0 ≤ r.2 43 (d - 1) ∧ r.2 43 (d - 1) < t) ∧ m.2 11 (4 * (48 + (k : Int))) = r.2 42 (d - 1) ∧ m.2 11 (4 * (48 + (k : Int)) + 1) = r.2 43 (d - 1))
theorem RW_pos {r m : MS} : ∀ (k : Nat) (t s d : Int), RW r m k t s d → 0 ≤ t ∧ 0 ≤ s ∧ 0 ≤ d ∧ t + s + d = k := by
  intro k
  induction k with
  | zero => exact fun t s d h => by obtain ⟨a, b, c⟩ := h; omega
  | succ k ih =>
    intro t s d h
    rcases h with ⟨-, h, -⟩ | ⟨-, h, -⟩ | ⟨-, h, -⟩
    · have := ih _ _ _ h; omega
    · have := ih _ _ _ h; omega
    · have := ih _ _ _ h; omega
/-- what is beyond what is read doesn't matter -/
theorem RW_congr {r m r' m' : MS} {N S D : Int} {R : Nat} (hf : r.1 30 ≤ r'.1 30) (h31 : ∀ f, 0 ≤ f → f < r.1 30 → r'.2 31 f = r.2 31 f) (ht : ∀ t, 0 ≤ t → t < N → r'.2 33 t = r.2 33 t ∧ r'.2 34 t = r.2 34 t ∧ r'.2 (100 + t.toNat) = r.2 (100 + t.toNat)) (hs : ∀ t, 0 ≤ t → t < S → r'.2 40 t = r.2 40 t ∧ r'.2 41 t = r.2 41 t) (hd : ∀ t, 0 ≤ t → t < D → r'.2 42 t = r.2 42 t ∧ r'.2 43 t = r.2 43 t) (ho : ∀ t, 0 ≤ t → t < N + S → r'.2 44 t = r.2 44 t) (h10 : ∀ k, 48 ≤ k → k < 48 + (R : Int) → m'.2 10 k = m.2 10 k) (h11 : ∀ k, 192 ≤ k → k < 192 + 4 * (R : Int) → m'.2 11 k = m.2 11 k) (h3 : ∀ f, 0 ≤ f → f < r.1 30 → r.2 31 f ≤ 3) : ∀ (k : Nat) (t s d : Int), k ≤ R → t ≤ N → s ≤ S → d ≤ D → RW r m k t s d → RW r' m' k t s d := by
  intro k
  induction k with
  | zero => exact fun t s d _ _ _ _ h => h
  | succ k ih =>
    intro t s d hk hN hS hD h
    have e10 := h10 (48 + (k : Int)) (by omega) (by omega)
    have e11 := h11 (4 * (48 + (k : Int))) (by omega) (by omega)
    have e11' := h11 (4 * (48 + (k : Int)) + 1) (by omega) (by omega)
    have hpos := RW_pos (k + 1) t s d h
    show (_ ∧ _) ∨ (_ ∧ _) ∨ (_ ∧ _)
    rw [e10, e11, e11']
    rcases h with ⟨g1, g2, g3, g4, g5, g6, g7⟩ | ⟨g1, g2, g3, g4, g5, g6⟩ | ⟨g1, g2, g3, g4, g5⟩
    · have hp := RW_pos _ _ _ _ g2
      obtain ⟨a1, a2, a3⟩ := ht (t - 1) (by omega) (by omega)
      refine Or.inl ⟨g1, ih _ _ _ (by omega) (by omega) hS hD g2, ?_, ?_, ?_, ?_, fun i i0 i1 => ?_⟩
      · rw [ho _ (by omega) (by omega)]; exact g3
      · rw [a1]; omega
      · rw [a1]; exact g5
      · rw [a1, a2, h31 _ g4.1 g4.2]; exact g6
      · rw [a1, h31 _ g4.1 g4.2] at i1
        have := h3 _ g4.1 g4.2
        rw [a3, h11 _ (by omega) (by omega)]
        exact g7 i i0 i1
    · have hp := RW_pos _ _ _ _ g2
      obtain ⟨a1, a2⟩ := hs (s - 1) (by omega) (by omega)
      refine Or.inr (Or.inl ⟨g1, ih _ _ _ (by omega) hN (by omega) hD g2, ?_, ?_, ?_, ?_⟩)
      · rw [ho _ (by omega) (by omega)]; exact g3
      · rw [a1, a2]; exact g4
      · rw [a1]; exact g5
      · rw [a2]; exact g6
    · have hp := RW_pos _ _ _ _ g2
      obtain ⟨a1, a2⟩ := hd (d - 1) (by omega) (by omega)
      refine Or.inr (Or.inr ⟨g1, ih _ _ _ (by omega) hN hS (by omega) g2, ?_, ?_, ?_⟩)
      · rw [a1, a2]; exact g3
      · rw [a1]; exact g4
      · rw [a2]; exact g5
def gmR (j : Nat) : Int := if j = 0 then 2 else if j = 1 then 3 else if j = 2 then 3 else if j = 3 then 2 else 4
def mxR (j : Nat) : Int := if j = 0 then 8 else if j = 1 then 24 else if j = 2 then 12 else if j = 3 then 8 else 36
/-- a list of the reader -/
def lsR (r : MS) (j : Nat) : Prop := r.1 (40 + j) = r.1 (30 + j) ∧ (0 ≤ r.1 (30 + j) ∧ r.1 (30 + j) ≤ mxR j) ∧ (0 ≤ r.1 (50 + j) ∧ r.1 (50 + j) ≤ gmR j) ∧ r.1 (60 + j) ≤ r.1 (50 + j) ∧ r.1 (70 + j) = r.1 (30 + j) ∧ r.1 (30 + j) ≤ (xcap j (r.1 (50 + j)).toNat : Int)
/-- what is read so far -/
def BR (r m : MS) : Prop :=
  (r.1 30 = m.1 20 ∧ r.1 31 = m.1 21 ∧ r.1 32 = m.1 22 ∧ r.1 33 = m.1 23 ∧ r.1 34 = r.1 31 + r.1 32 ∧ m.1 24 = r.1 31 + r.1 32 + r.1 33) ∧
  (∀ j, j < 5 → lsR r j) ∧ bkv r ∧
  (∀ f, 0 ≤ f → f < r.1 30 → nameL (r.2 30 f) (fun k => m.2 25 (6 * f + k)) ∧ r.2 31 f = m.2 7 (8 + f) ∧ 0 ≤ r.2 31 f ∧ r.2 31 f ≤ 3) ∧
  (∀ t, 0 ≤ t → t < r.1 31 → nameL (r.2 32 t) (fun k => m.2 12 (6 * (24 + t) + k))) ∧
  RW r m (m.1 24).toNat (r.1 31) (r.1 32) (r.1 33)
theorem BR.fun {r m : MS} (h : BR r m) : 0 ≤ r.1 30 ∧ r.1 30 ≤ 8 := (h.2.1 0 (by decide)).2.1
theorem BR.term {r m : MS} (h : BR r m) : 0 ≤ r.1 31 ∧ r.1 31 ≤ 24 := (h.2.1 1 (by decide)).2.1
theorem BR.same {r m : MS} (h : BR r m) : 0 ≤ r.1 32 ∧ r.1 32 ≤ 12 := (h.2.1 2 (by decide)).2.1
theorem BR.diff {r m : MS} (h : BR r m) : 0 ≤ r.1 33 ∧ r.1 33 ≤ 8 := (h.2.1 3 (by decide)).2.1
theorem BR.rows {r m : MS} (h : BR r m) : 0 ≤ m.1 24 ∧ m.1 24 ≤ 44 := by
  have h1 := h.term
  have h2 := h.same
  have h3 := h.diff
  obtain ⟨⟨e1, e2, e3, e4, e5, e6⟩, -⟩ := h
  omega
theorem BR.r {r r' m : MS} (h : BR r m) (g : fr8 r r') : BR r' m := by
  have e1 : ∀ k, 30 ≤ k → r'.1 k = r.1 k := fun k hk => g.1 k (by omega) (by omega) (by omega) (by omega) (by omega)
  have e2 := g.2
  obtain ⟨h1, h2, h3, h4, h5, h6⟩ := h
  refine ⟨?_, fun j hj => ?_, ?_, ?_, ?_, ?_⟩
  · rw [e1 30 (by decide), e1 31 (by decide), e1 32 (by decide), e1 33 (by decide), e1 34 (by decide)]; exact h1
  · have := h2 j hj
    unfold lsR at this ⊢
    rw [e1 (40 + j) (by omega), e1 (30 + j) (by omega), e1 (50 + j) (by omega), e1 (60 + j) (by omega), e1 (70 + j) (by omega)]
    exact this
  · unfold bkv rinc at h3 ⊢
    rw [e1 54 (by decide), e1 34 (by decide), e2]; exact h3
  · rw [e1 30 (by decide), e2]; exact h4
  · rw [e1 31 (by decide), e2]; exact h5
  · rw [e1 31 (by decide), e1 32 (by decide), e1 33 (by decide)]
    exact RW_congr (N := r.1 31) (S := r.1 32) (D := r.1 33) (R := (m.1 24).toNat) (by rw [e1 30 (by decide)]; exact Int.le_refl _) (fun f _ _ => by rw [e2]) (fun t _ _ => by rw [e2]; exact ⟨rfl, rfl, rfl⟩) (fun t _ _ => by rw [e2]; exact ⟨rfl, rfl⟩) (fun t _ _ => by rw [e2]; exact ⟨rfl, rfl⟩) (fun t _ _ => by rw [e2]) (fun _ _ _ => rfl) (fun _ _ _ => rfl) (fun f f0 f1 => (h4 f f0 f1).2.2.2) _ _ _ _ (Nat.le_refl _) (Int.le_refl _) (Int.le_refl _) (Int.le_refl _) h6
/-- what is kept by the reference beyond what is read -/
theorem BR.m {r m m' : MS} (h : BR r m) (hi : ∀ k, 20 ≤ k → k ≤ 24 → m'.1 k = m.1 k) (h7 : ∀ k, 8 ≤ k → k < 8 + r.1 30 → m'.2 7 k = m.2 7 k) (h25 : ∀ k, 0 ≤ k → k < 6 * r.1 30 → m'.2 25 k = m.2 25 k) (h12 : ∀ k, 144 ≤ k → k < 144 + 6 * r.1 31 → m'.2 12 k = m.2 12 k) (h10 : ∀ k, 48 ≤ k → k < 48 + m.1 24 → m'.2 10 k = m.2 10 k) (h11 : ∀ k, 192 ≤ k → k < 192 + 4 * m.1 24 → m'.2 11 k = m.2 11 k) : BR r m' := by
  have hrows := h.rows
  obtain ⟨g1, g2, g3, g4, g5, g6⟩ := h
  have nm : ∀ (w : Int) (l l' : Int → Int), (∀ k, 0 ≤ k → k < 6 → l' k = l k) → nameL w l → nameL w l' := by
    rintro w l l' he ⟨n, n6, n0, n1, n2, n3⟩
    refine ⟨n, n6, n0, fun k k0 k1 => by rw [he k k0 (by omega)]; exact n1 k k0 k1, fun k k0 k1 => by rw [he k (by omega) k1]; exact n2 k k0 k1, ?_⟩
    rw [n3]
    have L : ∀ x : Nat, x ≤ 6 → pkN l x = pkN l' x := by
      intro x
      induction x with
      | zero => exact fun _ => rfl
      | succ x ih =>
        intro hx
        show pkN l x * 256 + l (x : Int) = pkN l' x * 256 + l' (x : Int)
        rw [ih (by omega), he x (by omega) (by omega)]
    exact L n n6
  refine ⟨?_, g2, g3, fun f f0 f1 => ?_, fun t t0 t1 => ?_, ?_⟩
  · rw [hi 20 (by decide) (by decide), hi 21 (by decide) (by decide), hi 22 (by decide) (by decide), hi 23 (by decide) (by decide), hi 24 (by decide) (by decide)]; exact g1
  · obtain ⟨a1, a2, a3⟩ := g4 f f0 f1
    refine ⟨nm _ _ _ (fun k k0 k1 => h25 _ (by omega) (by omega)) a1, ?_, a3⟩
    rw [h7 _ (by omega) (by omega)]; exact a2
  · exact nm _ _ _ (fun k k0 k1 => h12 _ (by omega) (by omega)) (g5 t t0 t1)
  · rw [hi 24 (by decide) (by decide)]
    exact RW_congr (N := r.1 31) (S := r.1 32) (D := r.1 33) (R := (m.1 24).toNat) (Int.le_refl _) (fun f _ _ => rfl) (fun t _ _ => ⟨rfl, rfl, rfl⟩) (fun t _ _ => ⟨rfl, rfl⟩) (fun t _ _ => ⟨rfl, rfl⟩) (fun t _ _ => rfl) (fun k k0 k1 => h10 k k0 (by omega)) (fun k k0 k1 => h11 k k0 (by omega)) (fun f f0 f1 => (g4 f f0 f1).2.2.2) _ _ _ _ (Nat.le_refl _) (Int.le_refl _) (Int.le_refl _) (Int.le_refl _) g6
theorem BR.g {r m m' : MS} (h : BR r m) (g : frG m m') : BR r m' := h.m (fun k k0 k1 => g.1 k (by omega) (by omega) (by omega) (by omega)) (fun _ _ _ => by rw [g.2]) (fun _ _ _ => by rw [g.2]) (fun _ _ _ => by rw [g.2]) (fun _ _ _ => by rw [g.2]) (fun _ _ _ => by rw [g.2])
/-- both, amid a text -/
def RD (tp : Int → Int) (r m : MS) : Prop := tpR tp (m.2 4) ∧ (r.1 0 = m.1 13 ∧ 0 ≤ r.1 0 ∧ r.1 0 ≤ 500) ∧ lxR (m.2 4) r m ∧ BR r m
theorem RD.pos {tp : Int → Int} {r m : MS} (h : RD tp r m) : 0 ≤ r.1 3 ∧ r.1 3 ≤ r.1 2 ∧ r.1 2 ≤ r.1 0 := h.2.2.1.1.2.2
theorem RD.pm {tp : Int → Int} {r m : MS} (h : RD tp r m) : r.1 3 = m.1 14 := h.2.2.1.1.2.1
theorem RD.go {tp : Int → Int} {r m : MS} (h : RD tp r m) : ∃ r' m', (∀ K, K r' → C_X8_go tp r K) ∧ (∀ K, K m' → C_goesOn m K) ∧ fr8 r r' ∧ frG m m' ∧ RD tp r' m' := by
  obtain ⟨ht, ⟨h1, h2, h3⟩, hl, hb⟩ := h
  obtain ⟨⟨e1, e2, e3, e4, e5⟩, -, -⟩ := hl
  obtain ⟨r', m', a1, a2, a3, a4, a5, -⟩ := lex ht h1 h3 e1 ⟨by omega, e5⟩
  have x0 : r'.1 0 = r.1 0 := a3.1 0 (by decide) (by decide) (by decide) (by decide) (by decide)
  have y13 : m'.1 13 = m.1 13 := a4.1 13 (by decide) (by decide) (by decide) (by decide)
  exact ⟨r', m', a1, a2, a3, a4, by rw [a4.2]; exact ht, ⟨by omega, by omega, by omega⟩, by rw [a4.2]; exact a5, (hb.r a3).g a4⟩
/-- the frame of reading in the reference -/
def frR (m m' : MS) : Prop := (∀ k, (k < 13 ∨ 24 < k) → m'.1 k = m.1 k) ∧ (∀ k, k ≠ 7 → k ≠ 10 → k ≠ 11 → k ≠ 12 → k ≠ 25 → m'.2 k = m.2 k) ∧ (∀ k, k < 8 → m'.2 7 k = m.2 7 k) ∧ (∀ k, k < 48 → m'.2 10 k = m.2 10 k) ∧ (∀ k, k < 192 → m'.2 11 k = m.2 11 k) ∧ ∀ k, k < 144 → m'.2 12 k = m.2 12 k
theorem frR.rf {m : MS} : frR m m := ⟨fun _ _ => rfl, fun _ _ _ _ _ _ => rfl, fun _ _ => rfl, fun _ _ => rfl, fun _ _ => rfl, fun _ _ => rfl⟩
theorem frR.tr {m m1 m2 : MS} (h : frR m m1) (g : frR m1 m2) : frR m m2 := ⟨fun k q => (g.1 k q).trans (h.1 k q), fun k a b c d e => (g.2.1 k a b c d e).trans (h.2.1 k a b c d e), fun k q => (g.2.2.1 k q).trans (h.2.2.1 k q), fun k q => (g.2.2.2.1 k q).trans (h.2.2.2.1 k q), fun k q => (g.2.2.2.2.1 k q).trans (h.2.2.2.2.1 k q), fun k q => (g.2.2.2.2.2 k q).trans (h.2.2.2.2.2 k q)⟩
theorem frG.r {m m' : MS} (h : frG m m') : frR m m' := ⟨fun k q => h.1 k (by omega) (by omega) (by omega) (by omega), fun _ _ _ _ _ _ => by rw [h.2], fun _ _ => by rw [h.2], fun _ _ => by rw [h.2], fun _ _ => by rw [h.2], fun _ _ => by rw [h.2]⟩
theorem frR_ms {m : MS} {k : Nat} {v : Int} (hk : 13 ≤ k ∧ k ≤ 24) : frR m (ms m k v) := ⟨fun j q => if_neg (by omega), fun _ _ _ _ _ _ => rfl, fun _ _ => rfl, fun _ _ => rfl, fun _ _ => rfl, fun _ _ => rfl⟩
/-- both read on, or both find the same fault -/
def OutL (m0 : MS) (S : (MS → Prop) → (Int → Int → Prop) → Prop) (M : (Int → MS → Prop) → Prop) (Q : MS → MS → Prop) : Prop :=
  (∃ r' m', (∀ K KX, K r' → S K KX) ∧ (∀ K, K 1 m' → M K) ∧ Q r' m' ∧ frR m0 m') ∨ (∃ kd pl m', (∀ K KX, KX kd pl → S K KX) ∧ (∀ K, K 0 m' → M K) ∧ m'.1 18 = kd ∧ m'.1 19 = pl ∧ (1 ≤ kd ∧ kd ≤ 5) ∧ frR m0 m')
theorem OutL.step {m0 : MS} {S S1 : (MS → Prop) → (Int → Int → Prop) → Prop} {M M1 : (Int → MS → Prop) → Prop} {Q : MS → MS → Prop} (hS : ∀ K KX, S1 K KX → S K KX) (hM : ∀ K, M1 K → M K) (h : OutL m0 S1 M1 Q) : OutL m0 S M Q := by
  rcases h with ⟨r', m', a, b, c, d⟩ | ⟨kd, pl, m', a, b, c⟩
  · exact Or.inl ⟨r', m', fun K KX k => hS K KX (a K KX k), fun K k => hM K (b K k), c, d⟩
  · exact Or.inr ⟨kd, pl, m', fun K KX k => hS K KX (a K KX k), fun K k => hM K (b K k), c⟩
theorem OutL.bad {m0 m : MS} {pl kd : Int} {S : (MS → Prop) → (Int → Int → Prop) → Prop} {M : (Int → MS → Prop) → Prop} {Q : MS → MS → Prop} (hf : frR m0 m) (hp : pl = m.1 14) (hk : 1 ≤ kd ∧ kd ≤ 5) (hS : ∀ K KX, KX kd pl → S K KX) (hM : ∀ K, K 0 (ms (ms m 18 kd) 19 (m.1 14)) → M K) : OutL m0 S M Q :=
  Or.inr ⟨kd, pl, _, hS, hM, rfl, hp.symm, hk, hf.tr ((frR_ms (k := 18) (by decide)).tr (frR_ms (k := 19) (by decide)))⟩
theorem OutL.good {m0 r m : MS} {S : (MS → Prop) → (Int → Int → Prop) → Prop} {M : (Int → MS → Prop) → Prop} {Q : MS → MS → Prop} (hS : ∀ K KX, K r → S K KX) (hM : ∀ K, K 1 m → M K) (hQ : Q r m) (hf : frR m0 m) : OutL m0 S M Q := Or.inl ⟨r, m, hS, hM, hQ, hf⟩
theorem OutL.fr {m0 m : MS} {S : (MS → Prop) → (Int → Int → Prop) → Prop} {M : (Int → MS → Prop) → Prop} {Q : MS → MS → Prop} (hf : frR m0 m) (h : OutL m S M Q) : OutL m0 S M Q := by
  rcases h with ⟨r', m', a, b, c, d⟩ | ⟨kd, pl, m', a, b, c, d, e, f⟩
  · exact Or.inl ⟨r', m', a, b, c, hf.tr d⟩
  · exact Or.inr ⟨kd, pl, m', a, b, c, d, e, hf.tr f⟩
theorem c_errs {m : MS} {kd : Int} {K : Int → MS → Prop} (h : K 0 (ms (ms m 18 kd) 19 (m.1 14))) : C_errs kd m K := by
  rintro _ rfl _ rfl
  exact h
/-- the word here -/
theorem RD.wd {tp : Int → Int} {r m : MS} (h : RD tp r m) (h2 : r.1 4 = 2) : isWd (m.2 4) (m.1 14) (m.1 15) (r.1 6) := by
  obtain ⟨ht, h1, ⟨⟨e1, e2, e3, e4, e5⟩, hp, hk⟩, hb⟩ := h
  have := hp (by omega)
  rcases hk with k | k | k | k | k
  · omega
  · omega
  · obtain ⟨k1, k2, k3, k4, k5⟩ := k
    rw [e1, e2] at k3 k4 k5
    exact ⟨⟨by omega, k3⟩, k4, k5⟩
  · omega
  · omega
theorem RD.pl {tp : Int → Int} {r m : MS} (h : RD tp r m) : 0 ≤ m.1 14 ∧ m.1 14 ≤ 500 ∧ 0 ≤ m.1 15 ∧ m.1 15 ≤ 500 := by
  obtain ⟨ht, h1, ⟨⟨e1, e2, e3, e4, e5⟩, hp, hk⟩, hb⟩ := h
  omega
theorem lsR.rok {r : MS} {j : Nat} (hj : j < 5) (h : lsR r j) : rok r j ∧ r.1 (30 + j) ≤ r.1 (40 + j) := by
  obtain ⟨h1, h2, h3, h4, h5, h6⟩ := h
  refine ⟨⟨h6, by omega, ?_⟩, by omega⟩
  have : ∀ j : Nat, j < 5 → ∀ g : Nat, (g : Int) ≤ gmR j → xcap j g ≤ 5000 := by
    intro j hj g hg
    rcases (show j = 0 ∨ j = 1 ∨ j = 2 ∨ j = 3 ∨ j = 4 by omega) with rfl | rfl | rfl | rfl | rfl
    · have hg : (g : Int) ≤ 2 := hg
      rcases (show g = 0 ∨ g = 1 ∨ g = 2 by omega) with rfl | rfl | rfl <;> decide
    · have hg : (g : Int) ≤ 3 := hg
      rcases (show g = 0 ∨ g = 1 ∨ g = 2 ∨ g = 3 by omega) with rfl | rfl | rfl | rfl <;> decide
    · have hg : (g : Int) ≤ 3 := hg
      rcases (show g = 0 ∨ g = 1 ∨ g = 2 ∨ g = 3 by omega) with rfl | rfl | rfl | rfl <;> decide
    · have hg : (g : Int) ≤ 2 := hg
      rcases (show g = 0 ∨ g = 1 ∨ g = 2 by omega) with rfl | rfl | rfl <;> decide
    · have hg : (g : Int) ≤ 4 := hg
      rcases (show g = 0 ∨ g = 1 ∨ g = 2 ∨ g = 3 ∨ g = 4 by omega) with rfl | rfl | rfl | rfl | rfl <;> decide
  exact this j hj _ (by omega)
theorem RD.tv {tp : Int → Int} {r m : MS} (h : RD tp r m) (h2 : r.1 4 = 2) : ∃ v, isFirst (fun k => r.2 32 k = r.1 6) (r.1 31) v ∧ isFirst (fun k => atP m 12 (6 * (24 + k)) (m.1 14) (m.1 15)) (m.1 21) v := by
  have hw := h.wd h2
  have hb := h.2.2.2
  obtain ⟨v, hv⟩ := isFirst_ex (P := fun k => r.2 32 k = r.1 6) hb.term.1
  refine ⟨v, hv, ?_⟩
  rw [← hb.1.2.1]
  exact isFirst_iff (fun k k0 k1 => (name_eq (hb.2.2.2.2.1 k k0 k1) hw).symm) hv
theorem RD.fv {tp : Int → Int} {r m : MS} (h : RD tp r m) (h2 : r.1 4 = 2) : ∃ v, isFirst (fun k => r.2 30 k = r.1 6) (r.1 30) v ∧ isFirst (fun k => atP m 25 (6 * k) (m.1 14) (m.1 15)) (m.1 20) v := by
  have hw := h.wd h2
  have hb := h.2.2.2
  obtain ⟨v, hv⟩ := isFirst_ex (P := fun k => r.2 30 k = r.1 6) hb.fun.1
  refine ⟨v, hv, ?_⟩
  rw [← hb.1.1]
  exact isFirst_iff (fun k k0 k1 => (name_eq (hb.2.2.2.1 k k0 k1).1 hw).symm) hv
/-- a name is a name then -/
theorem RD.nl {tp : Int → Int} {r m : MS} (h : RD tp r m) (h2 : r.1 4 = 2) : nameL (r.1 6) (letA (m.2 4) (m.1 14) (m.1 15)) := by
  obtain ⟨⟨w0, w1⟩, w2, w3⟩ := h.wd h2
  refine ⟨(m.1 15 - m.1 14).toNat, by omega, by omega, fun k k0 k1 => ?_, fun k k0 k1 => ?_, ?_⟩
  · unfold letA
    rw [if_pos (by omega)]
    exact w2 _ (by omega) (by omega)
  · unfold letA
    rw [if_neg (by omega)]
  · rw [w3]
    have L : ∀ x : Nat, x ≤ (m.1 15 - m.1 14).toNat → pkN (fun k => m.2 4 (m.1 14 + k)) x = pkN (letA (m.2 4) (m.1 14) (m.1 15)) x := by
      intro x
      induction x with
      | zero => exact fun _ => rfl
      | succ x ih =>
        intro hx
        show pkN _ x * 256 + m.2 4 (m.1 14 + (x : Int)) = pkN _ x * 256 + letA (m.2 4) (m.1 14) (m.1 15) (x : Int)
        rw [ih (by omega)]
        unfold letA
        rw [if_pos (by omega)]
    exact L _ (Nat.le_refl _)
/-- names are looked up by both: a name that isn't there -/
theorem x2_f {tp : Int → Int} {r m : MS} {v : Int} {K : Int → Prop} (h : RD tp r m) (hv : isFirst (fun k => r.2 30 k = r.1 6) (r.1 30) v) (hk : K v) : C_X2_function_R (r.1 6) r K := by
  have hb := h.2.2.2
  have hl := (hb.2.1 0 (by decide)).rok (by decide)
  have := hb.fun
  exact x2_function (by omega) hl.1 hl.2 hv hk
theorem x2_t {tp : Int → Int} {r m : MS} {v : Int} {K : Int → Prop} (h : RD tp r m) (hv : isFirst (fun k => r.2 32 k = r.1 6) (r.1 31) v) (hk : K v) : C_X2_term_R (r.1 6) r K := by
  have hb := h.2.2.2
  have hl := (hb.2.1 1 (by decide)).rok (by decide)
  have := hb.term
  exact x2_term (by omega) hl.1 hl.2 hv hk
theorem c_f {tp : Int → Int} {r m : MS} {v : Int} {K : Int → MS → Prop} (h : RD tp r m) (hv : isFirst (fun k => atP m 25 (6 * k) (m.1 14) (m.1 15)) (m.1 20) v) (hk : K v m) : C_funHere m K := by
  have hb := h.2.2.2
  have := hb.fun
  have := hb.1.1
  exact c_funHere (by omega) h.pl hv hk
theorem c_t {tp : Int → Int} {r m : MS} {v : Int} {K : Int → MS → Prop} (h : RD tp r m) (hv : isFirst (fun k => atP m 12 (6 * (24 + k)) (m.1 14) (m.1 15)) (m.1 21) v) (hk : K v m) : C_termHere m K := by
  have hb := h.2.2.2
  have := hb.term
  have := hb.1.2.1
  exact c_termHere (by omega) h.pl hv hk
theorem isFirst_n {P : Int → Prop} {n v : Int} (h : isFirst P n v) (hv : v ≠ -1) : 0 ≤ v ∧ v < n := by
  rcases h with ⟨e, _⟩ | ⟨h1, _⟩
  · exact absurd e hv
  · exact h1
