/-! THE PURE PART, 28: the relation -/
set_option maxRecDepth 100000
def tkM (m : MS) : Int → Int := fun f => if 0 ≤ f ∧ f < m.1 6 then m.2 7 f else 0
def WM (m : MS) : Int → Int → Int := fun r i => if i = 0 then m.2 10 r else if 1 ≤ i ∧ i ≤ 4 then m.2 11 (4 * r + (i - 1)) else 0
/-- what stands behind some rows -/
noncomputable def zM (m : MS) (n : Int) : ZS := runZ (nilZ (m.1 6) (tkM m)) (WM m) n.toNat
/-- rows and what stands -/
def JR (s : XS) (m : MS) : Prop := ((0 ≤ m.1 9 ∧ m.1 9 ≤ m.1 8) ∧ m.1 8 = m.1 27 + m.1 30 + m.1 33) ∧ ((0 ≤ m.1 6 ∧ m.1 6 ≤ 8) ∧ ∀ f, 0 ≤ f → f < m.1 6 → 0 ≤ m.2 7 f ∧ m.2 7 f ≤ 3) ∧ okRun (nilZ (m.1 6) (tkM m)) (WM m) (m.1 8).toNat ∧ JZ s m (zM m (m.1 8))
/-- a row's kind, by the system -/
def kindX (w : Int) : Int := if w = 0 then 2 else if w = 1 then 0 else 1
/-- acts can be taken back -/
def JH (s : XS) (m : MS) : Prop := s.1.1 12 = m.1 8 - m.1 9 ∧ ∀ i, 0 ≤ i → i < s.1.1 12 → s.1.2 9 i = kindX (m.2 10 (m.1 9 + i)) ∧ s.1.2 11 i = (zM m (m.1 9 + i)).1.1 39 ∧ (0 ≤ s.1.2 10 i ∧ s.1.2 10 i ≤ 216 * (zM m (m.1 9 + i)).1.1 39 + 3 * (zM m (m.1 9 + i)).1.1 27) ∧ (∀ j, i ≤ j → j < s.1.1 12 → s.1.2 10 i ≤ s.1.2 10 j) ∧ ∃ k : Nat, s.1.2 10 i + 3 * k = trl s ∧ rowsZ (rbR (trT s) k (trl s) (s.2 4).2) (zM m (m.1 9 + i))
def gmx (j : Nat) : Int := if j = 1 then 3 else if j = 2 then 3 else 2
/-- lists: as many made as there are; growths; counts of changes, by steps left -/
def JL (n : Nat) (s : XS) : Prop := ∀ j : Nat, j = 1 ∨ j = 2 ∨ j = 3 → s.1.1 (40 + j) = s.1.1 (30 + j) ∧ (0 ≤ s.1.1 (50 + j) ∧ s.1.1 (50 + j) ≤ gmx j) ∧ s.1.1 (60 + j) ≤ s.1.1 (50 + j) ∧ 0 ≤ s.1.1 (70 + j) ∧ s.1.1 (70 + j) + n ≤ 1000
/-- letters as one number -/
def pkN (l : Int → Int) : Nat → Int
  | 0 => 0
  | n + 1 => pkN l n * 256 + l (n : Int)
/-- a name as letters -/
def nameL (w : Int) (l : Int → Int) : Prop := ∃ n : Nat, n ≤ 6 ∧ 0 < n ∧ (∀ k, 0 ≤ k → k < (n : Int) → 97 ≤ l k ∧ l k ≤ 122) ∧ (∀ k, (n : Int) ≤ k → k < 6 → l k = 0) ∧ w = pkN l n
/-- names of terms -/
def JM (s : XS) (m : MS) : Prop := m.1 26 = (zM m (m.1 9)).1.1 27 ∧ (∀ t, 0 ≤ t → t < m.1 26 → nameL (s.1.2 32 t) (fun k => m.2 12 (6 * t + k))) ∧ ∀ t, m.1 26 ≤ t → t < m.1 27 → s.1.2 32 t = 0
/-- the tape -/
def JP (s : XS) (m : MS) : Prop := s.1.1 3 = m.1 5 ∧ (0 ≤ m.1 5 ∧ m.1 5 ≤ 500) ∧ ∀ k, 0 ≤ k → k < 500 → (-128 ≤ s.1.2 2 k ∧ s.1.2 2 k < 128) ∧ m.2 4 k = (if s.1.2 2 k < 0 then s.1.2 2 k + 256 else s.1.2 2 k)
def J (n : Nat) (s : XS) (m : MS) : Prop := JT s m ∧ s.1.1 4 = m.1 2 ∧ JR s m ∧ JH s m ∧ JE s m ∧ JL n s ∧ JM s m ∧ JP s m
theorem J_down {n : Nat} {s : XS} {m : MS} (h : J (n + 1) s m) : J n s m := by
  obtain ⟨h1, h2, h3, h4, h5, h6, h7⟩ := h
  exact ⟨h1, h2, h3, h4, h5, fun j hj => by obtain ⟨a, b, c, d, e⟩ := h6 j hj; exact ⟨a, b, c, d, by omega⟩, h7⟩
theorem zM_congr {m m' : MS} {n : Int} (e6 : m'.1 6 = m.1 6) (e7 : ∀ f, 0 ≤ f → f < m.1 6 → m'.2 7 f = m.2 7 f) (e10 : ∀ r, 0 ≤ r → r < n → m'.2 10 r = m.2 10 r) (e11 : ∀ r, 0 ≤ r → r < 4 * n → m'.2 11 r = m.2 11 r) : zM m' n = zM m n := by
  have et : tkM m' = tkM m := by
    funext f
    unfold tkM
    rw [e6]
    by_cases q : 0 ≤ f ∧ f < m.1 6
    · rw [if_pos q, if_pos q, e7 f q.1 q.2]
    · rw [if_neg q, if_neg q]
  have ew : ∀ r, 0 ≤ r → r < n → WM m' r = WM m r := by
    intro r r0 r1
    funext i
    unfold WM
    by_cases q : i = 0
    · rw [if_pos q, if_pos q, e10 r r0 r1]
    · rw [if_neg q, if_neg q]
      by_cases q2 : 1 ≤ i ∧ i ≤ 4
      · rw [if_pos q2, if_pos q2, e11 _ (by omega) (by omega)]
      · rw [if_neg q2, if_neg q2]
  unfold zM
  rw [et, e6]
  have L : ∀ k : Nat, (k : Int) ≤ n → runZ (nilZ (m.1 6) (tkM m)) (WM m') k = runZ (nilZ (m.1 6) (tkM m)) (WM m) k := by
    intro k
    induction k with
    | zero => exact fun _ => rfl
    | succ k ih =>
      intro hk
      show stepZ (runZ _ (WM m') k) (WM m' (k : Int)) = stepZ (runZ _ (WM m) k) (WM m (k : Int))
      rw [ih (by omega), ew (k : Int) (by omega) (by omega)]
  by_cases q : 0 ≤ n
  · exact L n.toNat (by omega)
  · rw [show n.toNat = 0 by omega]; rfl
theorem okRun_congr {z0 : ZS} {W W' : Int → Int → Int} {n : Nat} (h : ∀ k : Nat, k < n → W (k : Int) = W' (k : Int)) (ho : okRun z0 W n) : okRun z0 W' n := by
  have L : ∀ k : Nat, k ≤ n → runZ z0 W k = runZ z0 W' k := by
    intro k
    induction k with
    | zero => exact fun _ => rfl
    | succ k ih =>
      intro hk
      show stepZ (runZ z0 W k) (W (k : Int)) = stepZ (runZ z0 W' k) (W' (k : Int))
      rw [ih (by omega), h k (by omega)]
  intro k hk
  rw [← L k (by omega), ← h k hk]
  exact ho k hk
theorem JR.full {s : XS} {m : MS} (h : JR s m) : fullZ (zM m (m.1 8)) := h.2.2.2.1
theorem JR.nil {s : XS} {m : MS} (h : JR s m) : fullZ (nilZ (m.1 6) (tkM m)) := nilZ_full ⟨h.2.1.1, fun f f0 f1 => by unfold tkM; rw [if_pos ⟨f0, f1⟩]; exact h.2.1.2 f f0 f1⟩
/-- a question leaves the relation -/
theorem J_keeps {n : Nat} {s : XS} {m : MS} (h : J n s m) : keepsW s m (J n) := by
  intro s' m' hW hM hT
  obtain ⟨h1, h2, ⟨⟨a1, a2⟩, a3, a4, a5⟩, ⟨b1, b2⟩, ⟨c1, c2⟩, h6, ⟨d1, d2, d3⟩, ⟨e1, e2, e3⟩⟩ := h
  have hW0 := hW
  have hM0 := hM
  obtain ⟨w1, w2, w3, ⟨w4, w5, w6⟩, w7, w8, w9, w10⟩ := hW
  obtain ⟨m1, m2, m3⟩ := hM
  have i5 : m'.1 5 = m.1 5 := m1 5 (by unfold mscI; omega)
  have i6 : m'.1 6 = m.1 6 := m1 6 (by unfold mscI; omega)
  have i8 : m'.1 8 = m.1 8 := m1 8 (by unfold mscI; omega)
  have i9 : m'.1 9 = m.1 9 := m1 9 (by unfold mscI; omega)
  have i26 : m'.1 26 = m.1 26 := m1 26 (by unfold mscI; omega)
  have i27 : m'.1 27 = m.1 27 := m1 27 (by unfold mscI; omega)
  have i30 : m'.1 30 = m.1 30 := m1 30 (by unfold mscI; omega)
  have i33 : m'.1 33 = m.1 33 := m1 33 (by unfold mscI; omega)
  have i39 : m'.1 39 = m.1 39 := m1 39 (by unfold mscI; omega)
  have ar : ∀ k, k < 44 → k ≠ 31 → k ≠ 32 → m'.2 k = m.2 k := fun k q1 q2 q3 => m2 k (by unfold mscA; omega) q2 q3
  have ez : ∀ n, zM m' n = zM m n := fun n => zM_congr i6 (fun f _ _ => by rw [ar 7 (by decide) (by decide) (by decide)]) (fun r _ _ => by rw [ar 10 (by decide) (by decide) (by decide)]) (fun r _ _ => by rw [ar 11 (by decide) (by decide) (by decide)])
  have etk : tkM m' = tkM m := by
    funext f
    unfold tkM
    rw [i6, ar 7 (by decide) (by decide) (by decide)]
  have eW : WM m' = WM m := by
    funext r i
    unfold WM
    rw [ar 10 (by decide) (by decide) (by decide), ar 11 (by decide) (by decide) (by decide)]
  have x12 : s'.1.1 12 = s.1.1 12 := w1 12 (by decide) (by decide)
  -- the book
  obtain ⟨z1, z2, z3, z4, z5, z6, z7⟩ := a5
  have hB' : agB m' (zM m (m.1 8)).1 := by
    obtain ⟨⟨q1, q2, q3, q4⟩, q5, q6, q7, q8⟩ := z2
    refine ⟨⟨i6.trans q1, i27.trans q2, i30.trans q3, i33.trans q4⟩, fun f f0 f1 => ?_, fun t t0 t1 => ?_, fun k k0 k1 => ?_, fun k k0 k1 => ?_⟩
    · rw [ar 7 (by decide) (by decide) (by decide)]; exact q5 f f0 f1
    · rw [ar 28 (by decide) (by decide) (by decide), ar 29 (by decide) (by decide) (by decide)]; exact q6 t t0 t1
    · have := m3 k k0 (by omega)
      rw [this.1, this.2]; exact q7 k k0 k1
    · rw [ar 34 (by decide) (by decide) (by decide), ar 35 (by decide) (by decide) (by decide)]; exact q8 k k0 k1
  have hN' : agN m' (zM m (m.1 8)).1 := by
    obtain ⟨q1, q2, q3⟩ := z3
    refine ⟨i39.trans q1, fun t t0 t1 => ?_, fun k k0 k1 => ?_⟩
    · rw [ar 36 (by decide) (by decide) (by decide), ar 37 (by decide) (by decide) (by decide), ar 38 (by decide) (by decide) (by decide)]; exact q2 t t0 t1
    · rw [ar 40 (by decide) (by decide) (by decide), ar 41 (by decide) (by decide) (by decide), ar 42 (by decide) (by decide) (by decide), ar 43 (by decide) (by decide) (by decide)]; exact q3 k k0 k1
  have eb : ∀ (s1 : XS), RXb (bkM m) s1 → RXb (bkM m') s1 := by
    intro s1 hr
    obtain ⟨⟨x1, x2, x3, x4⟩, ⟨y1, y2, y3, y4⟩, hc, hd, het, hf, hg⟩ := hr
    have ent : (bkM m').nt = (bkM m).nt := i27
    have enf : (bkM m').nf = (bkM m).nf := i6
    have ens : (bkM m').ns = (bkM m).ns := i30
    have end' : (bkM m').nd = (bkM m).nd := i33
    have efn : (bkM m').fn = (bkM m).fn := ar 28 (by decide) (by decide) (by decide)
    have etk : (bkM m').tk = (bkM m).tk := ar 7 (by decide) (by decide) (by decide)
    have ept : (bkM m').pt = (bkM m).pt := by
      funext t k
      show m'.2 29 (3 * t + k) = m.2 29 (3 * t + k)
      rw [ar 29 (by decide) (by decide) (by decide)]
    have eda : (bkM m').da = (bkM m).da := ar 34 (by decide) (by decide) (by decide)
    have edb : (bkM m').db = (bkM m).db := ar 35 (by decide) (by decide) (by decide)
    refine ⟨⟨by rw [enf]; exact x1, by rw [ent]; exact x2, by rw [ens]; exact x3, by rw [end']; exact x4⟩, ⟨by rw [enf]; exact y1, by rw [ent]; exact y2, by rw [ens]; exact y3, by rw [end']; exact y4⟩, hc, ?_, ?_, ?_, ?_⟩
    · rw [enf, etk]; exact hd
    · rw [ent, efn, etk, ept]; exact het
    · rw [ens]
      intro k k0 k1
      have := m3 k k0 k1
      have e1 : (bkM m').sa k = (bkM m).sa k := this.1
      have e2 : (bkM m').sb k = (bkM m).sb k := this.2
      rw [e1, e2]; exact hf k k0 k1
    · rw [end', eda, edb]; exact hg
  have hRX : RXb (bkM m') s' := eb s' (z4.of (fun k hk => w1 k (by omega) (by omega)) (fun k hk => w2 k (by omega) (by omega) (by omega) (by omega) (by omega)))
  have hRN : RN s' (zM m (m.1 8)) := by
    obtain ⟨r1, ⟨r2, r3⟩, r4, r5⟩ := z5
    refine ⟨w4.trans r1, ⟨fun t t0 t1 => ?_, fun t t0 t1 => ?_⟩, w5.trans r4, fun k k0 k1 => ?_⟩
    · rw [w7 0 (Or.inl rfl), w7 5 (Or.inr (Or.inl rfl)), w7 6 (Or.inr (Or.inr rfl))]; exact r2 t t0 t1
    · rw [w7 5 (Or.inr (Or.inl rfl))]; exact r3 t t0 t1
    · have := w8 k k0 (by omega)
      rw [this.1, this.2.1, this.2.2]; exact r5 k k0 k1
  refine ⟨hT, ?_, ⟨⟨by rw [i8, i9]; exact a1, by rw [i8, i27, i30, i33]; exact a2⟩, ?_, ?_, ?_⟩, ⟨by rw [x12, i8, i9]; exact b1, fun i i0 i1 => ?_⟩, ⟨?_, ?_⟩, fun j hj => ?_, ⟨?_, fun t t0 t1 => ?_, fun t t0 t1 => ?_⟩, ⟨?_, ?_, fun k k0 k1 => ?_⟩⟩
  · rw [w1 4 (by decide) (by decide), m1 2 (by unfold mscI; omega)]; exact h2
  · rw [i6, ar 7 (by decide) (by decide) (by decide)]; exact a3
  · rw [i6, etk, eW, i8]; exact a4
  · rw [ez, i8]
    exact ⟨z1, hB', hN', hRX, hRN, w9, by unfold TB at z7 ⊢; rw [w6]; exact z7⟩
  · rw [x12] at i1
    obtain ⟨g1, g2, g3, g4, k, g5, g6⟩ := b2 i i0 i1
    have y9 : s'.1.2 9 = s.1.2 9 := w2 9 (by decide) (by decide) (by decide) (by decide) (by decide)
    have y10 : s'.1.2 10 = s.1.2 10 := w2 10 (by decide) (by decide) (by decide) (by decide) (by decide)
    have y11 : s'.1.2 11 = s.1.2 11 := w2 11 (by decide) (by decide) (by decide) (by decide) (by decide)
    rw [y9, y10, y11, i9, ez, ar 10 (by decide) (by decide) (by decide), x12]
    refine ⟨g1, g2, g3, g4, k, by rw [w6]; exact g5, ?_⟩
    have hcg := rbR_congr (T := trT s') (T' := trT s) k (trl s) (s'.2 4).2 (s.2 4).2 w10 (by omega) w7
    obtain ⟨f1, f2⟩ := g6
    rw [w6]
    refine ⟨fun t t0 t1 => ?_, fun t t0 t1 => ?_⟩
    · rw [hcg 0 (Or.inl rfl), hcg 5 (Or.inr (Or.inl rfl)), hcg 6 (Or.inr (Or.inr rfl))]; exact f1 t t0 t1
    · rw [hcg 5 (Or.inr (Or.inl rfl))]; exact f2 t t0 t1
  · rw [w3, i27]; exact c1
  · have hg : ∀ (b b' : PB) (n : Int) (r : Int → Int), b'.fn = b.fn → b'.tk = b.tk → b'.pt = b.pt → good b n E0 r → good b' n E0 r := by
      intro b b' n r q1 q2 q3 hg
      have ea : ∀ Q t u, alQ b' Q t u ↔ alQ b Q t u := fun Q t u => by unfold alQ; rw [q1, q2, q3]
      exact ⟨hg.lr, fun Q hQ => hg.sound Q ⟨hQ.1, hQ.2.1, hQ.2.2.1, hQ.2.2.2.1, fun t u t0 t1 u0 u1 ha => hQ.2.2.2.2 t u t0 t1 u0 u1 ((ea Q t u).mpr ha)⟩, hg.has, fun t u t0 t1 u0 u1 ha => hg.closed t u t0 t1 u0 u1 ((ea _ t u).mp ha)⟩
    rw [w3]
    have ent : (bkM m').nt = (bkM m).nt := i27
    rw [ent]
    refine hg (bkM m) (bkM m') _ _ (ar 28 (by decide) (by decide) (by decide)) (ar 7 (by decide) (by decide) (by decide)) ?_ c2
    funext t k
    show m'.2 29 (3 * t + k) = m.2 29 (3 * t + k)
    rw [ar 29 (by decide) (by decide) (by decide)]
  · have := h6 j hj
    rw [w1 (40 + j) (by omega) (by omega), w1 (30 + j) (by omega) (by omega), w1 (50 + j) (by omega) (by omega), w1 (60 + j) (by omega) (by omega), w1 (70 + j) (by omega) (by omega)]
    exact this
  · rw [ez, i26, i9]; exact d1
  · rw [i26] at t1
    rw [w2 32 (by decide) (by decide) (by decide) (by decide) (by decide), ar 12 (by decide) (by decide) (by decide)]; exact d2 t t0 t1
  · rw [i26] at t0
    rw [i27] at t1
    rw [w2 32 (by decide) (by decide) (by decide) (by decide) (by decide)]; exact d3 t t0 t1
  · rw [w1 3 (by decide) (by decide), i5]; exact e1
  · rw [i5]; exact e2
  · rw [w2 2 (by decide) (by decide) (by decide) (by decide) (by decide), ar 4 (by decide) (by decide) (by decide)]; exact e3 k k0 k1
