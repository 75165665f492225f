/-! THE PURE PART, 54: function -/
set_option maxRecDepth 100000
theorem jand_01 {T : Int} : jand T 1 = 0 ∨ jand T 1 = 1 := by
  unfold jand
  have h : (Int32.ofInt T &&& Int32.ofInt 1).toBitVec = BitVec.setWidth 32 (BitVec.ofBool ((Int32.ofInt T).toBitVec.getLsbD 0)) := by
    rw [Int32.toBitVec_and]
    show _ &&& 1#32 = _
    ext i hi
    have h1 : ∀ i, i < 32 → (1#32).getLsbD i = decide (i = 0) := by decide
    rw [BitVec.getElem_and, BitVec.getElem_setWidth, ← BitVec.getLsbD_eq_getElem, ← BitVec.getLsbD_eq_getElem, h1 i hi, BitVec.getLsbD_ofBool]
    by_cases e : i = 0
    · rw [e]; simp
    · simp [e]
  show ((Int32.ofInt T &&& Int32.ofInt 1).toBitVec).toInt = 0 ∨ ((Int32.ofInt T &&& Int32.ofInt 1).toBitVec).toInt = 1
  rw [h]
  cases (Int32.ofInt T).toBitVec.getLsbD 0
  · exact Or.inl (by decide)
  · exact Or.inr (by decide)
theorem bit_no {S k : Int} : jand (jshr S k) 1 = 0 ↔ ¬ bit S k := by
  unfold bit
  rcases jand_01 (T := jshr S k) with h | h <;> rw [h] <;> decide
theorem bit_0 {k : Int} (k0 : 0 ≤ k) (k1 : k < 32) : ¬ bit 0 k := by
  have L : ∀ i : Nat, i < 32 → ¬ (bt 0 i = true) := by decide +kernel
  rw [bit_b k0 k1]
  exact L _ (by omega)
theorem fi_or {P : Int → Prop} [DecidablePred P] {k : Int} (h : 0 ≤ k) : fi P (k + 1) ≠ -2 ↔ fi P k ≠ -2 ∨ P k := by
  by_cases e : fi P k = -2
  · by_cases p : P k
    · rw [fi_y h e p (show k < k + 1 by omega)]
      exact ⟨fun _ => Or.inr p, fun _ => by omega⟩
    · rw [fi_n h e p]
      exact ⟨fun q => absurd rfl q, fun q => (q.elim (fun q => absurd e q) (fun q => absurd q p))⟩
  · refine ⟨fun _ => Or.inl e, fun _ => ?_⟩
    rcases fi_is (P := P) (n := k) with ⟨a, _⟩ | ⟨a, b, c, d⟩
    · exact absurd a e
    · rcases fi_is (P := P) (n := k + 1) with ⟨_, q⟩ | ⟨q, _⟩
      · exact absurd c (q _ a (by omega))
      · omega
/-- some term of a function in a group -/
abbrev grF (R fn : Int → Int) (f : Int) (k t : Int) : Prop := fi (fun u => R u = t ∧ fn u = f) k ≠ -2
theorem x_isIn2 {b : PB} {t f : Int} {s : XS} {K : Int → Prop} (hb : b.ok) (hr : RXb b s) (h1 : grF ((s.2 4).2 0) b.fn f b.nt t → K 1) (h0 : ¬ grF ((s.2 4).2 0) b.fn f b.nt t → K 0) : C_X1_isIn_2 t f s K := by
  intro X hX
  have h24 := hb.nt
  obtain ⟨⟨x1, x2, x3, x4⟩, ⟨y1, y2, y3, y4⟩, ⟨c1, c2, c3, c4⟩, -, ht, -⟩ := hr
  have L : ∀ k, 0 ≤ k → k ≤ b.nt → fi (fun u => (s.2 4).2 0 u = t ∧ b.fn u = f) k = -2 → X t f k := by
    refine upto (fun k k0 k1 ih hk => hX _ _ _ (x_terms ⟨fun e => h0 (fun q => q ?_), fun e => ⟨⟨k0, by omega⟩, fun q => ?_, fun q => ⟨inI_s (by omega), ih (by omega) (fi_n k0 hk (fun q2 => q q2.1))⟩⟩⟩))
    · rw [show b.nt = k by omega]; exact hk
    · refine ⟨⟨⟨k0, by omega⟩, c2⟩, ⟨k0, by omega⟩, ⟨k0, by omega⟩, fun q2 => h1 ?_, fun q2 => ⟨inI_s (by omega), ih (by omega) (fi_n k0 hk (fun q3 => q2 ?_))⟩⟩
      · have hp : (s.2 4).2 0 k = t ∧ b.fn k = f := ⟨q, by rw [← (ht k k0 (by omega)).1]; exact q2⟩
        have := fi_y (P := fun u => (s.2 4).2 0 u = t ∧ b.fn u = f) k0 hk hp (show k < b.nt by omega)
        show fi (fun u => (s.2 4).2 0 u = t ∧ b.fn u = f) b.nt ≠ -2
        omega
      · rw [(ht k k0 (by omega)).1]; exact q3.2
  exact L 0 (Int.le_refl _) h24.1 rfl
theorem p_function {a : Int → Int} {s : XS} {m : MS} {KN : XS → MS → Prop} (hB : JB s m) (hN : JN s m) (hl : lr (m.1 27) (m.2 36)) (hK : keepsJ s m KN) : C_law_5 a s m KN := by
  obtain ⟨hb, hr⟩ := hB
  have hr0 := hr
  have h24 : 0 ≤ m.1 27 ∧ m.1 27 ≤ 24 := hb.nt
  have hf8 : 0 ≤ m.1 6 ∧ m.1 6 ≤ 8 := hb.nf
  obtain ⟨⟨x1, x2, x3, x4⟩, ⟨y1, y2, y3, y4⟩, ⟨c1, c2, c3, c4⟩, htk, ht, -⟩ := hr
  obtain ⟨n1, n2, n3, n4⟩ := hN
  have ex : s.1.1 31 = m.1 27 := x2
  have ef : s.1.1 30 = m.1 6 := x1
  have hfn : ∀ t, 0 ≤ t → t < m.1 27 → s.1.2 33 t = m.2 28 t := fun t t0 t1 => (ht t t0 t1).1
  have hR : ∀ t, 0 ≤ t → t < m.1 27 → (s.2 4).2 0 t = m.2 36 t := fun t t0 t1 => (n2 t t0 t1).1
  -- what the reference counts
  have ref : ∀ (X51 : Int → Int → Int → Int → Int → Int → MS → Prop) (K : Int → MS → Prop) (M : MS), M.1 27 = m.1 27 → M.2 = m.2 → (0 ≤ a 1 ∧ a 1 < 16) → (∀ x1 x2 x3 x4 x5 x6 s0, B_function_51 X51 K x1 x2 x3 x4 x5 x6 s0 → X51 x1 x2 x3 x4 x5 x6 s0) → ((a 2 = 0 → K (m.2 7 (a 1)) M) ∧ (¬ a 2 = 0 → ((a 2 = 1 → K (cn (fun u => m.2 28 u = a 1) (m.1 27)) M) ∧ (¬ a 2 = 1 → K (cn (fun t => grF (m.2 36) (m.2 28) (a 1) (m.1 27) t) (m.1 27)) M)))) → X51 (a 1) (a 2) 0 0 0 0 M := by
    intro X51 K M eM eM2 ha hX hk
    have L : ∀ k, 0 ≤ k → k ≤ m.1 27 → ∀ S, (∀ t, 0 ≤ t → t < 24 → (bit S t ↔ grF (m.2 36) (m.2 28) (a 1) k t)) → X51 (a 1) (a 2) (cn (fun u => m.2 28 u = a 1) k) (cn (fun t => grF (m.2 36) (m.2 28) (a 1) k t) (m.1 27)) S k M := by
      refine upto (fun k k0 k1 ih S hS => hX _ _ _ _ _ _ _ ?_)
      unfold B_function_51
      rw [eM, eM2]
      have b1 := cn_b (P := fun u => m.2 28 u = a 1) k0
      have b2 := cn_b (P := fun t => grF (m.2 36) (m.2 28) (a 1) k t) h24.1
      refine ⟨fun e => ?_, fun e => ⟨⟨k0, by omega⟩, fun q => ⟨inI_s (by omega), ⟨k0, by omega⟩, ?_⟩, fun q => ⟨inI_s (by omega), ?_⟩⟩⟩
      · rw [show k = m.1 27 by omega]
        exact ⟨fun q => ⟨ha, hk.1 q⟩, fun q => hk.2 q⟩
      · have hl1 := hl k k0 (by omega)
        have e1 : cn (fun u => m.2 28 u = a 1) (k + 1) = cn (fun u => m.2 28 u = a 1) k + 1 := cn_y k0 q
        have hS' : ∀ t, 0 ≤ t → t < 24 → (bit (jor S (jshl 1 (m.2 36 k))) t ↔ grF (m.2 36) (m.2 28) (a 1) (k + 1) t) := fun t t0 t1 => by
          rw [bit_add hl1.1 (by omega) t0 (by omega), hS t t0 t1]
          have := fi_or (P := fun u => m.2 36 u = t ∧ m.2 28 u = a 1) k0
          show fi _ k ≠ -2 ∨ t = m.2 36 k ↔ fi _ (k + 1) ≠ -2
          rw [this]
          exact ⟨fun h => h.elim Or.inl (fun h => Or.inr ⟨h.symm, q⟩), fun h => h.elim Or.inl (fun h => Or.inr h.1.symm)⟩
        have hi := ih (by omega) _ hS'
        rw [e1] at hi
        refine ⟨fun q2 => ⟨inI_s (by omega), ⟨k0, by omega⟩, inI_s (by omega), ?_⟩, fun q2 => ⟨inI_s (by omega), ⟨k0, by omega⟩, inI_s (by omega), ?_⟩⟩
        · have hn : ¬ grF (m.2 36) (m.2 28) (a 1) k (m.2 36 k) := fun h => (bit_no.mp q2) ((hS _ hl1.1 (by omega)).mpr h)
          have e2 : cn (fun t => grF (m.2 36) (m.2 28) (a 1) (k + 1) t) (m.1 27) = cn (fun t => grF (m.2 36) (m.2 28) (a 1) k t) (m.1 27) + 1 := cn_drop (P := fun t => grF (m.2 36) (m.2 28) (a 1) (k + 1) t) (Q := fun t => grF (m.2 36) (m.2 28) (a 1) k t) hl1.1 (show m.2 36 k < m.1 27 by omega) ((fi_or (P := fun u => m.2 36 u = m.2 36 k ∧ m.2 28 u = a 1) k0).mpr (Or.inr ⟨rfl, q⟩)) hn (fun t t0 t1 te => by
            have := fi_or (P := fun u => m.2 36 u = t ∧ m.2 28 u = a 1) k0
            show fi _ (k + 1) ≠ -2 ↔ fi _ k ≠ -2
            rw [this]
            exact ⟨fun h => h.elim id (fun h => absurd h.1.symm te), Or.inl⟩)
          rw [e2] at hi
          exact hi
        · have hy : grF (m.2 36) (m.2 28) (a 1) k (m.2 36 k) := (hS _ hl1.1 (by omega)).mp (Classical.not_not.mp (fun h => q2 (bit_no.mpr h)))
          have e2 : cn (fun t => grF (m.2 36) (m.2 28) (a 1) (k + 1) t) (m.1 27) = cn (fun t => grF (m.2 36) (m.2 28) (a 1) k t) (m.1 27) := cn_congr (fun t t0 t1 => by
            have := fi_or (P := fun u => m.2 36 u = t ∧ m.2 28 u = a 1) k0
            show fi _ (k + 1) ≠ -2 ↔ fi _ k ≠ -2
            rw [this]
            exact ⟨fun h => h.elim id (fun h => by rw [← h.1]; exact hy), Or.inl⟩)
          rw [e2] at hi
          rw [Int.add_zero]
          exact hi
      · have e1 : cn (fun u => m.2 28 u = a 1) (k + 1) = cn (fun u => m.2 28 u = a 1) k := cn_n k0 q
        have eg : ∀ t, grF (m.2 36) (m.2 28) (a 1) (k + 1) t ↔ grF (m.2 36) (m.2 28) (a 1) k t := fun t => by
          have := fi_or (P := fun u => m.2 36 u = t ∧ m.2 28 u = a 1) k0
          show fi _ (k + 1) ≠ -2 ↔ fi _ k ≠ -2
          rw [this]
          exact ⟨fun h => h.elim id (fun h => absurd h.2 q), Or.inl⟩
        have hi := ih (by omega) S (fun t t0 t1 => (hS t t0 t1).trans (eg t).symm)
        rw [e1, cn_congr (fun t _ _ => eg t)] at hi
        exact hi
    have z : cn (fun t => grF (m.2 36) (m.2 28) (a 1) 0 t) (m.1 27) = 0 := by
      have : ∀ n : Nat, cn (fun t => grF (m.2 36) (m.2 28) (a 1) 0 t) (n : Int) = 0 := by
        intro n
        induction n with
        | zero => rfl
        | succ n ih =>
          have := cn_n (P := fun t => grF (m.2 36) (m.2 28) (a 1) 0 t) (n := (n : Int)) (by omega) (fun h => h rfl)
          rw [show ((n + 1 : Nat) : Int) = (n : Int) + 1 by omega, this, ih]
      have h := this (m.1 27).toNat
      rw [show (((m.1 27).toNat : Nat) : Int) = m.1 27 by omega] at h
      exact h
    have := L 0 (Int.le_refl _) h24.1 0 (fun t t0 t1 => ⟨fun h => absurd h (bit_0 t0 (by omega)), fun h => absurd rfl h⟩)
    rw [z] at this
    exact this
  -- a refusal
  have no : ∀ (K : Int → MS → Prop), ¬ (0 ≤ a 1 ∧ a 1 < m.1 6) ∨ ¬ (0 ≤ a 2 ∧ a 2 ≤ 2) → K (-1) (mref m 1) → C_function (a 1) (a 2) m K := by
    intro K h hk X51 hX
    refine ⟨inI_s (by omega), c_in (fun q => ⟨fun q2 => absurd q2 (by decide), fun _ => c_in (fun q2 => h.elim (fun h => absurd ⟨q.1, by omega⟩ h) (fun h => absurd q2 h)) (fun q2 => ⟨fun _ => r_no hk, fun q3 => absurd rfl q3⟩)⟩) (fun q => ⟨fun _ => r_no hk, fun q3 => absurd rfl q3⟩)⟩
  have yes : ∀ (K : Int → MS → Prop), (0 ≤ a 1 ∧ a 1 < m.1 6) → (0 ≤ a 2 ∧ a 2 ≤ 2) → ((a 2 = 0 → K (m.2 7 (a 1)) (mref m 0)) ∧ (¬ a 2 = 0 → ((a 2 = 1 → K (cn (fun u => m.2 28 u = a 1) (m.1 27)) (mref m 0)) ∧ (¬ a 2 = 1 → K (cn (fun t => grF (m.2 36) (m.2 28) (a 1) (m.1 27) t) (m.1 27)) (mref m 0))))) → C_function (a 1) (a 2) m K := by
    intro K h1 h2 hk X51 hX
    refine ⟨inI_s (by omega), c_in (fun q => ⟨fun q2 => absurd q2 (by decide), fun _ => c_in (fun q2 => ⟨fun q3 => absurd q3 (by decide), fun _ => r_yes (ref X51 K (mref m 0) rfl rfl ⟨h1.1, by omega⟩ hX hk)⟩) (fun q2 => absurd h2 q2)⟩) (fun q => absurd ⟨h1.1, by omega⟩ q)⟩
  intro X94 X145 h94 h145
  refine ⟨inI_s (by omega), x_isIn (fun h => ⟨fun q => absurd q (by decide), fun _ => ⟨fun e => ?_, fun e => ⟨fun e1 => ?_, fun e1 => ⟨fun e2 => ?_, fun e2 => x_refused (no _ (Or.inr (by omega)) (p_no hK (by decide)))⟩⟩⟩⟩) (fun h => ⟨fun _ => x_refused (no _ (Or.inl (fun q => h ⟨q.1, by omega⟩)) (p_no hK (by decide))), fun q => absurd rfl q⟩)⟩
  · have h1 : 0 ≤ a 1 ∧ a 1 < m.1 6 := ⟨h.1, by omega⟩
    have e31 : s.1.2 31 (a 1) = m.2 7 (a 1) := htk (a 1) h1.1 h1.2
    have y1 : m.1 6 ≤ s.1.1 40 := y1
    exact ⟨⟨⟨h.1, by omega⟩, c1⟩, ⟨h.1, by omega⟩, ⟨h.1, by omega⟩, x_fine (yes _ h1 (by omega) ⟨fun _ => p_ok hK e31, fun q => absurd e q⟩)⟩
  · have h1 : 0 ≤ a 1 ∧ a 1 < m.1 6 := ⟨h.1, by omega⟩
    have y2 : m.1 27 ≤ s.1.1 41 := y2
    have L : ∀ k, 0 ≤ k → k ≤ m.1 27 → X94 (a 1) (cn (fun u => m.2 28 u = a 1) k) k s := by
      refine upto (fun k k0 k1 ih => h94 _ _ _ _ ?_)
      have b1 := cn_b (P := fun u => m.2 28 u = a 1) k0
      unfold B_X1_function_94
      rw [ex]
      by_cases ek : k = m.1 27
      · refine ⟨fun _ => x_fine (yes _ h1 (by omega) ⟨fun q => absurd q e, fun _ => ⟨fun _ => p_ok hK (by rw [ek]), fun q => absurd e1 q⟩⟩), fun q => absurd (if_pos ek) q⟩
      · refine ⟨fun q => absurd q (by rw [if_neg ek]; decide), fun _ => ⟨⟨⟨k0, by omega⟩, c2⟩, ⟨k0, by omega⟩, ⟨k0, by omega⟩, ?_⟩⟩
        rw [hfn k k0 (by omega)]
        refine ⟨fun q => ⟨inI_s (by omega), ?_⟩, fun q => ⟨inI_s (by omega), ?_⟩⟩
        · have := ih (by omega)
          rw [cn_y k0 q] at this
          exact this
        · have := ih (by omega)
          rw [cn_n k0 q] at this
          rw [Int.add_zero]; exact this
    exact L 0 (Int.le_refl _) h24.1
  · have h1 : 0 ≤ a 1 ∧ a 1 < m.1 6 := ⟨h.1, by omega⟩
    have eg : ∀ t, 0 ≤ t → t < m.1 27 → (grF ((s.2 4).2 0) (bkM m).fn (a 1) (bkM m).nt t ↔ grF (m.2 36) (m.2 28) (a 1) (m.1 27) t) := fun t t0 t1 => by
      have : fi (fun u => (s.2 4).2 0 u = t ∧ (bkM m).fn u = a 1) (bkM m).nt = fi (fun u => m.2 36 u = t ∧ m.2 28 u = a 1) (m.1 27) := fi_congr (fun u u0 u1 => by rw [hR u u0 u1]; exact Iff.rfl)
      show fi _ _ ≠ -2 ↔ fi _ _ ≠ -2
      rw [this]
    have L : ∀ k, 0 ≤ k → k ≤ m.1 27 → X145 (a 1) (cn (fun t => grF (m.2 36) (m.2 28) (a 1) (m.1 27) t) k) k s := by
      refine upto (fun k k0 k1 ih => h145 _ _ _ _ (x_terms ?_))
      have b1 := cn_b (P := fun t => grF (m.2 36) (m.2 28) (a 1) (m.1 27) t) k0
      rw [ex]
      refine ⟨fun q => x_fine (yes _ h1 (by omega) ⟨fun q => absurd q e, fun _ => ⟨fun q => absurd q e1, fun _ => p_ok hK (by rw [show k = m.1 27 by omega])⟩⟩), fun q => ⟨⟨k0, by omega⟩, fun q2 => ?_, fun q2 => ⟨inI_s (by omega), inI_s (by omega), ?_⟩⟩⟩
      · refine x_isIn2 hb hr0 (fun h => ⟨fun q3 => absurd q3 (by decide), fun _ => ⟨inI_s (by omega), inI_s (by omega), ?_⟩⟩) (fun h => ⟨fun _ => ⟨inI_s (by omega), inI_s (by omega), ?_⟩, fun q3 => absurd rfl q3⟩)
        · have := ih (by omega)
          rw [cn_y k0 ((eg k k0 (by omega)).mp h)] at this
          exact this
        · have := ih (by omega)
          rw [cn_n k0 (fun h2 => h ((eg k k0 (by omega)).mpr h2))] at this
          rw [Int.add_zero]; exact this
      · have := ih (by omega)
        rw [cn_n k0 (fun h2 => by
          rcases fi_is (P := fun u => m.2 36 u = k ∧ m.2 28 u = a 1) (n := m.1 27) with ⟨u, _⟩ | ⟨u0, u1, ⟨u2, _⟩, _⟩
          · exact h2 u
          · have hl1 := (hl _ u0 u1).2.2
            rw [u2] at hl1
            rw [hR k k0 (by omega)] at q2
            exact q2 hl1)] at this
        rw [Int.add_zero]; exact this
    exact L 0 (Int.le_refl _) h24.1
