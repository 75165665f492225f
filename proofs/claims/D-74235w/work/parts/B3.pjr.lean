/-! THE PURE PART, 50: texts: what a fault leaves -/
set_option maxRecDepth 100000
/-- what reading leaves of the reference -/
def frT (m m' : MS) : Prop := (∀ k, k = 6 ∨ k = 8 ∨ k = 9 ∨ k = 26 ∨ k = 27 ∨ k = 30 ∨ k = 33 ∨ k = 39 → m'.1 k = m.1 k) ∧ (∀ k, k ≠ 4 → k ≠ 7 → k ≠ 10 → k ≠ 11 → k ≠ 12 → k ≠ 25 → m'.2 k = m.2 k) ∧ (∀ k, k < 8 → m'.2 7 k = m.2 7 k) ∧ (∀ k, k < 48 → m'.2 10 k = m.2 10 k) ∧ (∀ k, k < 192 → m'.2 11 k = m.2 11 k) ∧ ∀ k, k < 144 → m'.2 12 k = m.2 12 k
theorem J_read {n : Nat} {s s' : XS} {m m' : MS} (h : J n s m) (hx : ∀ k, k ≠ 0 → k ≠ 1 → k ≠ 3 → k ≠ 4 → s'.1.1 k = s.1.1 k) (hx2 : ∀ k, k ≠ 2 → s'.1.2 k = s.1.2 k) (h2 : s'.2 2 = s.2 2) (h4 : s'.2 4 = s.2 4) (hm : frT m m') (hT : JT s' m') (e4 : s'.1.1 4 = m'.1 2) (e3 : s'.1.1 3 = m'.1 5) (e5 : 0 ≤ m'.1 5 ∧ m'.1 5 ≤ 500) (hp : ∀ k, 0 ≤ k → k < 500 → (-128 ≤ s'.1.2 2 k ∧ s'.1.2 2 k < 128) ∧ m'.2 4 k = (if s'.1.2 2 k < 0 then s'.1.2 2 k + 256 else s'.1.2 2 k)) : J n s' m' := by
  have hrows := J_rows h
  obtain ⟨-, -, ⟨⟨a1, a2⟩, a3, a4, a5⟩, ⟨b1, b2⟩, ⟨c1, c2⟩, j6, ⟨d1, d2, d3⟩, ⟨-, -, p3⟩⟩ := h
  obtain ⟨m1, m2, m7, m10, m11, m12⟩ := hm
  have i6 : m'.1 6 = m.1 6 := m1 6 (by omega)
  have i8 : m'.1 8 = m.1 8 := m1 8 (by omega)
  have i9 : m'.1 9 = m.1 9 := m1 9 (by omega)
  have i26 : m'.1 26 = m.1 26 := m1 26 (by omega)
  have i27 : m'.1 27 = m.1 27 := m1 27 (by omega)
  have i30 : m'.1 30 = m.1 30 := m1 30 (by omega)
  have i33 : m'.1 33 = m.1 33 := m1 33 (by omega)
  have i39 : m'.1 39 = m.1 39 := m1 39 (by omega)
  have ez : ∀ k, k ≤ 44 → zM m' k = zM m k := fun k hk => zM_congr i6 (fun f _ _ => m7 f (by omega)) (fun r _ _ => m10 r (by omega)) (fun r _ _ => m11 r (by omega))
  have etk : tkM m' = tkM m := by
    funext f
    unfold tkM
    rw [i6]
    by_cases q : 0 ≤ f ∧ f < m.1 6
    · rw [if_pos q, if_pos q, m7 f (by omega)]
    · rw [if_neg q, if_neg q]
  have eW : ∀ r, 0 ≤ r → r < 44 → WM m' r = WM m r := by
    intro r r0 r1
    funext i
    unfold WM
    by_cases q : i = 0
    · rw [if_pos q, if_pos q, m10 r (by omega)]
    · rw [if_neg q, if_neg q]
      by_cases q2 : 1 ≤ i ∧ i ≤ 4
      · rw [if_pos q2, if_pos q2, m11 _ (by omega)]
      · rw [if_neg q2, if_neg q2]
  obtain ⟨z1, z2, z3, z4, z5, z6, z7⟩ := a5
  have hbz := z1.1.ok
  have h24 : 0 ≤ (zM m (m.1 8)).1.1 27 ∧ (zM m (m.1 8)).1.1 27 ≤ 24 := hbz.nt
  have e27 : m.1 27 = (zM m (m.1 8)).1.1 27 := z2.1.2.1
  have hB' : agB m' (zM m (m.1 8)).1 := by
    obtain ⟨⟨q1, q2, q3, q4⟩, q5, q6, q7, q8⟩ := z2
    refine ⟨⟨i6.trans q1, i27.trans q2, i30.trans q3, i33.trans q4⟩, fun f f0 f1 => ?_, fun t t0 t1 => ?_, fun k k0 k1 => ?_, fun k k0 k1 => ?_⟩
    · rw [m7 f (by omega)]; exact q5 f f0 f1
    · rw [m2 28 (by decide) (by decide) (by decide) (by decide) (by decide) (by decide), m2 29 (by decide) (by decide) (by decide) (by decide) (by decide) (by decide)]; exact q6 t t0 t1
    · rw [m2 31 (by decide) (by decide) (by decide) (by decide) (by decide) (by decide), m2 32 (by decide) (by decide) (by decide) (by decide) (by decide) (by decide)]; exact q7 k k0 k1
    · rw [m2 34 (by decide) (by decide) (by decide) (by decide) (by decide) (by decide), m2 35 (by decide) (by decide) (by decide) (by decide) (by decide) (by decide)]; exact q8 k k0 k1
  have hN' : agN m' (zM m (m.1 8)).1 := by
    obtain ⟨q1, q2, q3⟩ := z3
    refine ⟨i39.trans q1, fun t t0 t1 => ?_, fun k k0 k1 => ?_⟩
    · rw [m2 36 (by decide) (by decide) (by decide) (by decide) (by decide) (by decide), m2 37 (by decide) (by decide) (by decide) (by decide) (by decide) (by decide), m2 38 (by decide) (by decide) (by decide) (by decide) (by decide) (by decide)]; exact q2 t t0 t1
    · rw [m2 40 (by decide) (by decide) (by decide) (by decide) (by decide) (by decide), m2 41 (by decide) (by decide) (by decide) (by decide) (by decide) (by decide), m2 42 (by decide) (by decide) (by decide) (by decide) (by decide) (by decide), m2 43 (by decide) (by decide) (by decide) (by decide) (by decide) (by decide)]; exact q3 k k0 k1
  have hRX : RXb (bkM m') s' := (RXb_ag hB' hbz).mpr (((RXb_ag z2 hbz).mp z4).of (fun k hk => hx k (by omega) (by omega) (by omega) (by omega)) (fun k hk => hx2 k (by omega)))
  have x12 : s'.1.1 12 = s.1.1 12 := hx 12 (by decide) (by decide) (by decide) (by decide)
  have etr : trl s' = trl s := by unfold trl; rw [h4]
  have etT : trT s' = trT s := by unfold trT xq; rw [h4]
  refine ⟨hT, e4, ⟨⟨by rw [i8, i9]; exact a1, by rw [i8, i27, i30, i33]; exact a2⟩, ⟨by rw [i6]; exact a3.1, fun f f0 f1 => ?_⟩, ?_, ?_⟩, ⟨by rw [x12, i8, i9]; exact b1, fun i i0 i1 => ?_⟩, ⟨?_, ?_⟩, fun j hj => ?_, ⟨?_, fun t t0 t1 => ?_, fun t t0 t1 => ?_⟩, ⟨e3, e5, fun k k0 k1 => ?_⟩⟩
  · rw [i6] at f1
    rw [m7 f (by omega)]; exact a3.2 f f0 f1
  · rw [etk, i6, i8]
    exact okRun_congr (fun k hk => (eW (k : Int) (by omega) (by omega)).symm) a4
  · rw [i8, ez _ hrows.2]
    exact ⟨z1, hB', hN', hRX, RN_4 h4 z5, Tr_4 h4 z6, TB_4 h4 z7⟩
  · rw [x12] at i1
    rw [i9, hx2 9 (by decide), hx2 10 (by decide), hx2 11 (by decide), ez _ (by omega), m10 _ (by omega), etr, etT, h4, x12]
    exact b2 i i0 i1
  · rw [h2, i27]; exact c1
  · rw [h2]
    have : (bkM m').nt = (bkM m).nt := i27
    rw [this]
    exact good_ag hB' hbz (by show m.1 27 ≤ _; omega) (good_ga z2 hbz (by show m.1 27 ≤ _; omega) c2)
  · rw [hx (40 + j) (by omega) (by omega) (by omega) (by omega), hx (30 + j) (by omega) (by omega) (by omega) (by omega), hx (50 + j) (by omega) (by omega) (by omega) (by omega), hx (60 + j) (by omega) (by omega) (by omega) (by omega), hx (70 + j) (by omega) (by omega) (by omega) (by omega)]
    exact j6 j hj
  · rw [i26, i9, ez _ (by omega)]; exact d1
  · rw [i26] at t1
    rw [hx2 32 (by decide)]
    have hk := runZ_mono (nilZ_full ⟨a3.1, fun f f0 f1 => by unfold tkM; rw [if_pos ⟨f0, f1⟩]; exact a3.2 f f0 f1⟩) (m.1 8).toNat (m.1 9).toNat (by omega) a4
    have hk1 : (zM m (m.1 9)).1.1 27 ≤ (zM m (m.1 8)).1.1 27 := hk.1
    exact nameL_congr (fun k k0 k1 => m12 _ (by omega)) (d2 t t0 t1)
  · rw [i26] at t0
    rw [i27] at t1
    rw [hx2 32 (by decide)]; exact d3 t t0 t1
  · exact hp k k0 k1
