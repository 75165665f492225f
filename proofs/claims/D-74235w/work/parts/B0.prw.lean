/-! THE PURE PART, 47: texts: rows as read make what stands -/
set_option maxRecDepth 100000
theorem stepZ_b {z : ZS} {w : Int → Int} (h : fullZ z) (hw : okW z w) {k : Nat} (hk : k < 36) : (stepZ z w).1.2 k = (if w 0 = 0 then termZ z (w 1) (fun k => w (2 + k)) else if w 0 = 1 then sameZ z (w 1) (w 2) else diffZ z (w 1) (w 2)).1.2 k := by
  obtain ⟨h1, h2, h3⟩ := h
  have h12 : 0 ≤ z.1.1 30 ∧ z.1.1 30 ≤ 12 := h1.ok.ns
  unfold stepZ
  by_cases e0 : w 0 = 0
  · rw [if_pos e0, if_pos e0]
    obtain ⟨a1, a2, a3⟩ := hw.1 e0
    have hT := termZ_wf (p := fun k => w (2 + k)) h1 a1 a2 a3
    obtain ⟨g1, g2, g3, g4, g5⟩ := closeZ_spec 24 _ hT (gr24 hT)
    exact g3.2.1 k (Or.inl hk)
  · rw [if_neg e0, if_neg e0]
    by_cases e1 : w 0 = 1
    · obtain ⟨a1, a2, a3⟩ := hw.2.1 e1
      have hT := sameZ_wf h1 a1 a2 a3
      have hA := askZ_wf (c := z.1.1 30) hT a2.1 a2.2 a3.1 a3.2 h12
      have e : (if z.1.2 36 (w 1) = z.1.2 36 (w 2) then sameZ z (w 1) (w 2) else closeZ 24 (joinZ (sameZ z (w 1) (w 2)) (w 1) (w 2) (z.1.1 30))) = askZ (sameZ z (w 1) (w 2)) (w 1) (w 2) (z.1.1 30) := rfl
      rw [if_pos e1, e, if_pos e1]
      exact hA.2.1.2.1 k (Or.inl hk)
    · rw [if_neg e1, if_neg e1]
/-- the book as read, against what stands -/
def agR (r : MS) (z : ZS) : Prop := (z.1.1 6 = r.1 30 ∧ ∀ f, 0 ≤ f → f < r.1 30 → z.1.2 7 f = r.2 31 f) ∧ (∀ t, 0 ≤ t → t < z.1.1 27 → z.1.2 28 t = r.2 33 t ∧ (0 ≤ r.2 33 t ∧ r.2 33 t < r.1 30) ∧ r.2 34 t = r.2 31 (r.2 33 t) ∧ ∀ k, 0 ≤ k → k < r.2 31 (r.2 33 t) → z.1.2 29 (3 * t + k) = r.2 (100 + t.toNat) k) ∧ (∀ k, 0 ≤ k → k < z.1.1 30 → z.1.2 31 k = r.2 40 k ∧ z.1.2 32 k = r.2 41 k) ∧ ∀ k, 0 ≤ k → k < z.1.1 33 → z.1.2 34 k = r.2 42 k ∧ z.1.2 35 k = r.2 43 k
/-- what one row is -/
theorem rows_run {r m : MS} {z0 : ZS} {W : Int → Int → Int} {R : Nat} (h0 : fullZ z0) (e6 : z0.1.1 6 = r.1 30) (e0 : z0.1.1 27 = 0 ∧ z0.1.1 30 = 0 ∧ z0.1.1 33 = 0) (e7 : ∀ f, 0 ≤ f → f < r.1 30 → z0.1.2 7 f = r.2 31 f) (hf : ∀ f, 0 ≤ f → f < r.1 30 → r.2 31 f ≤ 3) (hW : ∀ k : Nat, k < R → W (k : Int) 0 = m.2 10 (48 + (k : Int)) ∧ ∀ i, 0 ≤ i → i < 4 → W (k : Int) (1 + i) = m.2 11 (4 * (48 + (k : Int)) + i)) :
    ∀ (k : Nat) (t s d : Int), k ≤ R → t ≤ 24 → s ≤ 12 → d ≤ 8 → RW r m k t s d → okRun z0 W k ∧ ((runZ z0 W k).1.1 27 = t ∧ (runZ z0 W k).1.1 30 = s ∧ (runZ z0 W k).1.1 33 = d) ∧ agR r (runZ z0 W k) := by
  intro k
  induction k with
  | zero =>
    rintro t s d - - - - ⟨rfl, rfl, rfl⟩
    have f1 : z0.1.1 27 = 0 := e0.1
    have f2 : z0.1.1 30 = 0 := e0.2.1
    have f3 : z0.1.1 33 = 0 := e0.2.2
    exact ⟨fun k hk => absurd hk (by omega), e0, ⟨e6, e7⟩, fun t t0 t1 => absurd (show t < z0.1.1 27 from t1) (by omega), fun t t0 t1 => absurd (show t < z0.1.1 30 from t1) (by omega), fun t t0 t1 => absurd (show t < z0.1.1 33 from t1) (by omega)⟩
  | succ k ih =>
    intro t s d hk ht hs hd h
    have hpos := RW_pos (k + 1) t s d h
    have w0 := (hW k (by omega)).1
    have w1 := (hW k (by omega)).2 0 (by decide) (by decide)
    have w2 := (hW k (by omega)).2 1 (by decide) (by decide)
    have w1 : W (k : Int) 1 = m.2 11 (4 * (48 + (k : Int))) := by rw [show (4 * (48 + (k : Int))) = 4 * (48 + (k : Int)) + 0 by omega]; exact w1
    have w2 : W (k : Int) 2 = m.2 11 (4 * (48 + (k : Int)) + 1) := w2
    have fin : ∀ (ok : okRun z0 W k) (_ : okW (runZ z0 W k) (W (k : Int))), okRun z0 W (k + 1) := fun ok h2 j hj => by
      by_cases e : j = k
      · rw [e]; exact h2
      · exact ok j (by omega)
    rcases h with ⟨g1, g2, g3, g4, g5, g6, g7⟩ | ⟨g1, g2, g3, g4, g5, g6⟩ | ⟨g1, g2, g3, g4, g5⟩
    · obtain ⟨i1, ⟨i2, i3, i4⟩, ⟨i5, i5'⟩, i6, i7, i8⟩ := ih _ _ _ (by omega) (by omega) hs hd g2
      have hz := runZ_full h0 k i1
      have v0 : W (k : Int) 0 = 0 := w0.trans g1
      have v1 : W (k : Int) 1 = r.2 33 (t - 1) := w1.trans g5
      have h3 := hf _ g4.1 g4.2
      have vp : ∀ i, 0 ≤ i → i < r.2 31 (r.2 33 (t - 1)) → W (k : Int) (2 + i) = r.2 (100 + (t - 1).toNat) i := fun i i0 i1 => by
        have := (hW k (by omega)).2 (1 + i) (by omega) (by omega)
        rw [show 1 + (1 + i) = 2 + i by omega, show 4 * (48 + (k : Int)) + (1 + i) = 4 * (48 + (k : Int)) + 1 + i by omega] at this
        rw [this]
        exact (g7 i i0 i1).2
      have hok : okW (runZ z0 W k) (W (k : Int)) := ⟨fun _ => ⟨by omega, by rw [v1, i5]; exact g4, fun i i0 i1 => by
        rw [v1, i5' _ g4.1 g4.2] at i1
        rw [vp i i0 i1, i2]
        exact (g7 i i0 i1).1⟩, fun q => absurd (v0.symm.trans q) (by decide), fun q => absurd v0 q⟩
      obtain ⟨n1, n2, -, -, n3, n4, n5⟩ := stepZ_n hz hok
      have hb := fun (j : Nat) (hj : j < 36) => stepZ_b hz hok (k := j) hj
      simp only [if_pos v0] at n3 hb
      rw [if_neg (by omega)] at n4
      rw [if_neg (fun q => q.1 v0)] at n5
      have x28 : (stepZ (runZ z0 W k) (W (k : Int))).1.2 28 = iup ((runZ z0 W k).1.2 28) ((runZ z0 W k).1.1 27) (W (k : Int) 1) := hb 28 (by decide)
      have x29 : (stepZ (runZ z0 W k) (W (k : Int))).1.2 29 = (fun i => if 3 * (runZ z0 W k).1.1 27 ≤ i ∧ i < 3 * (runZ z0 W k).1.1 27 + 3 then W (k : Int) (2 + (i - 3 * (runZ z0 W k).1.1 27)) else (runZ z0 W k).1.2 29 i) := hb 29 (by decide)
      refine ⟨fin i1 hok, ⟨by show (stepZ _ _).1.1 27 = t; omega, by show (stepZ _ _).1.1 30 = s; omega, by show (stepZ _ _).1.1 33 = d; omega⟩, ⟨n1.trans i5, fun f f0 f1 => ?_⟩, fun u u0 u1 => ?_, fun u u0 u1 => ?_, fun u u0 u1 => ?_⟩
      · show (stepZ _ _).1.2 7 f = _
        rw [n2]; exact i5' f f0 f1
      · have u1 : u < (stepZ (runZ z0 W k) (W (k : Int))).1.1 27 := u1
        show (stepZ _ _).1.2 28 u = _ ∧ _ ∧ _ ∧ ∀ j, _ → _ → (stepZ _ _).1.2 29 (3 * u + j) = _
        rw [x28, x29]
        by_cases e : u = t - 1
        · rw [e, i2, iup_at, v1]
          refine ⟨rfl, g4, g6, fun j j0 j1 => ?_⟩
          show (if _ then _ else _) = _
          rw [if_pos (by omega), show 3 * (t - 1) + j - 3 * (t - 1) = j by omega]
          exact vp j j0 j1
        · rw [iup_ne (by omega)]
          obtain ⟨q1, q2, q3, q4⟩ := i6 u u0 (by omega)
          refine ⟨q1, q2, q3, fun j j0 j1 => ?_⟩
          have := hf _ q2.1 q2.2
          show (if _ then _ else _) = _
          rw [if_neg (by omega)]
          exact q4 j j0 j1
      · have u1 : u < (stepZ (runZ z0 W k) (W (k : Int))).1.1 30 := u1
        show (stepZ _ _).1.2 31 u = _ ∧ (stepZ _ _).1.2 32 u = _
        rw [hb 31 (by decide), hb 32 (by decide)]
        exact i7 u u0 (by omega)
      · have u1 : u < (stepZ (runZ z0 W k) (W (k : Int))).1.1 33 := u1
        show (stepZ _ _).1.2 34 u = _ ∧ (stepZ _ _).1.2 35 u = _
        rw [hb 34 (by decide), hb 35 (by decide)]
        exact i8 u u0 (by omega)
    · obtain ⟨i1, ⟨i2, i3, i4⟩, ⟨i5, i5'⟩, i6, i7, i8⟩ := ih _ _ _ (by omega) ht (by omega) hd g2
      have hz := runZ_full h0 k i1
      have v0 : W (k : Int) 0 = 1 := w0.trans g1
      have v1 : W (k : Int) 1 = r.2 40 (s - 1) := w1.trans g5
      have v2 : W (k : Int) 2 = r.2 41 (s - 1) := w2.trans g6
      have hok : okW (runZ z0 W k) (W (k : Int)) := ⟨fun q => absurd (v0.symm.trans q) (by decide), fun _ => ⟨by omega, by rw [v1, i2]; exact g4.1, by rw [v2, i2]; exact g4.2⟩, fun _ q => absurd v0 q⟩
      obtain ⟨n1, n2, -, -, n3, n4, n5⟩ := stepZ_n hz hok
      have hb := fun (j : Nat) (hj : j < 36) => stepZ_b hz hok (k := j) hj
      have nv : ¬ W (k : Int) 0 = 0 := by omega
      simp only [if_pos v0, if_neg nv] at n3 n4 hb
      rw [if_neg (fun q => q.2 v0)] at n5
      have x31 : (stepZ (runZ z0 W k) (W (k : Int))).1.2 31 = iup ((runZ z0 W k).1.2 31) ((runZ z0 W k).1.1 30) (W (k : Int) 1) := hb 31 (by decide)
      have x32 : (stepZ (runZ z0 W k) (W (k : Int))).1.2 32 = iup ((runZ z0 W k).1.2 32) ((runZ z0 W k).1.1 30) (W (k : Int) 2) := hb 32 (by decide)
      refine ⟨fin i1 hok, ⟨by show (stepZ _ _).1.1 27 = t; omega, by show (stepZ _ _).1.1 30 = s; omega, by show (stepZ _ _).1.1 33 = d; omega⟩, ⟨n1.trans i5, fun f f0 f1 => ?_⟩, fun u u0 u1 => ?_, fun u u0 u1 => ?_, fun u u0 u1 => ?_⟩
      · show (stepZ _ _).1.2 7 f = _
        rw [n2]; exact i5' f f0 f1
      · have u1 : u < (stepZ (runZ z0 W k) (W (k : Int))).1.1 27 := u1
        show (stepZ _ _).1.2 28 u = _ ∧ _ ∧ _ ∧ ∀ j, _ → _ → (stepZ _ _).1.2 29 (3 * u + j) = _
        rw [hb 28 (by decide), hb 29 (by decide)]
        exact i6 u u0 (by omega)
      · have u1 : u < (stepZ (runZ z0 W k) (W (k : Int))).1.1 30 := u1
        show (stepZ _ _).1.2 31 u = _ ∧ (stepZ _ _).1.2 32 u = _
        rw [x31, x32]
        by_cases e : u = s - 1
        · rw [e, i3, iup_at, iup_at]; exact ⟨v1, v2⟩
        · rw [iup_ne (by omega), iup_ne (by omega)]; exact i7 u u0 (by omega)
      · have u1 : u < (stepZ (runZ z0 W k) (W (k : Int))).1.1 33 := u1
        show (stepZ _ _).1.2 34 u = _ ∧ (stepZ _ _).1.2 35 u = _
        rw [hb 34 (by decide), hb 35 (by decide)]
        exact i8 u u0 (by omega)
    · obtain ⟨i1, ⟨i2, i3, i4⟩, ⟨i5, i5'⟩, i6, i7, i8⟩ := ih _ _ _ (by omega) ht hs (by omega) g2
      have hz := runZ_full h0 k i1
      have v0 : W (k : Int) 0 = 2 := w0.trans g1
      have v1 : W (k : Int) 1 = r.2 42 (d - 1) := w1.trans g4
      have v2 : W (k : Int) 2 = r.2 43 (d - 1) := w2.trans g5
      have hok : okW (runZ z0 W k) (W (k : Int)) := ⟨fun q => absurd (v0.symm.trans q) (by decide), fun q => absurd (v0.symm.trans q) (by decide), fun _ _ => ⟨by omega, by rw [v1, i2]; exact g3.1, by rw [v2, i2]; exact g3.2⟩⟩
      obtain ⟨n1, n2, -, -, n3, n4, n5⟩ := stepZ_n hz hok
      have hb := fun (j : Nat) (hj : j < 36) => stepZ_b hz hok (k := j) hj
      have nv : ¬ W (k : Int) 0 = 0 := by omega
      have nv1 : ¬ W (k : Int) 0 = 1 := by omega
      simp only [if_neg nv1, if_neg nv] at n3 n4 hb
      rw [if_pos ⟨nv, nv1⟩] at n5
      have x31 : (stepZ (runZ z0 W k) (W (k : Int))).1.2 34 = iup ((runZ z0 W k).1.2 34) ((runZ z0 W k).1.1 33) (W (k : Int) 1) := hb 34 (by decide)
      have x32 : (stepZ (runZ z0 W k) (W (k : Int))).1.2 35 = iup ((runZ z0 W k).1.2 35) ((runZ z0 W k).1.1 33) (W (k : Int) 2) := hb 35 (by decide)
      refine ⟨fin i1 hok, ⟨by show (stepZ _ _).1.1 27 = t; omega, by show (stepZ _ _).1.1 30 = s; omega, by show (stepZ _ _).1.1 33 = d; omega⟩, ⟨n1.trans i5, fun f f0 f1 => ?_⟩, fun u u0 u1 => ?_, fun u u0 u1 => ?_, fun u u0 u1 => ?_⟩
      · show (stepZ _ _).1.2 7 f = _
        rw [n2]; exact i5' f f0 f1
      · have u1 : u < (stepZ (runZ z0 W k) (W (k : Int))).1.1 27 := u1
        show (stepZ _ _).1.2 28 u = _ ∧ _ ∧ _ ∧ ∀ j, _ → _ → (stepZ _ _).1.2 29 (3 * u + j) = _
        rw [hb 28 (by decide), hb 29 (by decide)]
        exact i6 u u0 (by omega)
      · have u1 : u < (stepZ (runZ z0 W k) (W (k : Int))).1.1 30 := u1
        show (stepZ _ _).1.2 31 u = _ ∧ (stepZ _ _).1.2 32 u = _
        rw [hb 31 (by decide), hb 32 (by decide)]
        exact i7 u u0 (by omega)
      · have u1 : u < (stepZ (runZ z0 W k) (W (k : Int))).1.1 33 := u1
        show (stepZ _ _).1.2 34 u = _ ∧ (stepZ _ _).1.2 35 u = _
        rw [x31, x32]
        by_cases e : u = d - 1
        · rw [e, i4, iup_at, iup_at]; exact ⟨v1, v2⟩
        · rw [iup_ne (by omega), iup_ne (by omega)]; exact i8 u u0 (by omega)
