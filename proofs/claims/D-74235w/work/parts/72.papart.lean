/-! THE PURE PART, 13: apart -/
set_option maxRecDepth 100000
/-- a difference that keeps two apart -/
def apP (b : PB) (r : Int → Int) (t u k : Int) : Prop := (r (b.da k) = r t ∧ r (b.db k) = r u) ∨ (r (b.da k) = r u ∧ r (b.db k) = r t)
theorem c_apartL {t u : Int} {m : MS} {K : Int → MS → Prop} {X : Int → Int → Int → MS → Prop} (hb : (bkM m).ok) (ht : 0 ≤ t ∧ t < (bkM m).nt) (hu : 0 ≤ u ∧ u < (bkM m).nt) (hX : ∀ x1 x2 x3 s0, B_apart_35 X K x1 x2 x3 s0 → X x1 x2 x3 s0) (h1 : (∃ k, 0 ≤ k ∧ k < (bkM m).nd ∧ apP (bkM m) (m.2 36) t u k) → K 1 m) (h0 : ¬ (∃ k, 0 ≤ k ∧ k < (bkM m).nd ∧ apP (bkM m) (m.2 36) t u k) → K 0 m) : X t u 0 m := by
  have h24 := hb.nt
  have h8 := hb.nd
  have L : ∀ k, 0 ≤ k → k ≤ (bkM m).nd → (∀ i, 0 ≤ i → i < k → ¬ apP (bkM m) (m.2 36) t u i) → X t u k m := by
    refine upto (fun k k0 k1 ih hp => hX _ _ _ _ ⟨fun e => ?_, fun e => ?_⟩)
    · have e : (bkM m).nd ≤ k := e
      exact h0 (fun ⟨i, i0, i1, hi⟩ => hp i i0 (by omega) hi)
    · have e : ¬ (bkM m).nd ≤ k := e
      have d1 := hb.da k k0 (by omega)
      have d2 := hb.db k k0 (by omega)
      have next : ¬ apP (bkM m) (m.2 36) t u k → inI (k + 1) ∧ X t u (k + 1) m := fun hno => ⟨inI_s (by omega), ih (by omega) (fun i i0 i1 => by
        by_cases ei : i = k
        · rw [ei]; exact hno
        · exact hp i i0 (by omega))⟩
      have yes : apP (bkM m) (m.2 36) t u k → K 1 m := fun hy => h1 ⟨k, k0, by omega, hy⟩
      have t24 : 0 ≤ t ∧ t < 24 := ⟨ht.1, by omega⟩
      have u24 : 0 ≤ u ∧ u < 24 := ⟨hu.1, by omega⟩
      exact ⟨⟨k0, by omega⟩, ⟨d1.1, by show (bkM m).da k < 24; omega⟩, ⟨k0, by omega⟩, ⟨d2.1, by show (bkM m).db k < 24; omega⟩, t24, fun q1 => ⟨u24, fun q2 => yes (Or.inl ⟨q1, q2⟩), fun q2 => ⟨u24, fun q3 => ⟨t24, fun q4 => yes (Or.inr ⟨q3, q4⟩), fun q4 => next (fun q => by rcases q with q | q; exact q2 q.2; exact q4 q.2)⟩, fun q3 => next (fun q => by rcases q with q | q; exact q2 q.2; exact q3 q.1)⟩⟩, fun q1 => ⟨u24, fun q3 => ⟨t24, fun q4 => yes (Or.inr ⟨q3, q4⟩), fun q4 => next (fun q => by rcases q with q | q; exact q1 q.1; exact q4 q.2)⟩, fun q3 => next (fun q => by rcases q with q | q; exact q1 q.1; exact q3 q.1)⟩⟩
  exact L 0 (by omega) h8.1 (fun i i0 i1 => by omega)
theorem x_apartL {b : PB} {t u : Int} {s : XS} {K : Int → XS → Prop} {X : Int → Int → Int → XS → Prop} (hb : b.ok) (hr : RXb b s) (ht : 0 ≤ t ∧ t < b.nt) (hu : 0 ≤ u ∧ u < b.nt) (hX : ∀ x1 x2 x3 s0, B_X1_apart_26 X K x1 x2 x3 s0 → X x1 x2 x3 s0) (h1 : (∃ k, 0 ≤ k ∧ k < b.nd ∧ apP b ((s.2 4).2 0) t u k) → K 1 (xfin s)) (h0 : ¬ (∃ k, 0 ≤ k ∧ k < b.nd ∧ apP b ((s.2 4).2 0) t u k) → K 0 (xfin s)) : X t u 0 s := by
  have h24 := hb.nt
  have h8 := hb.nd
  obtain ⟨⟨x1, x2, x3, x4⟩, ⟨y1, y2, y3, y4⟩, ⟨c1, c2, c3, c4⟩, -, -, -, hd⟩ := hr
  have L : ∀ k, 0 ≤ k → k ≤ b.nd → (∀ i, 0 ≤ i → i < k → ¬ apP b ((s.2 4).2 0) t u i) → X t u k s := by
    refine upto (fun k k0 k1 ih hp => hX _ _ _ _ ?_)
    unfold B_X1_apart_26
    rw [x4]
    refine ⟨fun e => x_fine (h0 (fun ⟨i, i0, i1, hi⟩ => hp i i0 (by omega) hi)), fun e => ?_⟩
    obtain ⟨e1, e2⟩ := hd k k0 (by omega)
    rw [e1, e2]
    have d1 := hb.da k k0 (by omega)
    have d2 := hb.db k k0 (by omega)
    have next : ¬ apP b ((s.2 4).2 0) t u k → inI (k + 1) ∧ X t u (k + 1) s := fun hno => ⟨inI_s (by omega), ih (by omega) (fun i i0 i1 => by
        by_cases ei : i = k
        · rw [ei]; exact hno
        · exact hp i i0 (by omega))⟩
    have yes : apP b ((s.2 4).2 0) t u k → C_X1_fine 1 s K := fun hy => x_fine (h1 ⟨k, k0, by omega, hy⟩)
    have t24 : 0 ≤ t ∧ t < 24 := ⟨ht.1, by omega⟩
    have u24 : 0 ≤ u ∧ u < 24 := ⟨hu.1, by omega⟩
    have a24 : 0 ≤ b.da k ∧ b.da k < 24 := ⟨d1.1, by omega⟩
    have b24 : 0 ≤ b.db k ∧ b.db k < 24 := ⟨d2.1, by omega⟩
    have hm : 0 ≤ k ∧ k < s.1.1 43 := ⟨k0, by omega⟩
    have second : ((s.2 4).2 0 (b.da k) = (s.2 4).2 0 t → ¬ (s.2 4).2 0 (b.db k) = (s.2 4).2 0 u) → C_X3_areOne_G (b.da k) u 4 s (fun r15 => (r15 = 0 → (inI (k + 1) ∧ X t u (k + 1) s)) ∧ (¬ r15 = 0 → ((0 ≤ k ∧ k < s.1.1 43) ∧ (C_X3_areOne_G (b.db k) t 4 s (fun r22 => ((r22 = 0 → (inI (k + 1) ∧ X t u (k + 1) s)) ∧ (¬ r22 = 0 → (C_X1_fine 1 s (fun r28 s29 => K r28 s29)))))))) ) := fun hno => x_areOne a24 u24 (fun q3 => ⟨fun q => absurd q (by decide), fun _ => ⟨hm, x_areOne b24 t24 (fun q4 => ⟨fun q => absurd q (by decide), fun _ => yes (Or.inr ⟨q3, q4⟩)⟩) (fun q4 => ⟨fun _ => next (fun q => by rcases q with q | q; exact hno q.1 q.2; exact q4 q.2), fun q => absurd rfl q⟩)⟩⟩) (fun q3 => ⟨fun _ => next (fun q => by rcases q with q | q; exact hno q.1 q.2; exact q3 q.1), fun q => absurd rfl q⟩)
    refine ⟨⟨⟨k0, by omega⟩, c4⟩, hm, hm, x_areOne a24 t24 (fun q1 => ⟨fun q => absurd q (by decide), fun _ => ⟨hm, x_areOne b24 u24 (fun q2 => ⟨fun q => absurd q (by decide), fun _ => yes (Or.inl ⟨q1, q2⟩)⟩) (fun q2 => ⟨fun _ => ⟨hm, second (fun _ => q2)⟩, fun q => absurd rfl q⟩)⟩⟩) (fun q1 => ⟨fun _ => ⟨hm, second (fun q => absurd q q1)⟩, fun q => absurd rfl q⟩)⟩
  exact L 0 (by omega) h8.1 (fun i i0 i1 => by omega)
theorem p_apart {a : Int → Int} {s : XS} {m : MS} {KN : XS → MS → Prop} (hB : JB s m) (hN : JN s m) (hK : keepsJ s m KN) : C_law_14 a s m KN := by
  obtain ⟨hb, hr⟩ := hB
  have h24 := hb.nt
  have hnt : (bkM m).nt = m.1 27 := rfl
  have ex : s.1.1 31 = m.1 27 := hr.1.2.1
  obtain ⟨n1, n2, n3, n4⟩ := hN
  unfold C_law_14
  intro X hX
  unfold B_X1_apart_E
  refine x_isTerm2 (by omega) (fun h => ⟨fun q => absurd q (by decide), fun _ => ?_⟩) (fun h => ⟨fun _ => x_refused ?_, fun q => absurd rfl q⟩)
  · have ht : 0 ≤ a 1 ∧ a 1 < (bkM m).nt := ⟨h.1.1, by omega⟩
    have hu : 0 ≤ a 2 ∧ a 2 < (bkM m).nt := ⟨h.2.1, by omega⟩
    have row : ∀ t, 0 ≤ t → t < (bkM m).nt → (s.2 4).2 0 t = m.2 36 t := fun t t0 t1 => (n2 t t0 t1).1
    have hP : (∃ k, 0 ≤ k ∧ k < (bkM m).nd ∧ apP (bkM m) ((s.2 4).2 0) (a 1) (a 2) k) ↔ (∃ k, 0 ≤ k ∧ k < (bkM m).nd ∧ apP (bkM m) (m.2 36) (a 1) (a 2) k) := by
      constructor <;> rintro ⟨k, k0, k1, hk⟩ <;> refine ⟨k, k0, k1, ?_⟩ <;> have d1 := hb.da k k0 k1 <;> have d2 := hb.db k k0 k1 <;> unfold apP at hk ⊢
      · rw [row _ d1.1 d1.2, row _ d2.1 d2.2, row _ ht.1 ht.2, row _ hu.1 hu.2] at hk; exact hk
      · rw [row _ d1.1 d1.2, row _ d2.1 d2.2, row _ ht.1 ht.2, row _ hu.1 hu.2]; exact hk
    refine x_apartL hb hr ht hu hX (fun hy => ?_) (fun hn => ?_) <;>
    · intro X35 h35
      unfold B_apart_E
      refine c_isTerm h24 (fun _ => ⟨fun q => absurd q (by decide), fun _ => c_isTerm h24 (fun _ => ⟨fun q => absurd q (by decide), fun _ => r_yes ?_⟩) (fun q => absurd ⟨h.2.1, by omega⟩ q)⟩) (fun q => absurd ⟨h.1.1, by omega⟩ q)
      refine c_apartL (m := mref m 0) hb ht hu h35 (fun q => ?_) (fun q => ?_)
      · first
          | exact p_ok hK rfl
          | exact absurd (hP.mpr q) hn
      · first
          | exact p_ok hK rfl
          | exact absurd (hP.mp hy) q
  · intro X35 h35
    unfold B_apart_E
    exact c_isTerm h24 (fun h1 => ⟨fun q => absurd q (by decide), fun _ => c_isTerm h24 (fun h2 => absurd ⟨⟨h1.1, by omega⟩, h2.1, by omega⟩ h) (fun _ => ⟨fun _ => r_no (p_no hK (by decide)), fun q => absurd rfl q⟩)⟩) (fun _ => ⟨fun _ => r_no (p_no hK (by decide)), fun q => absurd rfl q⟩)
