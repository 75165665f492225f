/-! THE PURE PART, 8: questions about what stands -/
set_option maxRecDepth 100000
theorem r_no {A Z : MS → Prop} {s : MS} (h : Z (mref s 1)) : C_unless 0 s (fun r s6 => C_isRefused r s6 (fun r1 s1 => (r1 = 0 → A s1) ∧ (¬ r1 = 0 → Z s1))) :=
  c_unless (c_isRefused (fun q => absurd q (by decide)) (fun _ => ⟨fun q => absurd q (by decide), fun _ => h⟩))
theorem r_yes {A Z : MS → Prop} {s : MS} (h : A (mref s 0)) : C_unless 1 s (fun r s6 => C_isRefused r s6 (fun r1 s1 => (r1 = 0 → A s1) ∧ (¬ r1 = 0 → Z s1))) :=
  c_unless (c_isRefused (fun _ => ⟨fun _ => h, fun q => absurd rfl q⟩) (fun q => absurd rfl q))
theorem p_equal {a : Int → Int} {s : XS} {m : MS} {KN : XS → MS → Prop} (hB : JB s m) (hN : JN s m) (hK : keepsJ s m KN) : C_law_13 a s m KN := by
  obtain ⟨hb, hr⟩ := hB
  have h24 := hb.nt
  have hnt : (bkM m).nt = m.1 27 := rfl
  have ex : s.1.1 31 = m.1 27 := hr.1.2.1
  obtain ⟨n1, n2, n3, n4⟩ := hN
  unfold C_law_13 C_X1_equal B_X1_equal_E C_equal B_equal_E
  refine x_isTerm2 (by omega) (fun h => ⟨fun q => absurd q (by decide), fun _ => ?_⟩) (fun h => ⟨fun _ => x_refused ?_, fun q => absurd rfl q⟩)
  · have ea := (n2 (a 1) h.1.1 (by omega)).1
    have eb := (n2 (a 2) h.2.1 (by omega)).1
    refine x_areOne ⟨h.1.1, by omega⟩ ⟨h.2.1, by omega⟩ (fun e => ⟨fun q => absurd q (by decide), fun _ => x_fine ?_⟩) (fun e => ⟨fun _ => x_fine ?_, fun q => absurd rfl q⟩) <;>
    · refine c_isTerm h24 (fun _ => ⟨fun q => absurd q (by decide), fun _ => c_isTerm h24 (fun _ => ⟨fun q => absurd q (by decide), fun _ => r_yes ⟨⟨h.1.1, by omega⟩, ⟨h.2.1, by omega⟩, fun q => ?_, fun q => ?_⟩⟩) (fun q => absurd ⟨h.2.1, by omega⟩ q)⟩) (fun q => absurd ⟨h.1.1, by omega⟩ q)
      · first
          | exact p_ok hK rfl
          | exact absurd (ea.trans ((show m.2 36 (a 1) = m.2 36 (a 2) from q).trans eb.symm)) e
      · first
          | exact p_ok hK rfl
          | exact absurd (ea.symm.trans (e.trans eb)) q
  · refine c_isTerm h24 (fun h1 => ⟨fun q => absurd q (by decide), fun _ => c_isTerm h24 (fun h2 => absurd ⟨⟨h1.1, by omega⟩, h2.1, by omega⟩ h) (fun _ => ⟨fun _ => r_no (p_no hK (by decide)), fun q => absurd rfl q⟩)⟩) (fun _ => ⟨fun _ => r_no (p_no hK (by decide)), fun q => absurd rfl q⟩)
theorem p_joinOf {a : Int → Int} {s : XS} {m : MS} {KN : XS → MS → Prop} (hj : 0 ≤ m.1 39 ∧ m.1 39 ≤ 24) (hN : JN s m) (hK : keepsJ s m KN) : C_law_10 a s m KN := by
  obtain ⟨n1, n2, n3, n4⟩ := hN
  unfold C_law_10 C_X1_joinOf B_X1_joinOf_E C_joinOf B_joinOf_E
  rw [n3]
  refine ⟨inI_s (by omega), x_isIn (fun h => ⟨fun q => absurd q (by decide), fun _ => ?_⟩) (fun h => ⟨fun _ => x_refused ⟨inI_s (by omega), c_in (fun q => absurd q h) (fun _ => ⟨fun _ => r_no (p_no hK (by decide)), fun q => absurd rfl q⟩)⟩, fun q => absurd rfl q⟩)⟩
  obtain ⟨e7, e8, e9⟩ := n4 (a 1) h.1 (by omega)
  have h24 : 0 ≤ a 1 ∧ a 1 < 24 := ⟨h.1, by omega⟩
  refine ⟨fun e => ⟨h24, x_fine ⟨inI_s (by omega), c_in (fun _ => ⟨fun q => absurd q (by decide), fun _ => c_in (fun _ => ⟨fun q => absurd q (by decide), fun _ => r_yes ⟨fun _ => ⟨h24, p_ok hK e7⟩, fun q => absurd e q⟩⟩) (fun q => by omega)⟩) (fun q => absurd h q)⟩⟩, fun e0 => ⟨fun e => ⟨h24, x_fine ⟨inI_s (by omega), c_in (fun _ => ⟨fun q => absurd q (by decide), fun _ => c_in (fun _ => ⟨fun q => absurd q (by decide), fun _ => r_yes ⟨fun q => absurd q e0, fun _ => ⟨fun _ => ⟨h24, p_ok hK e8⟩, fun q => absurd e q⟩⟩⟩) (fun q => by omega)⟩) (fun q => absurd h q)⟩⟩, fun e1 => ⟨fun e => ⟨h24, x_fine ⟨inI_s (by omega), c_in (fun _ => ⟨fun q => absurd q (by decide), fun _ => c_in (fun _ => ⟨fun q => absurd q (by decide), fun _ => r_yes ⟨fun q => absurd q e0, fun _ => ⟨fun q => absurd q e1, fun _ => ⟨h24, p_ok hK e9⟩⟩⟩⟩) (fun q => by omega)⟩) (fun q => absurd h q)⟩⟩, fun e2 => x_refused ⟨inI_s (by omega), c_in (fun _ => ⟨fun q => absurd q (by decide), fun _ => c_in (fun q => by omega) (fun _ => ⟨fun _ => r_no (p_no hK (by decide)), fun q => absurd rfl q⟩)⟩) (fun q => absurd h q)⟩⟩⟩⟩
/-- the one with a number, of those from k on -/
def nthf (P : Int → Prop) [DecidablePred P] : Nat → Int → Int → Int
  | 0, _, _ => -2
  | d + 1, left, k => if P k then (if left = 0 then k else nthf P d (left + (-1)) (k + 1)) else nthf P d left (k + 1)
theorem nthf_congr {P Q : Int → Prop} [DecidablePred P] [DecidablePred Q] {n : Int} (h : ∀ k, 0 ≤ k → k < n → (P k ↔ Q k)) : ∀ (d : Nat) (left k : Int), 0 ≤ k → k + d ≤ n → nthf P d left k = nthf Q d left k := by
  intro d
  induction d with
  | zero => exact fun _ _ _ _ => rfl
  | succ d ih =>
    intro left k k0 k1
    have e := h k k0 (by omega)
    show (if P k then _ else _) = (if Q k then _ else _)
    by_cases p : P k
    · rw [if_pos p, if_pos (e.mp p), ih _ _ (by omega) (by omega)]
    · rw [if_neg p, if_neg (fun q => p (e.mpr q)), ih _ _ (by omega) (by omega)]
theorem c_hungL {t : Int} {m : MS} {K : Int → MS → Prop} {X : Int → Int → Int → MS → Prop} (hn : 0 ≤ m.1 27 ∧ m.1 27 ≤ 24) (hX : ∀ x1 x3 x4 s0, B_hung_34 X K x1 x3 x4 s0 → X x1 x3 x4 s0) : ∀ (d : Nat) (left k : Int), inI left → 0 ≤ left → 0 ≤ k → k + d = m.1 27 → K (nthf (fun k => m.2 37 k = t) d left k) m → X t left k m := by
  intro d
  induction d with
  | zero =>
    intro left k hi h0 k0 k1 h
    exact hX _ _ _ _ ⟨fun _ => h, fun e => by omega⟩
  | succ d ih =>
    intro left k hi h0 k0 k1 h
    have h : K (if m.2 37 k = t then (if left = 0 then k else nthf (fun k => m.2 37 k = t) d (left + (-1)) (k + 1)) else nthf (fun k => m.2 37 k = t) d left (k + 1)) m := h
    refine hX _ _ _ _ ⟨fun e => by omega, fun _ => ⟨⟨k0, by omega⟩, fun e => ⟨fun e2 => ?_, fun e2 => ?_⟩, fun e => ?_⟩⟩
    · rw [if_pos e, if_pos e2] at h; exact h
    · rw [if_pos e, if_neg e2] at h
      have hi2 : inI (left + (-1)) := ⟨by omega, by have := hi.2; omega⟩
      exact ⟨hi2, inI_s (by omega), ih _ _ hi2 (by omega) (by omega) (by omega) h⟩
    · rw [if_neg e] at h
      exact ⟨inI_s (by omega), ih _ _ hi h0 (by omega) (by omega) h⟩
theorem x_hungL {t : Int} {s : XS} {K : Int → XS → Prop} {X : Int → Int → Int → XS → Prop} (hn : 0 ≤ s.1.1 31 ∧ s.1.1 31 ≤ 24) (hX : ∀ x1 x3 x4 s0, B_X1_hung_29 X K x1 x3 x4 s0 → X x1 x3 x4 s0) : ∀ (d : Nat) (left k : Int), inI left → 0 ≤ left → 0 ≤ k → k + d = s.1.1 31 → K (nthf (fun k => (s.2 4).2 5 k = t) d left k) (xfin s) → X t left k s := by
  intro d
  induction d with
  | zero =>
    intro left k hi h0 k0 k1 h
    exact hX _ _ _ _ (x_terms ⟨fun _ => x_fine h, fun e => by omega⟩)
  | succ d ih =>
    intro left k hi h0 k0 k1 h
    have h : K (if (s.2 4).2 5 k = t then (if left = 0 then k else nthf (fun k => (s.2 4).2 5 k = t) d (left + (-1)) (k + 1)) else nthf (fun k => (s.2 4).2 5 k = t) d left (k + 1)) (xfin s) := h
    refine hX _ _ _ _ (x_terms ⟨fun e => by omega, fun _ => ⟨⟨k0, by omega⟩, fun e => ⟨fun e2 => x_fine ?_, fun e2 => ?_⟩, fun e => ?_⟩⟩)
    · rw [if_pos e, if_pos e2] at h; exact h
    · rw [if_pos e, if_neg e2] at h
      have hi2 : inI (left + (-1)) := ⟨by omega, by have := hi.2; omega⟩
      exact ⟨hi2, inI_s (by omega), ih _ _ hi2 (by omega) (by omega) (by omega) h⟩
    · rw [if_neg e] at h
      exact ⟨inI_s (by omega), ih _ _ hi h0 (by omega) (by omega) h⟩
theorem p_hung {a : Int → Int} {s : XS} {m : MS} {KN : XS → MS → Prop} (hi : ∀ k, inI (a k)) (hB : JB s m) (hN : JN s m) (hK : keepsJ s m KN) : C_law_12 a s m KN := by
  obtain ⟨hb, hr⟩ := hB
  have h24 := hb.nt
  have hnt : (bkM m).nt = m.1 27 := rfl
  have ex : s.1.1 31 = m.1 27 := hr.1.2.1
  obtain ⟨n1, n2, n3, n4⟩ := hN
  unfold C_law_12
  intro X hX
  unfold B_X1_hung_E
  refine x_isTerm1 (by omega) (fun h => ⟨fun q => absurd q (by decide), fun _ => ⟨fun hi0 => ?_, fun hi0 => x_refused ?_⟩⟩) (fun h => ⟨fun _ => x_refused ?_, fun q => absurd rfl q⟩)
  · refine x_hungL (by omega) hX (m.1 27).toNat (a 2) 0 (hi 2) hi0 (by omega) (by omega) ?_
    intro X34 h34
    unfold B_hung_E
    refine c_isTerm h24 (fun _ => ⟨fun q => absurd q (by decide), fun _ => ⟨fun q => by omega, fun _ => r_yes ?_⟩⟩) (fun q => absurd ⟨h.1, by omega⟩ q)
    have hE : nthf (fun k => (s.2 4).2 5 k = a 1) (m.1 27).toNat (a 2) 0 = nthf (fun k => m.2 37 k = a 1) (m.1 27).toNat (a 2) 0 := by
      refine nthf_congr (n := m.1 27) (fun k k0 k1 => ?_) _ _ _ (by omega) (by omega)
      have e := (n2 k k0 k1).2.1
      show (s.2 4).2 5 k = a 1 ↔ m.2 37 k = a 1
      rw [e]
      split <;> omega
    exact c_hungL (m := mref m 0) (t := a 1) h24 h34 (m.1 27).toNat (a 2) 0 (hi 2) hi0 (by omega) (show 0 + ((m.1 27).toNat : Int) = m.1 27 by omega) (p_ok hK hE)
  · intro X34 h34
    unfold B_hung_E
    exact c_isTerm h24 (fun _ => ⟨fun q => absurd q (by decide), fun _ => ⟨fun _ => r_no (p_no hK (by decide)), fun q => absurd (by omega) q⟩⟩) (fun q => absurd ⟨h.1, by omega⟩ q)
  · intro X34 h34
    unfold B_hung_E
    exact c_isTerm h24 (fun q => absurd ⟨q.1, by omega⟩ h) (fun _ => ⟨fun _ => r_no (p_no hK (by decide)), fun q => absurd rfl q⟩)
