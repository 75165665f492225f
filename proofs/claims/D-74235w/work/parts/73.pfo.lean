/-! THE PURE PART, 14: forests by cuts; a way turned round -/
set_option maxRecDepth 100000
/-- one and all on its way up hang the other way round -/
def rev : Nat → (Int → Int) → (Int → Int) → Int → Int → Int → (Int → Int) × (Int → Int)
  | 0, u, h, _, _, _ => (u, h)
  | n + 1, u, h, one, on, l => if u one = -2 then (iup u one on, iup h one l) else rev n (iup u one on) (iup h one l) (u one) one (h one)
theorem iup_at {α : Type} {f : Int → α} {k : Int} {x : α} : iup f k x k = x := if_pos rfl
theorem iup_ne {α : Type} {f : Int → α} {k j : Int} {x : α} (h : j ≠ k) : iup f k x j = f j := if_neg h
/-- a step of the forest: by labels, groups -/
def fstep (n nj : Int) (ld u h : Int → Int) (σ : Int → Int → Bool) (t : Int) : Prop := (0 ≤ u t ∧ u t < n) ∧ (0 ≤ h t ∧ h t < nj) ∧ (∀ i, σ t i ≠ σ (u t) i ↔ i = h t) ∧ ld t = ld (u t)
def FO (n nj : Int) (ld u h : Int → Int) (σ : Int → Int → Bool) : Prop :=
  (∃ rk : Int → Int, ∀ t, 0 ≤ t → t < n → (0 ≤ rk t ∧ rk t < n) ∧ (u t ≠ -2 → rk (u t) < rk t)) ∧
  (∀ t, 0 ≤ t → t < n → u t ≠ -2 → fstep n nj ld u h σ t) ∧
  (∀ t t', 0 ≤ t → t < n → 0 ≤ t' → t' < n → u t ≠ -2 → u t' ≠ -2 → h t = h t' → t = t') ∧
  (∀ t t', 0 ≤ t → t < n → 0 ≤ t' → t' < n → u t = -2 → u t' = -2 → ld t = ld t' → t = t') ∧
  (∀ t i, 0 ≤ t → t < n → σ t i = true → 0 ≤ i ∧ i < nj)
/-- ranks need not be high -/
theorem cn_lt {P Q : Int → Prop} [DecidablePred P] [DecidablePred Q] {n x : Int} (h0 : 0 ≤ x) (h1 : x < n) (hx : Q x) (hq : ¬ P x) (h : ∀ k, 0 ≤ k → k < n → P k → Q k) : cn P n < cn Q n := by
  have L : ∀ d : Nat, (d : Int) ≤ n → cn P d + (if x < d then 1 else 0) ≤ cn Q d := by
    intro d
    induction d with
    | zero => exact fun _ => by rw [if_neg (by omega)]; exact Int.le_refl _
    | succ d ih =>
      intro hd
      have e := ih (by omega)
      rw [show ((d + 1 : Nat) : Int) = (d : Int) + 1 by omega]
      by_cases hdx : (d : Int) = x
      · rw [cn_n (P := P) (by omega) (by rw [hdx]; exact hq), cn_y (P := Q) (by omega) (by rw [hdx]; exact hx), if_pos (by omega)]
        rw [if_neg (by omega)] at e
        omega
      · by_cases hp : P (d : Int)
        · rw [cn_y (by omega) hp, cn_y (P := Q) (by omega) (h d (by omega) (by omega) hp)]
          by_cases h3 : x < (d : Int)
          · rw [if_pos h3] at e; rw [if_pos (by omega)]; omega
          · rw [if_neg h3] at e; rw [if_neg (by omega)]; omega
        · rw [cn_n (by omega) hp]
          have : cn Q (d : Int) ≤ cn Q ((d : Int) + 1) := by
            by_cases hq2 : Q (d : Int)
            · rw [cn_y (by omega) hq2]; omega
            · rw [cn_n (by omega) hq2]; exact Int.le_refl _
          by_cases h3 : x < (d : Int)
          · rw [if_pos h3] at e; rw [if_pos (by omega)]; omega
          · rw [if_neg h3] at e; rw [if_neg (by omega)]; omega
  have := L n.toNat (by omega)
  rw [show (n.toNat : Int) = n by omega, if_pos h1] at this
  omega
theorem rk_low {n : Int} {u rk : Int → Int} (hu : ∀ t, 0 ≤ t → t < n → u t ≠ -2 → 0 ≤ u t ∧ u t < n) (h : ∀ t, 0 ≤ t → t < n → u t ≠ -2 → rk (u t) < rk t) : ∃ rk' : Int → Int, ∀ t, 0 ≤ t → t < n → (0 ≤ rk' t ∧ rk' t < n) ∧ (u t ≠ -2 → rk' (u t) < rk' t) := by
  refine ⟨fun t => cn (fun s => rk s < rk t) n, fun t t0 t1 => ⟨⟨(cn_b (P := fun s => rk s < rk t) (by omega)).1, ?_⟩, fun hne => ?_⟩⟩
  · have h1 := cn_lt (P := fun s => rk s < rk t) (Q := fun s => rk s ≤ rk t) (x := t) t0 t1 (Int.le_refl _) (fun q => by omega) (fun k _ _ q => by omega)
    have h2 := (cn_b (P := fun s => rk s ≤ rk t) (n := n) (by omega)).2
    show cn (fun s => rk s < rk t) n < n
    omega
  · have h1 := hu t t0 t1 hne
    have h2 := h t t0 t1 hne
    exact cn_lt (P := fun s => rk s < rk (u t)) (Q := fun s => rk s < rk t) (x := u t) h1.1 h1.2 h2 (fun q => by omega) (fun k _ _ q => by omega)
/-- those below one -/
def itu (u : Int → Int) : Nat → Int → Int
  | 0, t => t
  | k + 1, t => if u t = -2 then -2 else itu u k (u t)
def subt (u : Int → Int) (one t : Int) : Prop := ∃ k, itu u k t = one
theorem subt_self {u : Int → Int} {one : Int} : subt u one one := ⟨0, rfl⟩
theorem subt_up {u : Int → Int} {one t : Int} (h : t ≠ one) (hu : u t ≠ -2) : subt u one t ↔ subt u one (u t) := by
  constructor
  · rintro ⟨k, hk⟩
    cases k with
    | zero => exact absurd hk h
    | succ k => exact ⟨k, by have h2 : (if u t = -2 then -2 else itu u k (u t)) = one := hk; rw [if_neg hu] at h2; exact h2⟩
  · rintro ⟨k, hk⟩
    exact ⟨k + 1, by show (if u t = -2 then -2 else itu u k (u t)) = one; rw [if_neg hu]; exact hk⟩
theorem subt_root {u : Int → Int} {one t : Int} (h0 : 0 ≤ one) (h : t ≠ one) (hu : u t = -2) : ¬ subt u one t := by
  rintro ⟨k, hk⟩
  cases k with
  | zero => exact h hk
  | succ k =>
    have h2 : (if u t = -2 then -2 else itu u k (u t)) = one := hk
    rw [if_pos hu] at h2
    omega
theorem subt_all {n : Int} {u : Int → Int} {one : Int} {P : Int → Prop} (hu : ∀ t, 0 ≤ t → t < n → u t ≠ -2 → (0 ≤ u t ∧ u t < n)) (h0 : 0 ≤ one) (hp : ∀ t, 0 ≤ t → t < n → u t ≠ -2 → P (u t) → P t) (ho : P one) : ∀ t, 0 ≤ t → t < n → subt u one t → P t := by
  have L : ∀ k t, 0 ≤ t → t < n → itu u k t = one → P t := by
    intro k
    induction k with
    | zero => exact fun t _ _ e => by have e : t = one := e; rw [e]; exact ho
    | succ k ih =>
      intro t t0 t1 e
      have h2 : (if u t = -2 then -2 else itu u k (u t)) = one := e
      by_cases q : u t = -2
      · rw [if_pos q] at h2; omega
      · rw [if_neg q] at h2
        exact hp t t0 t1 q (ih _ (hu t t0 t1 q).1 (hu t t0 t1 q).2 h2)
  exact fun t t0 t1 ⟨k, e⟩ => L k t t0 t1 e
/-- amid the turning: one is to hang on another one by a label -/
def midF (n nj : Int) (ld ld' : Int → Int) (σ : Int → Int → Bool) (b : Int) (u h : Int → Int) (one on l : Int) (rk : Int → Int) : Prop :=
  (∀ t, 0 ≤ t → t < n → u t ≠ -2 → rk (u t) < rk t) ∧
  (∀ t, 0 ≤ t → t < n → u t ≠ -2 → fstep n nj ld' u h σ t) ∧
  (∀ t t', 0 ≤ t → t < n → 0 ≤ t' → t' < n → u t ≠ -2 → u t' ≠ -2 → h t = h t' → t = t') ∧
  (∀ t, 0 ≤ t → t < n → u t ≠ -2 → h t ≠ l) ∧
  ((0 ≤ one ∧ one < n) ∧ (0 ≤ on ∧ on < n) ∧ (0 ≤ l ∧ l < nj) ∧ (∀ i, σ one i ≠ σ on i ↔ i = l) ∧ ld' one = ld' on ∧ ld one = ld b) ∧
  (∃ Cm : Int → Prop, Cm on ∧ ¬ Cm one ∧ (∀ t, 0 ≤ t → t < n → u t ≠ -2 → (Cm t ↔ Cm (u t))) ∧ ∀ t, 0 ≤ t → t < n → u t ≠ -2 → ¬ Cm t → ld t = ld (u t)) ∧
  (∀ t t', 0 ≤ t → t < n → 0 ≤ t' → t' < n → u t = -2 → u t' = -2 → ld t = ld t' → t = t')
theorem rev_mid {n nj : Int} {ld ld' : Int → Int} {σ : Int → Int → Bool} {b : Int} (hmerge : ∀ t t', 0 ≤ t → t < n → 0 ≤ t' → t' < n → ld' t = ld' t' → ld t = ld t' ∨ ld t = ld b ∨ ld t' = ld b) : ∀ (k : Nat) (u h : Int → Int) (one on l : Int) (rk : Int → Int), midF n nj ld ld' σ b u h one on l rk → rk one < k → (∀ t, 0 ≤ t → t < n → 0 ≤ rk t) →
    (∃ rk' : Int → Int, ∀ t, 0 ≤ t → t < n → (rev k u h one on l).1 t ≠ -2 → rk' ((rev k u h one on l).1 t) < rk' t) ∧
    (∀ t, 0 ≤ t → t < n → (rev k u h one on l).1 t ≠ -2 → fstep n nj ld' (rev k u h one on l).1 (rev k u h one on l).2 σ t) ∧
    (∀ t t', 0 ≤ t → t < n → 0 ≤ t' → t' < n → (rev k u h one on l).1 t ≠ -2 → (rev k u h one on l).1 t' ≠ -2 → (rev k u h one on l).2 t = (rev k u h one on l).2 t' → t = t') ∧
    (∀ t t', 0 ≤ t → t < n → 0 ≤ t' → t' < n → (rev k u h one on l).1 t = -2 → (rev k u h one on l).1 t' = -2 → ld' t = ld' t' → t = t') := by
  intro k
  induction k with
  | zero =>
    intro u h one on l rk hm hk h0
    obtain ⟨-, -, -, -, ⟨m1, -⟩, -⟩ := hm
    have := h0 one m1.1 m1.2
    omega
  | succ k ih =>
    intro u h one on l rk hm hk hrk
    obtain ⟨m1, m2, m3, m4, ⟨o1, o2, o3, o4, o5, o6⟩, ⟨Cm, c1, c2, c3, c4⟩, m6⟩ := hm
    have hr : ∀ t, 0 ≤ t → t < n → u t ≠ -2 → 0 ≤ u t ∧ u t < n := fun t t0 t1 q => (m2 t t0 t1 q).1
    -- the part that is moved
    have honS : ¬ subt u one on := fun q => by
      have : ∀ t, 0 ≤ t → t < n → subt u one t → ¬ Cm t := subt_all hr o1.1 (fun t t0 t1 q p => fun c => p ((c3 t t0 t1 q).mp c)) c2
      exact this on o2.1 o2.2 q c1
    have hSrk : ∀ t, 0 ≤ t → t < n → subt u one t → rk one ≤ rk t := subt_all (P := fun t => rk one ≤ rk t) hr o1.1 (fun t t0 t1 q p => by have := m1 t t0 t1 q; have p : rk one ≤ rk (u t) := p; show rk one ≤ rk t; omega) (Int.le_refl _)
    have hone : one ≠ on := fun q => c2 (by rw [q]; exact c1)
    -- what hangs then
    have e1 : ∀ t, t ≠ one → iup u one on t = u t := fun t q => iup_ne q
    have e2 : ∀ t, t ≠ one → iup h one l t = h t := fun t q => iup_ne q
    have f1 : iup u one on one = on := iup_at
    have f2 : iup h one l one = l := iup_at
    have s2 : ∀ t, 0 ≤ t → t < n → iup u one on t ≠ -2 → fstep n nj ld' (iup u one on) (iup h one l) σ t := by
      intro t t0 t1 q
      by_cases e : t = one
      · rw [e]
        unfold fstep
        rw [f1, f2]
        exact ⟨o2, o3, o4, o5⟩
      · unfold fstep
        rw [e1 t e, e2 t e]
        rw [e1 t e] at q
        exact m2 t t0 t1 q
    have s3 : ∀ t t', 0 ≤ t → t < n → 0 ≤ t' → t' < n → iup u one on t ≠ -2 → iup u one on t' ≠ -2 → iup h one l t = iup h one l t' → t = t' := by
      intro t t' t0 t1 u0 u1 q q' e
      by_cases a1 : t = one <;> by_cases a2 : t' = one
      · rw [a1, a2]
      · rw [a1, f2, e2 t' a2] at e
        rw [e1 t' a2] at q'
        exact absurd e.symm (m4 t' u0 u1 q')
      · rw [a2, f2, e2 t a1] at e
        rw [e1 t a1] at q
        exact absurd e (m4 t t0 t1 q)
      · rw [e1 t a1] at q
        rw [e1 t' a2] at q'
        rw [e2 t a1, e2 t' a2] at e
        exact m3 t t' t0 t1 u0 u1 q q' e
    have s1 : ∃ rk' : Int → Int, (∀ t, 0 ≤ t → t < n → iup u one on t ≠ -2 → rk' (iup u one on t) < rk' t) ∧ (∀ t, 0 ≤ t → t < n → ¬ subt u one t → rk' t = rk t) ∧ ∀ t, 0 ≤ t → t < n → 0 ≤ rk' t := by
      have hon := hrk on o2.1 o2.2
      refine ⟨fun t => @ite _ (subt u one t) (Classical.propDecidable _) (rk t + rk on + 1) (rk t), fun t t0 t1 q => ?_, fun t t0 t1 q => ?_, fun t t0 t1 => ?_⟩
      · by_cases e : t = one
        · rw [e, f1]
          show @ite _ (subt u one on) (Classical.propDecidable _) _ _ < @ite _ (subt u one one) (Classical.propDecidable _) _ _
          rw [if_neg honS, if_pos subt_self]
          have := hrk one o1.1 o1.2
          omega
        · rw [e1 t e] at q ⊢
          have h1 := m1 t t0 t1 q
          have h2 := subt_up e q
          show @ite _ (subt u one (u t)) (Classical.propDecidable _) _ _ < @ite _ (subt u one t) (Classical.propDecidable _) _ _
          by_cases e3 : subt u one t
          · rw [if_pos e3, if_pos (h2.mp e3)]; omega
          · rw [if_neg e3, if_neg (fun q => e3 (h2.mpr q))]; exact h1
      · show @ite _ (subt u one t) (Classical.propDecidable _) _ _ = _
        rw [if_neg q]
      · show 0 ≤ @ite _ (subt u one t) (Classical.propDecidable _) _ _
        have := hrk t t0 t1
        by_cases e3 : subt u one t
        · rw [if_pos e3]; omega
        · rw [if_neg e3]; exact this
    obtain ⟨rk', s11, s12, s13⟩ := s1
    by_cases hroot : u one = -2
    · have e : rev (k + 1) u h one on l = (iup u one on, iup h one l) := if_pos hroot
      rw [e]
      refine ⟨⟨rk', s11⟩, s2, s3, fun t t' t0 t1 u0 u1 q q' e3 => ?_⟩
      have q : iup u one on t = -2 := q
      have q' : iup u one on t' = -2 := q'
      have n1 : t ≠ one := fun e4 => by rw [e4, f1] at q; omega
      have n2 : t' ≠ one := fun e4 => by rw [e4, f1] at q'; omega
      rw [e1 t n1] at q
      rw [e1 t' n2] at q'
      rcases hmerge t t' t0 t1 u0 u1 e3 with e4 | e4 | e4
      · exact m6 t t' t0 t1 u0 u1 q q' e4
      · exact absurd (m6 t one t0 t1 o1.1 o1.2 q hroot (by rw [o6]; exact e4)) n1
      · exact absurd (m6 t' one u0 u1 o1.1 o1.2 q' hroot (by rw [o6]; exact e4)) n2
    · have e : rev (k + 1) u h one on l = rev k (iup u one on) (iup h one l) (u one) one (h one) := if_neg hroot
      rw [e]
      have hup := m2 one o1.1 o1.2 hroot
      have hneq : u one ≠ one := fun q => by have := m1 one o1.1 o1.2 hroot; rw [q] at this; omega
      have hnS : ¬ subt u one (u one) := fun q => by
        have h1 := hSrk _ hup.1.1 hup.1.2 q
        have h2 := m1 one o1.1 o1.2 hroot
        omega
      refine ih _ _ _ _ _ rk' ⟨s11, s2, s3, ?_, ⟨hup.1, o1, hup.2.1, ?_, hup.2.2.2.symm, ?_⟩, ⟨fun t => Cm t ∨ subt u one t, Or.inr subt_self, ?_, ?_, ?_⟩, ?_⟩ ?_ s13
      · intro t t0 t1 q
        by_cases e3 : t = one
        · rw [e3, f2]; exact fun e4 => m4 one o1.1 o1.2 hroot e4.symm
        · rw [e2 t e3]
          rw [e1 t e3] at q
          exact fun e4 => e3 (m3 t one t0 t1 o1.1 o1.2 q hroot e4)
      · intro i
        rw [← hup.2.2.1 i]
        exact ⟨fun q => q.symm, fun q => q.symm⟩
      · rw [← c4 one o1.1 o1.2 hroot c2]; exact o6
      · rintro (q | q)
        · exact c2 ((c3 one o1.1 o1.2 hroot).mpr q)
        · exact hnS q
      · intro t t0 t1 q
        by_cases e3 : t = one
        · rw [e3, f1]
          exact ⟨fun _ => Or.inl c1, fun _ => Or.inr subt_self⟩
        · rw [e1 t e3] at q ⊢
          show (Cm t ∨ subt u one t) ↔ (Cm (u t) ∨ subt u one (u t))
          rw [c3 t t0 t1 q, subt_up e3 q]
      · intro t t0 t1 q hc
        have e3 : t ≠ one := fun e4 => hc (by rw [e4]; exact Or.inr subt_self)
        rw [e1 t e3] at q ⊢
        exact c4 t t0 t1 q (fun c => hc (Or.inl c))
      · intro t t' t0 t1 u0 u1 q q' e3
        have n1 : t ≠ one := fun e4 => by rw [e4, f1] at q; omega
        have n2 : t' ≠ one := fun e4 => by rw [e4, f1] at q'; omega
        rw [e1 t n1] at q
        rw [e1 t' n2] at q'
        exact m6 t t' t0 t1 u0 u1 q q' e3
      · rw [s12 _ hup.1.1 hup.1.2 hnS]
        have := m1 one o1.1 o1.2 hroot
        omega
/-- cuts when two trees become one by a new label -/
def cutj (ld : Int → Int) (σ : Int → Int → Bool) (a b nj : Int) : Int → Int → Bool := fun v i => if ld v = ld b then (σ v i ^^ (σ b i ^^ (σ a i ^^ decide (i = nj)))) else σ v i
theorem cutj_same {ld : Int → Int} {σ : Int → Int → Bool} {a b nj v w : Int} (h : ld v = ld w) (i : Int) : (cutj ld σ a b nj v i ≠ cutj ld σ a b nj w i) ↔ (σ v i ≠ σ w i) := by
  unfold cutj
  rw [h]
  by_cases e : ld w = ld b
  · rw [if_pos e, if_pos e]
    cases σ v i <;> cases σ w i <;> cases (σ b i ^^ (σ a i ^^ decide (i = nj))) <;> decide
  · rw [if_neg e, if_neg e]
theorem rev_FO {n nj : Int} {ld u h : Int → Int} {σ : Int → Int → Bool} {a b : Int} (hn : n ≤ 24) (hj : 0 ≤ nj) (hF : FO n nj ld u h σ) (hl : lr n ld) (a0 : 0 ≤ a) (a1 : a < n) (b0 : 0 ≤ b) (b1 : b < n) (hab : ld a ≠ ld b) :
    FO n (nj + 1) (un n ld a b) (rev 24 u h b a nj).1 (rev 24 u h b a nj).2 (cutj ld σ a b nj) := by
  obtain ⟨⟨rk, f1⟩, f2, f3, f4, f5⟩ := hF
  have hmerge : ∀ t t', 0 ≤ t → t < n → 0 ≤ t' → t' < n → un n ld a b t = un n ld a b t' → ld t = ld t' ∨ ld t = ld b ∨ ld t' = ld b := by
    intro t t' t0 t1 u0 u1 e
    rcases (un_iff t0 t1 u0 u1).mp e with e | ⟨e, e'⟩ | ⟨e, e'⟩
    · exact Or.inl e
    · exact Or.inr (Or.inr e')
    · exact Or.inr (Or.inl e)
  have hmid : midF n (nj + 1) ld (un n ld a b) (cutj ld σ a b nj) b u h b a nj rk := by
    refine ⟨fun t t0 t1 q => (f1 t t0 t1).2 q, fun t t0 t1 q => ?_, f3, fun t t0 t1 q => ?_, ⟨⟨b0, b1⟩, ⟨a0, a1⟩, ⟨hj, by omega⟩, fun i => ?_, (un_joins a0 a1 b0 b1).symm, rfl⟩, ⟨fun t => ld t ≠ ld b, hab, fun q => q rfl, fun t t0 t1 q => ?_, fun t t0 t1 q _ => (f2 t t0 t1 q).2.2.2⟩, f4⟩
    · obtain ⟨g1, g2, g3, g4⟩ := f2 t t0 t1 q
      refine ⟨g1, ⟨g2.1, by omega⟩, fun i => ?_, un_keeps t0 t1 g1.1 g1.2 g4⟩
      rw [cutj_same g4]
      exact g3 i
    · have := (f2 t t0 t1 q).2.1; omega
    · unfold cutj
      rw [if_pos rfl, if_neg hab]
      by_cases e : i = nj
      · rw [decide_eq_true e]
        cases σ a i <;> cases σ b i <;> simp [e]
      · rw [decide_eq_false e]
        cases σ a i <;> cases σ b i <;> simp [e]
    · show (ld t ≠ ld b) ↔ (ld (u t) ≠ ld b)
      rw [(f2 t t0 t1 q).2.2.2]
  have hb := f1 b b0 b1
  obtain ⟨⟨rk', r1⟩, r2, r3, r4⟩ := rev_mid hmerge 24 u h b a nj rk hmid (by omega) (fun t t0 t1 => (f1 t t0 t1).1.1)
  obtain ⟨rk2, r5⟩ := rk_low (fun t t0 t1 q => (r2 t t0 t1 q).1) r1
  refine ⟨⟨rk2, r5⟩, r2, r3, r4, fun t i t0 t1 q => ?_⟩
  unfold cutj at q
  by_cases e : ld t = ld b
  · rw [if_pos e] at q
    by_cases e1 : σ t i = true
    · have := f5 t i t0 t1 e1; omega
    · by_cases e2 : σ b i = true
      · have := f5 b i b0 b1 e2; omega
      · by_cases e3 : σ a i = true
        · have := f5 a i a0 a1 e3; omega
        · by_cases e4 : i = nj
          · omega
          · rw [decide_eq_false e4] at q
            simp [e1, e2, e3] at q
  · rw [if_neg e] at q
    have := f5 t i t0 t1 q; omega
