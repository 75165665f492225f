/-! THE PURE PART, 26: reasons by the system -/
set_option maxRecDepth 100000
/-- who is above whom -/
theorem subt_dep {n nj : Int} {ld u h dep : Int → Int} {σ : Int → Int → Bool} (hF : FO n nj ld u h σ) (hd : isDep n u dep) {x : Int} (x0 : 0 ≤ x) : ∀ t, 0 ≤ t → t < n → subt u x t → (t = x ∨ dep x < dep t) ∧ ld x = ld t := by
  obtain ⟨-, f2, -⟩ := hF
  refine subt_all (P := fun t => (t = x ∨ dep x < dep t) ∧ ld x = ld t) (fun t t0 t1 q => (f2 t t0 t1 q).1) x0 (fun t t0 t1 q p => ?_) ⟨Or.inl rfl, rfl⟩
  have d := (hd t t0 t1).2.2 q
  have g := (f2 t t0 t1 q).2.2.2
  obtain ⟨p1, p2⟩ := p
  refine ⟨Or.inr ?_, p2.trans g.symm⟩
  rcases p1 with p1 | p1
  · rw [p1] at d; omega
  · omega
theorem subt_trans {u : Int → Int} {x y : Int} : ∀ (k : Nat) (t : Int), itu u k t = y → 0 ≤ y → subt u x y → subt u x t := by
  intro k
  induction k with
  | zero => exact fun t e _ h => by have e : t = y := e; rw [e]; exact h
  | succ k ih =>
    intro t e y0 h
    have h2 : (if u t = -2 then -2 else itu u k (u t)) = y := e
    by_cases q : u t = -2
    · rw [if_pos q] at h2; omega
    · rw [if_neg q] at h2
      obtain ⟨i, hi⟩ := ih (u t) h2 y0 h
      exact ⟨i + 1, by show (if u t = -2 then -2 else itu u i (u t)) = x; rw [if_neg q]; exact hi⟩
theorem FO_up {n nj : Int} {ld u h dep : Int → Int} {σ : Int → Int → Bool} (hF : FO n nj ld u h σ) (hd : isDep n u dep) : ∀ t, 0 ≤ t → t < n → ∃ r, (0 ≤ r ∧ r < n) ∧ u r = -2 ∧ ld r = ld t ∧ subt u r t := by
  obtain ⟨-, f2, -⟩ := hF
  have L : ∀ (k : Nat) t, 0 ≤ t → t < n → dep t < k → ∃ r, (0 ≤ r ∧ r < n) ∧ u r = -2 ∧ ld r = ld t ∧ subt u r t := by
    intro k
    induction k with
    | zero => exact fun t t0 t1 q => by have := (hd t t0 t1).1; omega
    | succ k ih =>
      intro t t0 t1 q
      obtain ⟨d1, d2, d3⟩ := hd t t0 t1
      by_cases e : u t = -2
      · exact ⟨t, ⟨t0, t1⟩, e, rfl, subt_self⟩
      · have g := f2 t t0 t1 e
        have := d3 e
        obtain ⟨r, r1, r2, r3, i, hi⟩ := ih (u t) g.1.1 g.1.2 (by omega)
        exact ⟨r, r1, r2, r3.trans g.2.2.2.symm, i + 1, by show (if u t = -2 then -2 else itu u i (u t)) = r; rw [if_neg e]; exact hi⟩
  exact fun t t0 t1 => L ((dep t).toNat + 1) t t0 t1 (by omega)
theorem FO_side2 {n nj : Int} {ld u h dep : Int → Int} {σ : Int → Int → Bool} (hF : FO n nj ld u h σ) (hd : isDep n u dep) {t r : Int} (t0 : 0 ≤ t) (t1 : t < n) (ht : u t ≠ -2) (hr : (0 ≤ r ∧ r < n) ∧ u r = -2 ∧ ld r = ld t) : ∀ w, 0 ≤ w → w < n → ld w = ld t → subt u t w ∨ σ w (h t) = σ r (h t) := by
  obtain ⟨-, f2, f3, f4, -⟩ := hF
  have L : ∀ (k : Nat) w, 0 ≤ w → w < n → ld w = ld t → dep w < k → subt u t w ∨ σ w (h t) = σ r (h t) := by
    intro k
    induction k with
    | zero => exact fun w w0 w1 _ q => by have := (hd w w0 w1).1; omega
    | succ k ih =>
      intro w w0 w1 hw q
      obtain ⟨d1, d2, d3⟩ := hd w w0 w1
      by_cases e : u w = -2
      · have : w = r := f4 w r w0 w1 hr.1.1 hr.1.2 e hr.2.1 (hw.trans hr.2.2.symm)
        rw [this]; exact Or.inr rfl
      · by_cases e2 : w = t
        · rw [e2]; exact Or.inl subt_self
        · have g := f2 w w0 w1 e
          have h3 := d3 e
          rcases ih (u w) g.1.1 g.1.2 (g.2.2.2.symm.trans hw) (by omega) with q2 | q2
          · exact Or.inl ((subt_up e2 e).mpr q2)
          · refine Or.inr ?_
            have h4 : ¬ σ w (h t) ≠ σ (u w) (h t) := fun q3 => e2 (f3 w t w0 w1 t0 t1 e ht ((g.2.2.1 (h t)).mp q3).symm)
            rw [← q2]
            cases q5 : σ w (h t) <;> cases q6 : σ (u w) (h t) <;> simp [q5, q6] at h4 ⊢
  exact fun w w0 w1 hw => L ((dep w).toNat + 1) w w0 w1 hw (by omega)
theorem FO_cross2 {n nj : Int} {ld u h dep : Int → Int} {σ : Int → Int → Bool} (hF : FO n nj ld u h σ) (hd : isDep n u dep) {t b : Int} (t0 : 0 ≤ t) (t1 : t < n) (b0 : 0 ≤ b) (b1 : b < n) (hl : ld t = ld b) (hu : u t ≠ -2) (hn : ¬ subt u t b) : σ t (h t) ≠ σ b (h t) := by
  obtain ⟨r, hr1, hr2, hr3, -⟩ := FO_up hF hd t t0 t1
  have g := hF.2.1 t t0 t1 hu
  have d3 := (hd t t0 t1).2.2 hu
  have s1 : σ b (h t) = σ r (h t) := (FO_side2 hF hd t0 t1 hu ⟨hr1, hr2, hr3⟩ b b0 b1 hl.symm).resolve_left hn
  have s2 : σ (u t) (h t) = σ r (h t) := (FO_side2 hF hd t0 t1 hu ⟨hr1, hr2, hr3⟩ (u t) g.1.1 g.1.2 g.2.2.2.symm).resolve_left (fun q => by
    have := (subt_dep hF hd t0 (u t) g.1.1 g.1.2 q).1
    rcases this with q2 | q2
    · rw [q2] at d3; omega
    · omega)
  rw [s1, ← s2]
  exact (g.2.2.1 (h t)).mpr rfl
/-- what reasons change in the system -/
def rsX (s s' : XS) : Prop := s'.1 = s.1 ∧ (∀ j, j ≠ 4 → s'.2 j = s.2 j) ∧ (∀ k, k ≠ 13 → (s'.2 4).1 k = (s.2 4).1 k) ∧ ∀ k, k ≠ 11 → k ≠ 12 → (s'.2 4).2 k = (s.2 4).2 k
theorem rsX.rf {s : XS} : rsX s s := ⟨rfl, fun _ _ => rfl, fun _ _ => rfl, fun _ _ _ => rfl⟩
theorem rsX.tr {s s1 s2 : XS} (h : rsX s s1) (g : rsX s1 s2) : rsX s s2 := ⟨g.1.trans h.1, fun j q => (g.2.1 j q).trans (h.2.1 j q), fun k q => (g.2.2.1 k q).trans (h.2.2.1 k q), fun k q r => (g.2.2.2 k q r).trans (h.2.2.2 k q r)⟩
theorem rsX.rxb {b : PB} {s s' : XS} (h : RXb b s) (g : rsX s s') : RXb b s' := h.of (fun _ _ => by rw [g.1]) (fun _ _ => by rw [g.1])
theorem rsX.rn {z : ZS} {s s' : XS} (h : RN s z) (g : rsX s s') : RN s' z := by
  obtain ⟨h1, ⟨h2, h3⟩, h4, h5⟩ := h
  obtain ⟨-, -, g3, g4⟩ := g
  refine ⟨(g3 1 (by decide)).trans h1, ⟨fun t t0 t1 => ?_, fun t t0 t1 => ?_⟩, (g3 10 (by decide)).trans h4, fun k k0 k1 => ?_⟩
  · rw [g4 0 (by decide) (by decide), g4 5 (by decide) (by decide), g4 6 (by decide) (by decide)]; exact h2 t t0 t1
  · rw [g4 5 (by decide) (by decide)]; exact h3 t t0 t1
  · rw [g4 7 (by decide) (by decide), g4 8 (by decide) (by decide), g4 9 (by decide) (by decide)]; exact h5 k k0 k1
theorem rsX_ya {s : XS} {k : Nat} {x v : Int} (hk : k = 11 ∨ k = 12) : rsX s (ya s 4 k x v) := ⟨rfl, fun j hj => if_neg hj, fun _ _ => rfl, fun j h1 h2 => by
  show (ma (s.2 4) k x v).2 j = _
  rw [ma_o (by omega)]⟩
theorem rsX.x {s s' : XS} (h : rsX s s') : eqX s s' := ⟨fun k _ _ => by rw [h.1], fun k _ _ _ _ _ => by rw [h.1], h.2.1 2 (by decide), h.2.2.1, h.2.2.2⟩
/-- the lowest one above two -/
theorem x_common {n nj : Int} {ld u h dep : Int → Int} {σ : Int → Int → Bool} {a b : Int} {s : XS} {K : Int → XS → Prop} (hn : n ≤ 24) (hF : FO n nj ld u h σ) (hd : isDep n u dep) (hu : ∀ t, 0 ≤ t → t < n → (s.2 4).2 5 t = cv (u t)) (a0 : 0 ≤ a) (a1 : a < n) (b0 : 0 ≤ b) (b1 : b < n) (hl : ld a = ld b) (hK : ∀ to s', rsX s s' → (∀ i, (s'.2 4).2 12 i = (s.2 4).2 12 i) → (s'.2 4).1 13 = (s.2 4).1 13 → (0 ≤ to ∧ to < n) → subt u to a → subt u to b → (∀ x, 0 ≤ x → x < n → subt u x a → subt u x b → subt u x to) → K to s') : C_X6_common_N a b s K := by
  intro X2 X23 X47 h2 h23 h47
  have f2 := hF.2.1
  -- the last loop
  have L47 : ∀ (k : Nat) (t : Int) (s1 : XS), rsX s s1 → (∀ i, (s1.2 4).2 12 i = (s.2 4).2 12 i) → (s1.2 4).1 13 = (s.2 4).1 13 → (∀ x, 0 ≤ x → x < n → ((s1.2 4).2 11 x ≠ 0 ↔ subt u x a)) → 0 ≤ t → t < n → dep t < k → subt u t b → (∀ x, 0 ≤ x → x < n → subt u x a → subt u x b → subt u x t) → X47 t s1 := by
    intro k
    induction k with
    | zero => exact fun t s1 _ _ _ _ t0 t1 q => by have := (hd t t0 t1).1; omega
    | succ k ih =>
      intro t s1 hrs hd12 hs13 hab t0 t1 hdt htb hlca
      refine h47 _ _ ⟨⟨t0, by omega⟩, fun e => ⟨⟨t0, by omega⟩, ?_⟩, fun e => hK t s1 hrs hd12 hs13 ⟨t0, t1⟩ ((hab t t0 t1).mp e) htb hlca⟩
      have hna : ¬ subt u t a := fun q => (hab t t0 t1).mpr q e
      have hut : u t ≠ -2 := by
        intro q
        obtain ⟨r, r1, r2, r3, r4⟩ := FO_up hF hd a a0 a1
        obtain ⟨r', r1', r2', r3', r4'⟩ := FO_up hF hd b b0 b1
        have : r = r' := hF.2.2.2.1 r r' r1.1 r1.2 r1'.1 r1'.2 r2 r2' (r3.trans (hl.trans r3'.symm))
        have hrt := hlca r r1.1 r1.2 r4 (by rw [this]; exact r4')
        by_cases e2 : t = r
        · rw [e2] at hna; exact hna r4
        · exact subt_root r1.1 e2 q hrt
      have g := f2 t t0 t1 hut
      have d := (hd t t0 t1).2.2 hut
      rw [show (s1.2 4).2 5 t = cv (u t) by rw [hrs.2.2.2 5 (by decide) (by decide)]; exact hu t t0 t1, cv_n hut]
      refine ih (u t) s1 hrs hd12 hs13 hab g.1.1 g.1.2 (by omega) ?_ (fun x x0 x1 hxa hxb => ?_)
      · obtain ⟨i, hi⟩ := htb
        have hs : subt u (u t) t := ⟨1, by show (if u t = -2 then -2 else itu u 0 (u t)) = u t; rw [if_neg hut]; rfl⟩
        exact subt_trans i b hi t0 hs
      · have := hlca x x0 x1 hxa hxb
        exact (subt_up (fun e3 => hna (by rw [e3]; exact hxa)) hut).mp this
  -- marks upward
  have L23 : ∀ (k : Nat) (t : Int) (s1 : XS), rsX s s1 → (∀ i, (s1.2 4).2 12 i = (s.2 4).2 12 i) → (s1.2 4).1 13 = (s.2 4).1 13 → 0 ≤ t → t < n → dep t < k → subt u t a → (∀ x, 0 ≤ x → x < n → ((s1.2 4).2 11 x ≠ 0 ↔ (subt u x a ∧ ¬ subt u x t))) → X23 b t s1 := by
    intro k
    induction k with
    | zero => exact fun t s1 _ _ _ t0 t1 q => by have := (hd t t0 t1).1; omega
    | succ k ih =>
      intro t s1 hrs hd12 hs13 t0 t1 hdt hta hm
      refine h23 _ _ _ ⟨fun e => by omega, fun _ => ⟨⟨t0, by omega⟩, ?_⟩⟩
      rintro _ rfl
      refine ⟨⟨t0, by omega⟩, ?_⟩
      have hrs2 : rsX s (ya s1 4 11 t 1) := hrs.tr (rsX_ya (Or.inl rfl))
      have hd12' : ∀ i, ((ya s1 4 11 t 1).2 4).2 12 i = (s.2 4).2 12 i := hd12
      rw [show ((ya s1 4 11 t 1).2 4).2 5 t = cv (u t) by rw [hrs2.2.2.2 5 (by decide) (by decide)]; exact hu t t0 t1]
      have mark : ∀ x, ((ya s1 4 11 t 1).2 4).2 11 x = if x = t then 1 else (s1.2 4).2 11 x := fun x => rfl
      by_cases hut : u t = -2
      · rw [hut, cv_y]
        refine h23 _ _ _ ⟨fun _ => ?_, fun q => absurd rfl q⟩
        refine L47 ((dep b).toNat + 1) b _ hrs2 hd12' hs13 (fun x x0 x1 => ?_) b0 b1 (by have := (hd b b0 b1).1; omega) subt_self (fun x _ _ _ h => h)
        rw [mark]
        by_cases e : x = t
        · rw [if_pos e, e]; exact ⟨fun _ => hta, fun _ => by decide⟩
        · rw [if_neg e, hm x x0 x1]
          exact ⟨fun q => q.1, fun q => ⟨q, fun q2 => subt_root x0 (fun q3 => e q3.symm) hut q2⟩⟩
      · have g := f2 t t0 t1 hut
        have d := (hd t t0 t1).2.2 hut
        rw [cv_n hut]
        refine ih (u t) _ hrs2 hd12' hs13 g.1.1 g.1.2 (by omega) ?_ (fun x x0 x1 => ?_)
        · obtain ⟨i, hi⟩ := hta
          have hs : subt u (u t) t := ⟨1, by show (if u t = -2 then -2 else itu u 0 (u t)) = u t; rw [if_neg hut]; rfl⟩
          exact subt_trans i a hi t0 hs
        · rw [mark]
          by_cases e : x = t
          · rw [if_pos e, e]
            refine ⟨fun _ => ⟨hta, fun q => ?_⟩, fun _ => by decide⟩
            have := (subt_dep hF hd t0 (u t) g.1.1 g.1.2 q).1
            rcases this with q2 | q2
            · rw [q2] at d; omega
            · omega
          · rw [if_neg e, hm x x0 x1, subt_up (fun q => e q.symm) hut]
  have L2 : ∀ k, 0 ≤ k → k ≤ 24 → ∀ s1, rsX s s1 → (∀ i, (s1.2 4).2 12 i = (s.2 4).2 12 i) → (s1.2 4).1 13 = (s.2 4).1 13 → (∀ x, 0 ≤ x → x < k → (s1.2 4).2 11 x = 0) → X2 a b k s1 := by
    refine upto (fun k k0 k1 ih s1 hrs hd12 hs13 hz => h2 _ _ _ _ ⟨fun e => ?_, fun e => ⟨⟨k0, by omega⟩, ?_⟩⟩)
    · refine L23 ((dep a).toNat + 1) a s1 hrs hd12 hs13 a0 a1 (by have := (hd a a0 a1).1; omega) subt_self (fun x x0 x1 => ?_)
      rw [hz x x0 (by omega)]
      exact ⟨fun q => absurd rfl q, fun q => absurd q.1 q.2⟩
    · rintro _ rfl
      refine ⟨inI_s (by omega), ih (by omega) _ (hrs.tr (rsX_ya (Or.inl rfl))) hd12 hs13 (fun x x0 x1 => ?_)⟩
      show (if x = k then 0 else (s1.2 4).2 11 x) = 0
      by_cases e2 : x = k
      · rw [if_pos e2]
      · rw [if_neg e2]; exact hz x x0 (by omega)
  exact L2 0 (by omega) (by omega) s rsX.rf (fun _ => rfl) rfl (fun x x0 x1 => by omega)
