/-! THE PURE PART, 15: ways in the forest, reasons by the reference -/
set_option maxRecDepth 100000
/-- how deep one hangs -/
def depF (u : Int → Int) : Nat → Int → Int
  | 0, _ => 0
  | k + 1, t => if u t = -2 then 0 else depF u k (u t) + 1
def isDep (n : Int) (u dep : Int → Int) : Prop := ∀ t, 0 ≤ t → t < n → (0 ≤ dep t ∧ dep t < n) ∧ (u t = -2 → dep t = 0) ∧ (u t ≠ -2 → dep t = dep (u t) + 1)
theorem FO_dep {n nj : Int} {ld u h : Int → Int} {σ : Int → Int → Bool} (hn : n ≤ 24) (hF : FO n nj ld u h σ) : ∃ dep : Int → Int, isDep n u dep := by
  obtain ⟨⟨rk, f1⟩, f2, -⟩ := hF
  have hs : ∀ (k : Nat) (t : Int), 0 ≤ t → t < n → rk t < k → depF u (k + 1) t = depF u k t ∧ 0 ≤ depF u k t ∧ depF u k t ≤ rk t := by
    intro k
    induction k with
    | zero => exact fun t t0 t1 q => by have := (f1 t t0 t1).1; omega
    | succ k ih =>
      intro t t0 t1 q
      have h1 := f1 t t0 t1
      by_cases e : u t = -2
      · have e1 : depF u (k + 1 + 1) t = 0 := if_pos e
        have e2 : depF u (k + 1) t = 0 := if_pos e
        rw [e1, e2]
        exact ⟨rfl, by omega, by omega⟩
      · have e1 : depF u (k + 1 + 1) t = depF u (k + 1) (u t) + 1 := if_neg e
        have e2 : depF u (k + 1) t = depF u k (u t) + 1 := if_neg e
        have hu := (f2 t t0 t1 e).1
        have h2 := h1.2 e
        obtain ⟨i1, i2, i3⟩ := ih (u t) hu.1 hu.2 (by omega)
        rw [e1, e2, i1]
        exact ⟨rfl, by omega, by omega⟩
  refine ⟨depF u 24, fun t t0 t1 => ?_⟩
  have h1 := f1 t t0 t1
  obtain ⟨i1, i2, i3⟩ := hs 24 t t0 t1 (by omega)
  refine ⟨⟨i2, by omega⟩, fun e => if_pos e, fun e => ?_⟩
  have hu := (f2 t t0 t1 e).1
  have h2 := h1.2 e
  obtain ⟨j1, j2, j3⟩ := hs 23 (u t) hu.1 hu.2 (by omega)
  have e1 : depF u 24 t = depF u 23 (u t) + 1 := if_neg e
  rw [e1, ← j1]
theorem bxor_ne {a b : Bool} : (a ^^ b) = true ↔ a ≠ b := by cases a <;> cases b <;> decide
/-- a way ends at a root -/
theorem FO_root {n nj : Int} {ld u h dep : Int → Int} {σ : Int → Int → Bool} (hF : FO n nj ld u h σ) (hd : isDep n u dep) : ∀ t, 0 ≤ t → t < n → ∃ r, (0 ≤ r ∧ r < n) ∧ u r = -2 ∧ ld r = ld t := by
  obtain ⟨-, f2, -⟩ := hF
  have L : ∀ (k : Nat) t, 0 ≤ t → t < n → dep t < k → ∃ r, (0 ≤ r ∧ r < n) ∧ u r = -2 ∧ ld r = ld t := by
    intro k
    induction k with
    | zero => exact fun t t0 t1 q => by have := (hd t t0 t1).1; omega
    | succ k ih =>
      intro t t0 t1 q
      obtain ⟨d1, d2, d3⟩ := hd t t0 t1
      by_cases e : u t = -2
      · exact ⟨t, ⟨t0, t1⟩, e, rfl⟩
      · have g := f2 t t0 t1 e
        have := d3 e
        obtain ⟨r, r1, r2, r3⟩ := ih (u t) g.1.1 g.1.2 (by omega)
        exact ⟨r, r1, r2, r3.trans g.2.2.2.symm⟩
  exact fun t t0 t1 => L ((dep t).toNat + 1) t t0 t1 (by omega)
/-- who isn't below one is on the root's side of its step -/
theorem FO_side {n nj : Int} {ld u h dep : Int → Int} {σ : Int → Int → Bool} (hF : FO n nj ld u h σ) (hd : isDep n u dep) {t r : Int} (t0 : 0 ≤ t) (t1 : t < n) (ht : u t ≠ -2) (hr : (0 ≤ r ∧ r < n) ∧ u r = -2 ∧ ld r = ld t) : ∀ w, 0 ≤ w → w < n → ld w = ld t → (w = t ∨ dep t < dep w) ∨ σ w (h t) = σ r (h t) := by
  obtain ⟨-, f2, f3, f4, -⟩ := hF
  have L : ∀ (k : Nat) w, 0 ≤ w → w < n → ld w = ld t → dep w < k → (w = t ∨ dep t < dep w) ∨ σ w (h t) = σ r (h t) := by
    intro k
    induction k with
    | zero => exact fun w w0 w1 _ q => by have := (hd w w0 w1).1; omega
    | succ k ih =>
      intro w w0 w1 hw q
      obtain ⟨d1, d2, d3⟩ := hd w w0 w1
      by_cases e : u w = -2
      · have : w = r := f4 w r w0 w1 hr.1.1 hr.1.2 e hr.2.1 (hw.trans hr.2.2.symm)
        rw [this]; exact Or.inr rfl
      · by_cases e2 : w = t
        · exact Or.inl (Or.inl e2)
        · have g := f2 w w0 w1 e
          have h3 := d3 e
          rcases ih (u w) g.1.1 g.1.2 (g.2.2.2.symm.trans hw) (by omega) with (q2 | q2) | q2
          · rw [q2] at h3; exact Or.inl (Or.inr (by omega))
          · exact Or.inl (Or.inr (by omega))
          · refine Or.inr ?_
            have h4 : ¬ σ w (h t) ≠ σ (u w) (h t) := fun q3 => e2 (f3 w t w0 w1 t0 t1 e ht ((g.2.2.1 (h t)).mp q3).symm)
            rw [← q2]
            cases q5 : σ w (h t) <;> cases q6 : σ (u w) (h t) <;> simp [q5, q6] at h4 ⊢
  exact fun w w0 w1 hw => L ((dep w).toNat + 1) w w0 w1 hw (by omega)
/-- a step up from the deeper one is on the way -/
theorem FO_cross {n nj : Int} {ld u h dep : Int → Int} {σ : Int → Int → Bool} (hF : FO n nj ld u h σ) (hd : isDep n u dep) {a b : Int} (a0 : 0 ≤ a) (a1 : a < n) (b0 : 0 ≤ b) (b1 : b < n) (hl : ld a = ld b) (hab : a ≠ b) (hdp : dep b ≤ dep a) : u a ≠ -2 ∧ σ a (h a) ≠ σ b (h a) := by
  have hu : u a ≠ -2 := by
    intro e
    have d1 := (hd a a0 a1).2.1 e
    have d2 := (hd b b0 b1)
    by_cases e2 : u b = -2
    · exact hab (hF.2.2.2.1 a b a0 a1 b0 b1 e e2 hl)
    · have g := hF.2.1 b b0 b1 e2
      have d3 := d2.2.2 e2
      have d4 := (hd (u b) g.1.1 g.1.2).1
      omega
  refine ⟨hu, ?_⟩
  obtain ⟨r, hr⟩ := FO_root hF hd a a0 a1
  have g := hF.2.1 a a0 a1 hu
  have d3 := (hd a a0 a1).2.2 hu
  have s1 : σ b (h a) = σ r (h a) := by
    rcases FO_side hF hd a0 a1 hu hr b b0 b1 hl.symm with (q | q) | q
    · exact absurd q.symm hab
    · omega
    · exact q
  have s2 : σ (u a) (h a) = σ r (h a) := by
    rcases FO_side hF hd a0 a1 hu hr (u a) g.1.1 g.1.2 g.2.2.2.symm with (q | q) | q
    · rw [q] at d3; omega
    · omega
    · exact q
  rw [s1, ← s2]
  exact (g.2.2.1 (h a)).mpr rfl
/-- sets joined over some -/
def ors (f : Int → Int) (P : Int → Bool) : Nat → Int
  | 0 => 0
  | n + 1 => if P (n : Int) = true then jor (ors f P n) (f (n : Int)) else ors f P n
def orb (f : Int → Int) (P : Int → Bool) (n : Int) : Int := ors f P n.toNat
theorem bt_0 : ∀ c : Nat, c < 32 → bt 0 c = false := by decide +kernel
theorem bt_ors {f : Int → Int} {P : Int → Bool} {c : Nat} (hc : c < 32) : ∀ n : Nat, bt (ors f P n) c = true ↔ ∃ i : Int, 0 ≤ i ∧ i < n ∧ P i = true ∧ bt (f i) c = true := by
  intro n
  induction n with
  | zero =>
    show bt 0 c = true ↔ _
    rw [bt_0 c hc]
    exact ⟨fun q => absurd q (by decide), fun ⟨i, i0, i1, _⟩ => by omega⟩
  | succ n ih =>
    show bt (if P (n : Int) = true then jor (ors f P n) (f (n : Int)) else ors f P n) c = true ↔ _
    by_cases e : P (n : Int) = true
    · rw [if_pos e, bt_or, Bool.or_eq_true, ih]
      constructor
      · rintro (⟨i, i0, i1, i2, i3⟩ | q)
        · exact ⟨i, i0, by omega, i2, i3⟩
        · exact ⟨n, by omega, by omega, e, q⟩
      · rintro ⟨i, i0, i1, i2, i3⟩
        by_cases e2 : i = n
        · rw [e2] at i3; exact Or.inr i3
        · exact Or.inl ⟨i, i0, by omega, i2, i3⟩
    · rw [if_neg e, ih]
      constructor
      · rintro ⟨i, i0, i1, i2, i3⟩
        exact ⟨i, i0, by omega, i2, i3⟩
      · rintro ⟨i, i0, i1, i2, i3⟩
        by_cases e2 : i = n
        · rw [e2] at i2; exact absurd i2 e
        · exact ⟨i, i0, by omega, i2, i3⟩
theorem bt_orb {f : Int → Int} {P : Int → Bool} {n : Int} {c : Nat} (hc : c < 32) : bt (orb f P n) c = true ↔ ∃ i : Int, 0 ≤ i ∧ i < n ∧ P i = true ∧ bt (f i) c = true := by
  unfold orb
  rw [bt_ors hc]
  constructor <;> rintro ⟨i, i0, i1, i2⟩ <;> exact ⟨i, i0, by omega, i2⟩
theorem inI_32 (x : Int32) : inI x.toInt := ⟨Int32.le_toInt x, Int32.toInt_lt x⟩
theorem inI_or {x y : Int} : inI (jor x y) := inI_32 _
theorem inI_and {x y : Int} : inI (jand x y) := inI_32 _
theorem inI_ors {f : Int → Int} {P : Int → Bool} : ∀ n : Nat, inI (ors f P n) := by
  intro n
  induction n with
  | zero => exact ⟨by show (-2147483648 : Int) ≤ 0; omega, by show (0 : Int) < 2147483648; omega⟩
  | succ n ih =>
    show inI (if P (n : Int) = true then jor (ors f P n) (f (n : Int)) else ors f P n)
    by_cases e : P (n : Int) = true
    · rw [if_pos e]; exact inI_or
    · rw [if_neg e]; exact ih
theorem inI_orb {f : Int → Int} {P : Int → Bool} {n : Int} : inI (orb f P n) := inI_ors _
/-- sets with the same members are one -/
theorem set_ext {x y : Int} (hx : inI x) (hy : inI y) (h : ∀ c : Nat, c < 32 → (bt x c = true ↔ bt y c = true)) : x = y := by
  have e : Int32.ofInt x = Int32.ofInt y := by
    apply Int32.toBitVec_inj.mp
    apply BitVec.eq_of_getLsbD_eq
    intro i hi
    exact Bool.eq_iff_iff.mpr (h i hi)
  rw [← e_ti hx, ← e_ti hy, e]
theorem orb_congr {f g : Int → Int} {P Q : Int → Bool} {n : Int} (h : ∀ i, 0 ≤ i → i < n → P i = Q i ∧ (P i = true → f i = g i)) : orb f P n = orb g Q n := by
  refine set_ext inI_orb inI_orb (fun c hc => ?_)
  rw [bt_orb hc, bt_orb hc]
  constructor <;> rintro ⟨i, i0, i1, i2, i3⟩ <;> have := h i i0 i1
  · exact ⟨i, i0, i1, by rw [← this.1]; exact i2, by rw [← this.2 i2]; exact i3⟩
  · exact ⟨i, i0, i1, by rw [this.1]; exact i2, by rw [this.2 (by rw [this.1]; exact i2)]; exact i3⟩
/-- what is on the way between two -/
def wayP (σ : Int → Int → Bool) (t u : Int) : Int → Bool := fun i => σ t i ^^ σ u i
theorem wayP_ne {σ : Int → Int → Bool} {t u i : Int} : wayP σ t u i = true ↔ σ t i ≠ σ u i := bxor_ne
theorem wayP_symm {σ : Int → Int → Bool} {t u : Int} : wayP σ t u = wayP σ u t := funext fun i => by unfold wayP; cases σ t i <;> cases σ u i <;> rfl
theorem c_depthOf {n : Int} {u dep : Int → Int} {t : Int} {m : MS} {K : Int → MS → Prop} (hn : n ≤ 24) (hu : ∀ t, 0 ≤ t → t < n → m.2 37 t = u t) (hr : ∀ t, 0 ≤ t → t < n → u t ≠ -2 → 0 ≤ u t ∧ u t < n) (hd : isDep n u dep) (t0 : 0 ≤ t) (t1 : t < n) (h : K (dep t) m) : C_depthOf t m K := by
  intro X hX
  have hdt := (hd t t0 t1).1
  have L : ∀ (k : Nat) (c x : Int), 0 ≤ x → x < n → 0 ≤ c → dep x < k → c + dep x = dep t → X c x m := by
    intro k
    induction k with
    | zero => exact fun c x x0 x1 _ q => by have := (hd x x0 x1).1; omega
    | succ k ih =>
      intro c x x0 x1 c0 q e
      obtain ⟨d1, d2, d3⟩ := hd x x0 x1
      refine hX _ _ _ ⟨⟨x0, by omega⟩, ?_⟩
      rw [hu x x0 x1]
      refine ⟨fun e2 => ?_, fun e2 => ⟨inI_s (by omega), ⟨x0, by omega⟩, ?_⟩⟩
      · have := d2 e2
        rw [show c = dep t by omega]; exact h
      · have g := hr x x0 x1 e2
        have := d3 e2
        exact ih _ _ g.1 g.2 (by omega) (by omega) (by omega)
  exact L ((dep t).toNat + 1) 0 t t0 t1 (by omega) (by omega) (by omega)
theorem orb_step {f : Int → Int} {P Q : Int → Bool} {n l x : Int} (l0 : 0 ≤ l) (l1 : l < n) (h : ∀ i, 0 ≤ i → i < n → (P i = true ↔ Q i = true ∨ i = l)) : jor (jor x (f l)) (orb f Q n) = jor x (orb f P n) := by
  refine set_ext inI_or inI_or (fun c hc => ?_)
  rw [bt_or, bt_or, bt_or, Bool.or_eq_true, Bool.or_eq_true, Bool.or_eq_true, bt_orb hc, bt_orb hc]
  constructor
  · rintro ((q | q) | ⟨i, i0, i1, i2, i3⟩)
    · exact Or.inl q
    · exact Or.inr ⟨l, l0, l1, (h l l0 l1).mpr (Or.inr rfl), q⟩
    · exact Or.inr ⟨i, i0, i1, (h i i0 i1).mpr (Or.inl i2), i3⟩
  · rintro (q | ⟨i, i0, i1, i2, i3⟩)
    · exact Or.inl (Or.inl q)
    · rcases (h i i0 i1).mp i2 with q | q
      · exact Or.inr ⟨i, i0, i1, q, i3⟩
      · rw [q] at i3; exact Or.inl (Or.inr i3)
theorem orb_none {f : Int → Int} {P : Int → Bool} {n : Int} (h : ∀ i, 0 ≤ i → i < n → P i = false) : orb f P n = 0 := by
  refine set_ext inI_orb ⟨by show (-2147483648 : Int) ≤ 0; omega, by show (0 : Int) < 2147483648; omega⟩ (fun c hc => ?_)
  rw [bt_orb hc, bt_0 c hc]
  exact ⟨fun ⟨i, i0, i1, i2, _⟩ => by rw [h i i0 i1] at i2; exact i2, fun q => absurd q (by decide)⟩
theorem jor_0r {x : Int} (h : inI x) : jor x 0 = x := by
  refine set_ext inI_or h (fun c hc => ?_)
  rw [bt_or, bt_0 c hc, Bool.or_false]
theorem jor_0l {x : Int} (h : inI x) : jor 0 x = x := by
  refine set_ext inI_or h (fun c hc => ?_)
  rw [bt_or, bt_0 c hc, Bool.false_or]
theorem c_reasonsOf {n nj : Int} {ld u h jb : Int → Int} {σ : Int → Int → Bool} {a b : Int} {m : MS} {K : Int → MS → Prop} (hn : n ≤ 24) (hj : nj ≤ 24) (hF : FO n nj ld u h σ) (hu : ∀ t, 0 ≤ t → t < n → m.2 37 t = u t) (hh : ∀ t, 0 ≤ t → t < n → u t ≠ -2 → m.2 38 t = h t) (hjb : ∀ i, 0 ≤ i → i < nj → m.2 43 i = jb i) (a0 : 0 ≤ a) (a1 : a < n) (b0 : 0 ≤ b) (b1 : b < n) (hl : ld a = ld b) (hK : K (orb jb (wayP σ a b) nj) m) : C_reasonsOf a b m K := by
  intro X hX
  obtain ⟨dep, hd⟩ := FO_dep hn hF
  have hr : ∀ t, 0 ≤ t → t < n → u t ≠ -2 → 0 ≤ u t ∧ u t < n := fun t t0 t1 q => (hF.2.1 t t0 t1 q).1
  have L : ∀ (k : Nat) (x s t : Int), 0 ≤ s → s < n → 0 ≤ t → t < n → ld s = ld t → inI x → dep s + dep t < k → jor x (orb jb (wayP σ s t) nj) = orb jb (wayP σ a b) nj → X x s t m := by
    intro k
    induction k with
    | zero => exact fun x s t s0 s1 t0 t1 _ _ q => by have := (hd s s0 s1).1; have := (hd t t0 t1).1; omega
    | succ k ih =>
      intro x s t s0 s1 t0 t1 hst hx q e
      refine hX _ _ _ _ ⟨fun e2 => ?_, fun e2 => c_depthOf hn hu hr hd s0 s1 (c_depthOf hn hu hr hd t0 t1 ⟨fun e3 => ?_, fun e3 => ?_⟩)⟩
      · rw [e2, orb_none (fun i _ _ => by unfold wayP; cases σ t i <;> rfl), jor_0r hx] at e
        rw [e]; exact hK
      · obtain ⟨c1, c2⟩ := FO_cross hF hd t0 t1 s0 s1 hst.symm (fun q => e2 q.symm) (by omega)
        have g := hF.2.1 t t0 t1 c1
        have d3 := (hd t t0 t1).2.2 c1
        rw [hh t t0 t1 c1, hu t t0 t1, hjb _ g.2.1.1 g.2.1.2]
        refine ⟨⟨t0, by omega⟩, ⟨g.2.1.1, by have := g.2.1.2; omega⟩, ⟨t0, by omega⟩, ih _ _ _ s0 s1 g.1.1 g.1.2 (hst.trans g.2.2.2) inI_or (by omega) ?_⟩
        rw [orb_step (P := wayP σ s t) g.2.1.1 g.2.1.2 (fun i i0 i1 => ?_)]
        · exact e
        · rw [wayP_ne, wayP_ne]
          by_cases e4 : i = h t
          · rw [e4]
            exact ⟨fun _ => Or.inr rfl, fun _ => c2.symm⟩
          · have : ¬ σ t i ≠ σ (u t) i := fun q3 => e4 ((g.2.2.1 i).mp q3)
            have : σ t i = σ (u t) i := by cases q5 : σ t i <;> cases q6 : σ (u t) i <;> simp [q5, q6] at this ⊢
            rw [this]
            exact ⟨fun q => Or.inl q, fun q => q.elim id (fun q => absurd q e4)⟩
      · obtain ⟨c1, c2⟩ := FO_cross hF hd s0 s1 t0 t1 hst e2 (by omega)
        have g := hF.2.1 s s0 s1 c1
        have d3 := (hd s s0 s1).2.2 c1
        rw [hh s s0 s1 c1, hu s s0 s1, hjb _ g.2.1.1 g.2.1.2]
        refine ⟨⟨s0, by omega⟩, ⟨g.2.1.1, by have := g.2.1.2; omega⟩, ⟨s0, by omega⟩, ih _ _ _ g.1.1 g.1.2 t0 t1 (g.2.2.2.symm.trans hst) inI_or (by omega) ?_⟩
        rw [orb_step (P := wayP σ s t) g.2.1.1 g.2.1.2 (fun i i0 i1 => ?_)]
        · exact e
        · rw [wayP_ne, wayP_ne]
          by_cases e4 : i = h s
          · rw [e4]
            exact ⟨fun _ => Or.inr rfl, fun _ => c2⟩
          · have : ¬ σ s i ≠ σ (u s) i := fun q3 => e4 ((g.2.2.1 i).mp q3)
            have : σ s i = σ (u s) i := by cases q5 : σ s i <;> cases q6 : σ (u s) i <;> simp [q5, q6] at this ⊢
            rw [this]
            exact ⟨fun q => Or.inl q, fun q => q.elim id (fun q => absurd q e4)⟩
  refine L ((dep a + dep b).toNat + 1) 0 a b a0 a1 b0 b1 hl ⟨by omega, by omega⟩ ?_ (jor_0l inI_orb)
  have := (hd a a0 a1).1
  have := (hd b b0 b1).1
  omega
