/-! THE PURE PART, 1: counting, rows of leaders, closings (no machine in sight) -/
set_option maxRecDepth 100000
theorem upto {P : Int → Prop} {n : Int} (h : ∀ k, 0 ≤ k → k ≤ n → (k < n → P (k + 1)) → P k) : ∀ k, 0 ≤ k → k ≤ n → P k := by
  have L : ∀ d : Nat, ∀ k : Int, 0 ≤ k → k ≤ n → n - k = d → P k := by
    intro d
    induction d with
    | zero => exact fun k h0 h1 h2 => h k h0 h1 (fun h3 => by omega)
    | succ d ih => exact fun k h0 h1 h2 => h k h0 h1 (fun h3 => ih (k + 1) (by omega) (by omega) (by omega))
  exact fun k h0 h1 => L (n - k).toNat k h0 h1 (by omega)
theorem downto {P : Int → Prop} {n : Int} (h : ∀ k, 0 ≤ k → k < n → (∀ j, 0 ≤ j → j < k → P j) → P k) : ∀ k, 0 ≤ k → k < n → P k := by
  have L : ∀ d : Nat, ∀ k : Int, 0 ≤ k → k < n → k < d → P k := by
    intro d
    induction d with
    | zero => exact fun k h0 h1 h2 => by omega
    | succ d ih => exact fun k h0 h1 h2 => h k h0 h1 (fun j j0 j1 => ih j j0 (by omega) (by omega))
  exact fun k h0 h1 => L (k + 1).toNat k h0 h1 (by omega)
/-- a sum over 0 .. n - 1 -/
def sn (f : Int → Int) : Nat → Int
  | 0 => 0
  | n + 1 => sn f n + f n
def su (f : Int → Int) (n : Int) : Int := sn f n.toNat
theorem su_0 {f : Int → Int} : su f 0 = 0 := rfl
theorem su_s {f : Int → Int} {n : Int} (h : 0 ≤ n) : su f (n + 1) = su f n + f n := by
  unfold su
  rw [show (n + 1).toNat = n.toNat + 1 by omega]
  show sn f n.toNat + f (n.toNat : Int) = _
  rw [show (n.toNat : Int) = n by omega]
theorem su_congr {f g : Int → Int} {n : Int} (h : ∀ k, 0 ≤ k → k < n → f k = g k) : su f n = su g n := by
  unfold su
  have L : ∀ d : Nat, (d : Int) ≤ n → sn f d = sn g d := by
    intro d
    induction d with
    | zero => exact fun _ => rfl
    | succ d ih =>
      intro hd
      show sn f d + f d = sn g d + g d
      rw [ih (by omega), h d (by omega) (by omega)]
  by_cases h0 : 0 ≤ n
  · exact L _ (by omega)
  · rw [show n.toNat = 0 by omega]; rfl
theorem sn_le {f g : Int → Int} (n : Nat) (h : ∀ k : Int, 0 ≤ k → k < n → f k ≤ g k) : sn f n ≤ sn g n := by
  induction n with
  | zero => exact Int.le_refl _
  | succ d ih =>
    have h1 := ih (fun k k0 k1 => h k k0 (by omega))
    have h2 := h d (by omega) (by omega)
    show sn f d + f d ≤ sn g d + g d
    omega
theorem su_le {f g : Int → Int} {n : Int} (h : ∀ k, 0 ≤ k → k < n → f k ≤ g k) : su f n ≤ su g n := sn_le _ (fun k k0 k1 => h k k0 (by omega))
theorem sn_c (c : Int) (n : Nat) : sn (fun _ => c) n = c * n := by
  induction n with
  | zero => show (0 : Int) = c * ((0 : Nat) : Int); rw [Int.natCast_zero, Int.mul_zero]
  | succ d ih =>
    show sn _ d + c = _
    rw [ih, Int.natCast_succ, Int.mul_add, Int.mul_one]
/-- how many of 0 .. n - 1 -/
def cn (P : Int → Prop) [DecidablePred P] (n : Int) : Int := su (fun k => if P k then 1 else 0) n
theorem cn_0 {P : Int → Prop} [DecidablePred P] : cn P 0 = 0 := rfl
theorem cn_y {P : Int → Prop} [DecidablePred P] {n : Int} (h : 0 ≤ n) (hp : P n) : cn P (n + 1) = cn P n + 1 := by
  unfold cn; rw [su_s h, if_pos hp]
theorem cn_n {P : Int → Prop} [DecidablePred P] {n : Int} (h : 0 ≤ n) (hp : ¬ P n) : cn P (n + 1) = cn P n := by
  unfold cn; rw [su_s h, if_neg hp, Int.add_zero]
theorem cn_b {P : Int → Prop} [DecidablePred P] {n : Int} (h : 0 ≤ n) : 0 ≤ cn P n ∧ cn P n ≤ n := by
  have h1 : su (fun _ => 0) n ≤ cn P n := su_le (fun k _ _ => by split <;> decide)
  have h2 : cn P n ≤ su (fun _ => 1) n := su_le (fun k _ _ => by split <;> decide)
  unfold su at h1 h2
  rw [sn_c] at h1 h2
  constructor <;> omega
theorem cn_congr {P Q : Int → Prop} [DecidablePred P] [DecidablePred Q] {n : Int} (h : ∀ k, 0 ≤ k → k < n → (P k ↔ Q k)) : cn P n = cn Q n :=
  su_congr (fun k k0 k1 => by simp only [h k k0 k1])
theorem cn_drop {P Q : Int → Prop} [DecidablePred P] [DecidablePred Q] {n x : Int} (h0 : 0 ≤ x) (h1 : x < n) (hx : P x) (hq : ¬ Q x) (h : ∀ k, 0 ≤ k → k < n → k ≠ x → (P k ↔ Q k)) : cn P n = cn Q n + 1 := by
  have L : ∀ d : Nat, (d : Int) ≤ n → cn P d = cn Q d + (if x < d then 1 else 0) := by
    intro d
    induction d with
    | zero => exact fun _ => by rw [if_neg (by omega)]; rfl
    | succ d ih =>
      intro hd
      have e := ih (by omega)
      rw [show ((d + 1 : Nat) : Int) = (d : Int) + 1 by omega]
      by_cases hdx : (d : Int) = x
      · rw [cn_y (by omega) (by rw [hdx]; exact hx), cn_n (P := Q) (by omega) (by rw [hdx]; exact hq), e, if_neg (by omega), if_pos (by omega)]
        omega
      · by_cases hp : P (d : Int)
        · rw [cn_y (by omega) hp, cn_y (P := Q) (by omega) ((h d (by omega) (by omega) hdx).mp hp), e]
          by_cases h3 : x < (d : Int)
          · rw [if_pos h3, if_pos (by omega)]
          · rw [if_neg h3, if_neg (by omega)]; omega
        · rw [cn_n (by omega) hp, cn_n (P := Q) (by omega) (fun q => hp ((h d (by omega) (by omega) hdx).mpr q)), e]
          by_cases h3 : x < (d : Int)
          · rw [if_pos h3, if_pos (by omega)]
          · rw [if_neg h3, if_neg (by omega)]
  have := L n.toNat (by omega)
  rw [show (n.toNat : Int) = n by omega, if_pos h1] at this
  exact this
/-- the first of 0 .. n - 1; -2: none -/
def fnn (P : Int → Prop) [DecidablePred P] : Nat → Int
  | 0 => -2
  | n + 1 => if fnn P n = -2 then (if P (n : Int) then (n : Int) else -2) else fnn P n
def fi (P : Int → Prop) [DecidablePred P] (n : Int) : Int := fnn P n.toNat
theorem fi_0 {P : Int → Prop} [DecidablePred P] : fi P 0 = -2 := rfl
theorem fi_n {P : Int → Prop} [DecidablePred P] {n : Int} (h : 0 ≤ n) (hf : fi P n = -2) (hp : ¬ P n) : fi P (n + 1) = -2 := by
  unfold fi at *
  rw [show (n + 1).toNat = n.toNat + 1 by omega]
  show (if fnn P n.toNat = -2 then _ else _) = _
  rw [if_pos hf, if_neg (by rw [show (n.toNat : Int) = n by omega]; exact hp)]
theorem fi_y {P : Int → Prop} [DecidablePred P] {n k : Int} (h : 0 ≤ k) (hf : fi P k = -2) (hp : P k) (hk : k < n) : fi P n = k := by
  unfold fi at *
  have L : ∀ d : Nat, fnn P (k.toNat + 1 + d) = k := by
    intro d
    induction d with
    | zero =>
      show (if fnn P k.toNat = -2 then _ else _) = _
      rw [if_pos hf, if_pos (by rw [show (k.toNat : Int) = k by omega]; exact hp)]
      omega
    | succ d ih =>
      show (if fnn P (k.toNat + 1 + d) = -2 then _ else fnn P (k.toNat + 1 + d)) = _
      rw [if_neg (by rw [ih]; omega), ih]
  have := L (n.toNat - k.toNat - 1)
  rw [show k.toNat + 1 + (n.toNat - k.toNat - 1) = n.toNat by omega] at this
  exact this
/-- what the first is -/
theorem fi_is {P : Int → Prop} [DecidablePred P] {n : Int} : (fi P n = -2 ∧ ∀ k, 0 ≤ k → k < n → ¬ P k) ∨ (0 ≤ fi P n ∧ fi P n < n ∧ P (fi P n) ∧ ∀ k, 0 ≤ k → k < fi P n → ¬ P k) := by
  have L : ∀ d : Nat, (fnn P d = -2 ∧ ∀ k : Int, 0 ≤ k → k < d → ¬ P k) ∨ (0 ≤ fnn P d ∧ fnn P d < d ∧ P (fnn P d) ∧ ∀ k, 0 ≤ k → k < fnn P d → ¬ P k) := by
    intro d
    induction d with
    | zero => exact Or.inl ⟨rfl, fun k h0 h1 => by omega⟩
    | succ d ih =>
      rcases ih with ⟨h1, h2⟩ | ⟨h1, h2, h3, h4⟩
      · by_cases hp : P (d : Int)
        · have e : fnn P (d + 1) = d := by show (if fnn P d = -2 then _ else _) = _; rw [if_pos h1, if_pos hp]
          rw [e]
          exact Or.inr ⟨by omega, by omega, hp, fun k k0 k1 => h2 k k0 k1⟩
        · have e : fnn P (d + 1) = -2 := by show (if fnn P d = -2 then _ else _) = _; rw [if_pos h1, if_neg hp]
          refine Or.inl ⟨e, fun k k0 k1 => ?_⟩
          by_cases hk : k = d
          · rw [hk]; exact hp
          · exact h2 k k0 (by omega)
      · have e : fnn P (d + 1) = fnn P d := by show (if fnn P d = -2 then _ else _) = _; rw [if_neg (by omega)]
        rw [e]
        exact Or.inr ⟨h1, by omega, h3, h4⟩
  unfold fi
  rcases L n.toNat with ⟨h1, h2⟩ | ⟨h1, h2, h3, h4⟩
  · exact Or.inl ⟨h1, fun k k0 k1 => h2 k k0 (by omega)⟩
  · exact Or.inr ⟨h1, by omega, h3, h4⟩
theorem fi_congr {P Q : Int → Prop} [DecidablePred P] [DecidablePred Q] {n : Int} (h : ∀ k, 0 ≤ k → k < n → (P k ↔ Q k)) : fi P n = fi Q n := by
  rcases fi_is (P := P) (n := n) with ⟨h1, h2⟩ | ⟨h1, h2, h3, h4⟩ <;> rcases fi_is (P := Q) (n := n) with ⟨g1, g2⟩ | ⟨g1, g2, g3, g4⟩
  · rw [h1, g1]
  · exact absurd ((h _ g1 g2).mpr g3) (h2 _ g1 g2)
  · exact absurd ((h _ h1 h2).mp h3) (g2 _ h1 h2)
  · by_cases e1 : fi P n < fi Q n
    · exact absurd ((h _ h1 h2).mp h3) (g4 _ h1 e1)
    · by_cases e2 : fi Q n < fi P n
      · exact absurd ((h _ g1 g2).mpr g3) (h4 _ g1 e2)
      · omega
/-- the book, as both keep it -/
def PB : Type := (Nat → Int) × (Nat → Int → Int) × (Int → Int → Int)
def PB.nf (b : PB) : Int := b.1 0
def PB.nt (b : PB) : Int := b.1 1
def PB.ns (b : PB) : Int := b.1 2
def PB.nd (b : PB) : Int := b.1 3
def PB.tk (b : PB) : Int → Int := b.2.1 0
def PB.fn (b : PB) : Int → Int := b.2.1 1
def PB.sa (b : PB) : Int → Int := b.2.1 2
def PB.sb (b : PB) : Int → Int := b.2.1 3
def PB.da (b : PB) : Int → Int := b.2.1 4
def PB.db (b : PB) : Int → Int := b.2.1 5
def PB.pt (b : PB) : Int → Int → Int := b.2.2
def bk (f : Nat → Int) (r : Nat → Int → Int) (p : Int → Int → Int) : PB := (f, r, p)
abbrev PB.ok (b : PB) : Prop := (0 ≤ b.nf ∧ b.nf ≤ 8) ∧ (∀ f, 0 ≤ f → f < b.nf → 0 ≤ b.tk f ∧ b.tk f ≤ 3) ∧ (0 ≤ b.nt ∧ b.nt ≤ 24) ∧ (∀ t, 0 ≤ t → t < b.nt → 0 ≤ b.fn t ∧ b.fn t < b.nf) ∧ (∀ t, 0 ≤ t → t < b.nt → ∀ k, 0 ≤ k → k < b.tk (b.fn t) → 0 ≤ b.pt t k ∧ b.pt t k < t) ∧ (0 ≤ b.ns ∧ b.ns ≤ 12) ∧ (∀ k, 0 ≤ k → k < b.ns → 0 ≤ b.sa k ∧ b.sa k < b.nt) ∧ (∀ k, 0 ≤ k → k < b.ns → 0 ≤ b.sb k ∧ b.sb k < b.nt) ∧ (0 ≤ b.nd ∧ b.nd ≤ 8) ∧ (∀ k, 0 ≤ k → k < b.nd → 0 ≤ b.da k ∧ b.da k < b.nt) ∧ (∀ k, 0 ≤ k → k < b.nd → 0 ≤ b.db k ∧ b.db k < b.nt)
theorem PB.ok.nf {b : PB} (h : b.ok) : 0 ≤ b.nf ∧ b.nf ≤ 8 := h.1
theorem PB.ok.tk {b : PB} (h : b.ok) : ∀ f, 0 ≤ f → f < b.nf → 0 ≤ b.tk f ∧ b.tk f ≤ 3 := h.2.1
theorem PB.ok.nt {b : PB} (h : b.ok) : 0 ≤ b.nt ∧ b.nt ≤ 24 := h.2.2.1
theorem PB.ok.fn {b : PB} (h : b.ok) : ∀ t, 0 ≤ t → t < b.nt → 0 ≤ b.fn t ∧ b.fn t < b.nf := h.2.2.2.1
theorem PB.ok.pt {b : PB} (h : b.ok) : ∀ t, 0 ≤ t → t < b.nt → ∀ k, 0 ≤ k → k < b.tk (b.fn t) → 0 ≤ b.pt t k ∧ b.pt t k < t := h.2.2.2.2.1
theorem PB.ok.ns {b : PB} (h : b.ok) : 0 ≤ b.ns ∧ b.ns ≤ 12 := h.2.2.2.2.2.1
theorem PB.ok.sa {b : PB} (h : b.ok) : ∀ k, 0 ≤ k → k < b.ns → 0 ≤ b.sa k ∧ b.sa k < b.nt := h.2.2.2.2.2.2.1
theorem PB.ok.sb {b : PB} (h : b.ok) : ∀ k, 0 ≤ k → k < b.ns → 0 ≤ b.sb k ∧ b.sb k < b.nt := h.2.2.2.2.2.2.2.1
theorem PB.ok.nd {b : PB} (h : b.ok) : 0 ≤ b.nd ∧ b.nd ≤ 8 := h.2.2.2.2.2.2.2.2.1
theorem PB.ok.da {b : PB} (h : b.ok) : ∀ k, 0 ≤ k → k < b.nd → 0 ≤ b.da k ∧ b.da k < b.nt := h.2.2.2.2.2.2.2.2.2.1
theorem PB.ok.db {b : PB} (h : b.ok) : ∀ k, 0 ≤ k → k < b.nd → 0 ≤ b.db k ∧ b.db k < b.nt := h.2.2.2.2.2.2.2.2.2.2
/-- two terms are alike by a relation -/
def alQ (b : PB) (Q : Int → Int → Prop) (t u : Int) : Prop := b.fn t = b.fn u ∧ ∀ k, 0 ≤ k → k < b.tk (b.fn t) → Q (b.pt t k) (b.pt u k)
/-- by a row -/
def alk (b : PB) (r : Int → Int) (t u : Int) : Prop := alQ b (fun x y => r x = r y) t u
/-- a relation holds pairs, and is closed -/
abbrev cg (b : PB) (n : Int) (E Q : Int → Int → Prop) : Prop := (∀ t, Q t t) ∧ (∀ t u, Q t u → Q u t) ∧ (∀ t u v, Q t u → Q u v → Q t v) ∧ (∀ t u, E t u → Q t u) ∧ (∀ t u, 0 ≤ t → t < n → 0 ≤ u → u < n → alQ b Q t u → Q t u)
theorem cg.refl {b : PB} {n : Int} {E Q : Int → Int → Prop} (h : cg b n E Q) : ∀ t, Q t t := h.1
theorem cg.symm {b : PB} {n : Int} {E Q : Int → Int → Prop} (h : cg b n E Q) : ∀ t u, Q t u → Q u t := h.2.1
theorem cg.trans {b : PB} {n : Int} {E Q : Int → Int → Prop} (h : cg b n E Q) : ∀ t u v, Q t u → Q u v → Q t v := h.2.2.1
theorem cg.has {b : PB} {n : Int} {E Q : Int → Int → Prop} (h : cg b n E Q) : ∀ t u, E t u → Q t u := h.2.2.2.1
theorem cg.cong {b : PB} {n : Int} {E Q : Int → Int → Prop} (h : cg b n E Q) : ∀ t u, 0 ≤ t → t < n → 0 ≤ u → u < n → alQ b Q t u → Q t u := h.2.2.2.2
/-- a row of least ones -/
def lr (n : Int) (r : Int → Int) : Prop := ∀ t, 0 ≤ t → t < n → 0 ≤ r t ∧ r t ≤ t ∧ r (r t) = r t
def sound (b : PB) (n : Int) (E : Int → Int → Prop) (r : Int → Int) : Prop := ∀ Q, cg b n E Q → ∀ t u, 0 ≤ t → t < n → 0 ≤ u → u < n → r t = r u → Q t u
def closedR (b : PB) (n : Int) (r : Int → Int) : Prop := ∀ t u, 0 ≤ t → t < n → 0 ≤ u → u < n → alk b r t u → r t = r u
abbrev good (b : PB) (n : Int) (E : Int → Int → Prop) (r : Int → Int) : Prop := lr n r ∧ sound b n E r ∧ (∀ t u, E t u → r t = r u) ∧ closedR b n r
theorem good.lr {b : PB} {n : Int} {E : Int → Int → Prop} {r : Int → Int} (h : good b n E r) : lr n r := h.1
theorem good.sound {b : PB} {n : Int} {E : Int → Int → Prop} {r : Int → Int} (h : good b n E r) : sound b n E r := h.2.1
theorem good.has {b : PB} {n : Int} {E : Int → Int → Prop} {r : Int → Int} (h : good b n E r) : ∀ t u, E t u → r t = r u := h.2.2.1
theorem good.closed {b : PB} {n : Int} {E : Int → Int → Prop} {r : Int → Int} (h : good b n E r) : closedR b n r := h.2.2.2
theorem good_cg {b : PB} {n : Int} {E : Int → Int → Prop} {r : Int → Int} (h : good b n E r) : cg b n E (fun t u => r t = r u) :=
  ⟨fun _ => rfl, fun _ _ e => e.symm, fun _ _ _ e f => e.trans f, h.has, h.closed⟩
theorem good_le {b : PB} {n : Int} {E : Int → Int → Prop} {r r' : Int → Int} (h : good b n E r) (h' : good b n E r') {t : Int} (h0 : 0 ≤ t) (h1 : t < n) : r' t ≤ r t := by
  obtain ⟨l0, l1, l2⟩ := h.lr t h0 h1
  have e := h.sound _ (good_cg h') (r t) t l0 (by omega) h0 h1 l2
  have := (h'.lr (r t) l0 (by omega)).2.1
  show r' t ≤ r t
  have e' : r' (r t) = r' t := e
  omega
/-- there is one closing only -/
theorem good_eq {b : PB} {n : Int} {E : Int → Int → Prop} {r r' : Int → Int} (h : good b n E r) (h' : good b n E r') {t : Int} (h0 : 0 ≤ t) (h1 : t < n) : r t = r' t :=
  Int.le_antisymm (good_le h' h h0 h1) (good_le h h' h0 h1)
/-- two groups become one -/
def un (n : Int) (r : Int → Int) (t u : Int) : Int → Int := fun k => if (0 ≤ k ∧ k < n) ∧ r k = max (r t) (r u) then min (r t) (r u) else r k
theorem un_in {n : Int} {r : Int → Int} {t u k : Int} (h0 : 0 ≤ k) (h1 : k < n) : un n r t u k = if r k = r t ∨ r k = r u then min (r t) (r u) else r k := by
  unfold un
  by_cases e : r k = max (r t) (r u)
  · rw [if_pos ⟨⟨h0, h1⟩, e⟩, if_pos (by omega)]
  · rw [if_neg (fun q => e q.2)]
    by_cases e2 : r k = r t ∨ r k = r u
    · rw [if_pos e2]; omega
    · rw [if_neg e2]
theorem un_iff {n : Int} {r : Int → Int} {t u x y : Int} (x0 : 0 ≤ x) (x1 : x < n) (y0 : 0 ≤ y) (y1 : y < n) : un n r t u x = un n r t u y ↔ (r x = r y ∨ (r x = r t ∧ r y = r u) ∨ (r x = r u ∧ r y = r t)) := by
  rw [un_in x0 x1, un_in y0 y1]
  by_cases h1 : r x = r t ∨ r x = r u <;> by_cases h2 : r y = r t ∨ r y = r u
  · rw [if_pos h1, if_pos h2]; omega
  · rw [if_pos h1, if_neg h2]; omega
  · rw [if_neg h1, if_pos h2]; omega
  · rw [if_neg h1, if_neg h2]; omega
theorem un_lr {n : Int} {r : Int → Int} {t u : Int} (h : lr n r) (t0 : 0 ≤ t) (t1 : t < n) (u0 : 0 ≤ u) (u1 : u < n) : lr n (un n r t u) := by
  intro x x0 x1
  have ht := h t t0 t1
  have hu := h u u0 u1
  have hx := h x x0 x1
  rw [un_in x0 x1]
  by_cases e : r x = r t ∨ r x = r u
  · rw [if_pos e]
    refine ⟨by omega, by omega, ?_⟩
    rw [un_in (by omega) (by omega)]
    have : r (min (r t) (r u)) = r t ∨ r (min (r t) (r u)) = r u := by
      by_cases q : r t ≤ r u
      · rw [show min (r t) (r u) = r t by omega]; exact Or.inl ht.2.2
      · rw [show min (r t) (r u) = r u by omega]; exact Or.inr hu.2.2
    rw [if_pos this]
  · rw [if_neg e]
    refine ⟨by omega, by omega, ?_⟩
    rw [un_in (by omega) (by omega), hx.2.2, if_neg e]
theorem un_sound {b : PB} {n : Int} {E : Int → Int → Prop} {r : Int → Int} {t u : Int} (h : sound b n E r) (t0 : 0 ≤ t) (t1 : t < n) (u0 : 0 ≤ u) (u1 : u < n) (hq : ∀ Q, cg b n E Q → Q t u) : sound b n E (un n r t u) := by
  intro Q hQ x y x0 x1 y0 y1 e
  rcases (un_iff x0 x1 y0 y1).mp e with e | ⟨e, f⟩ | ⟨e, f⟩
  · exact h Q hQ x y x0 x1 y0 y1 e
  · exact hQ.trans _ _ _ (h Q hQ x t x0 x1 t0 t1 e) (hQ.trans _ _ _ (hq Q hQ) (hQ.symm _ _ (h Q hQ y u y0 y1 u0 u1 f)))
  · exact hQ.trans _ _ _ (h Q hQ x u x0 x1 u0 u1 e) (hQ.trans _ _ _ (hQ.symm _ _ (hq Q hQ)) (hQ.symm _ _ (h Q hQ y t y0 y1 t0 t1 f)))
theorem al_sound {b : PB} {n : Int} {E : Int → Int → Prop} {r : Int → Int} {t u : Int} (hb : b.ok) (hn : n ≤ b.nt) (h : sound b n E r) (t0 : 0 ≤ t) (t1 : t < n) (u0 : 0 ≤ u) (u1 : u < n) (ha : alk b r t u) : ∀ Q, cg b n E Q → Q t u := by
  intro Q hQ
  refine hQ.cong t u t0 t1 u0 u1 ⟨ha.1, fun k k0 k1 => ?_⟩
  have h1 := hb.pt t t0 (by omega) k k0 k1
  have h2 := hb.pt u u0 (by omega) k k0 (by rw [← ha.1]; exact k1)
  exact h Q hQ _ _ h1.1 (by omega) h2.1 (by omega) (ha.2 k k0 k1)
theorem un_keeps {n : Int} {r : Int → Int} {t u x y : Int} (x0 : 0 ≤ x) (x1 : x < n) (y0 : 0 ≤ y) (y1 : y < n) (h : r x = r y) : un n r t u x = un n r t u y := (un_iff x0 x1 y0 y1).mpr (Or.inl h)
theorem un_joins {n : Int} {r : Int → Int} {t u : Int} (t0 : 0 ≤ t) (t1 : t < n) (u0 : 0 ≤ u) (u1 : u < n) : un n r t u t = un n r t u u := (un_iff t0 t1 u0 u1).mpr (Or.inr (Or.inl ⟨rfl, rfl⟩))
def gr (n : Int) (r : Int → Int) : Int := cn (fun t => r t = t) n
theorem gr_y {n : Int} {r : Int → Int} (h : 0 ≤ n) (e : r n = n) : gr (n + 1) r = gr n r + 1 := cn_y (P := fun t => r t = t) h e
theorem gr_n {n : Int} {r : Int → Int} (h : 0 ≤ n) (e : ¬ r n = n) : gr (n + 1) r = gr n r := cn_n (P := fun t => r t = t) h e
theorem un_gr {n : Int} {r : Int → Int} {t u : Int} (h : lr n r) (t0 : 0 ≤ t) (t1 : t < n) (u0 : 0 ≤ u) (u1 : u < n) (hne : r t ≠ r u) : gr n r = gr n (un n r t u) + 1 := by
  have ht := h t t0 t1
  have hu := h u u0 u1
  unfold gr
  refine cn_drop (x := max (r t) (r u)) (by omega) (by omega) ?_ ?_ ?_
  · show r (max (r t) (r u)) = _
    by_cases q : r t ≤ r u
    · rw [show max (r t) (r u) = r u by omega]; exact hu.2.2
    · rw [show max (r t) (r u) = r t by omega]; exact ht.2.2
  · show ¬ un n r t u (max (r t) (r u)) = _
    rw [un_in (by omega) (by omega)]
    by_cases q : r t ≤ r u
    · rw [show max (r t) (r u) = r u by omega, hu.2.2, if_pos (Or.inr rfl)]; omega
    · rw [show max (r t) (r u) = r t by omega, ht.2.2, if_pos (Or.inl rfl)]; omega
  · intro k k0 k1 hk
    show r k = k ↔ un n r t u k = k
    rw [un_in k0 k1]
    by_cases e : r k = r t ∨ r k = r u
    · rw [if_pos e]
      constructor
      · intro hk2; omega
      · intro hk2
        by_cases q : r t ≤ r u
        · rw [show min (r t) (r u) = r t by omega] at hk2; rw [← hk2]; exact ht.2.2
        · rw [show min (r t) (r u) = r u by omega] at hk2; rw [← hk2]; exact hu.2.2
    · rw [if_neg e]
theorem gr_pos {n : Int} {r : Int → Int} (h : lr n r) (h0 : 0 < n) : 0 < gr n r := by
  have e : r 0 = 0 := by have := h 0 (by omega) h0; omega
  have L : ∀ d : Nat, 0 < gr (d + 1 : Int) r := by
    intro d
    induction d with
    | zero =>
      have := cn_b (P := fun t => r t = t) (n := ((0 : Nat) : Int)) (by omega)
      unfold gr
      rw [cn_y (by omega) (by exact e)]
      omega
    | succ d ih =>
      have := cn_b (P := fun t => r t = t) (n := ((d : Int) + 1)) (by omega)
      unfold gr at *
      rw [show ((d + 1 : Nat) : Int) + 1 = ((d : Int) + 1) + 1 by omega]
      by_cases q : r ((d : Int) + 1) = (d : Int) + 1
      · rw [cn_y (P := fun t => r t = t) (by omega) q]; omega
      · rw [cn_n (P := fun t => r t = t) (by omega) q]; exact ih
  have := L (n.toNat - 1)
  rw [show ((n.toNat - 1 : Nat) : Int) + 1 = n by omega] at this
  exact this
