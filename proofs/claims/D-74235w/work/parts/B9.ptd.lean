/-! THE PURE PART, 56: term -/
set_option maxRecDepth 100000
/-- one more than the most of some -/
def mxl (f : Int → Int) : Nat → Int
  | 0 => 0
  | k + 1 => jmax (mxl f k) (1 + f k)
theorem mxl_b {f : Int → Int} {B : Int} (k : Nat) (hB : 0 ≤ B) (h : ∀ i : Int, 0 ≤ i → i < k → 0 ≤ f i ∧ f i ≤ B) : 0 ≤ mxl f k ∧ mxl f k ≤ B + 1 := by
  induction k with
  | zero => exact ⟨Int.le_refl _, by show (0 : Int) ≤ B + 1; omega⟩
  | succ k ih =>
    have h1 := ih (fun i i0 i1 => h i i0 (by omega))
    have h2 := h (k : Int) (by omega) (by omega)
    show 0 ≤ jmax (mxl f k) (1 + f k) ∧ jmax (mxl f k) (1 + f k) ≤ B + 1
    unfold jmax
    split <;> omega
theorem mxl_congr {f g : Int → Int} (k : Nat) (h : ∀ i : Int, 0 ≤ i → i < k → f i = g i) : mxl f k = mxl g k := by
  induction k with
  | zero => rfl
  | succ k ih =>
    show jmax (mxl f k) (1 + f k) = jmax (mxl g k) (1 + g k)
    rw [ih (fun i i0 i1 => h i i0 (by omega)), h (k : Int) (by omega) (by omega)]
/-- how deep terms are built -/
def dpA (b : PB) : Nat → Int → Int
  | 0 => fun _ => 0
  | n + 1 => iup (dpA b n) (n : Int) (mxl (fun k => dpA b n (b.pt n k)) (b.tk (b.fn n)).toNat)
theorem dpA_b {b : PB} : ∀ (n : Nat) (t : Int), 0 ≤ dpA b n t ∧ dpA b n t ≤ n := by
  intro n
  induction n with
  | zero => exact fun t => ⟨Int.le_refl _, Int.le_refl _⟩
  | succ n ih =>
    intro t
    show 0 ≤ iup (dpA b n) (n : Int) _ t ∧ iup (dpA b n) (n : Int) _ t ≤ _
    by_cases e : t = n
    · rw [e, iup_at]
      have := mxl_b (f := fun k => dpA b n (b.pt n k)) (B := n) (b.tk (b.fn n)).toNat (by omega) (fun i _ _ => ih _)
      omega
    · rw [iup_ne e]
      have := ih t; omega
theorem dpA_s {b : PB} {n : Nat} {t : Int} (h : t ≠ n) : dpA b (n + 1) t = dpA b n t := iup_ne h
theorem x_depth {b : PB} {n : Nat} {s : XS} {K : Int → Prop} (hb : b.ok) (hr : RXb b s) (hn : (n : Int) < b.nt) (ha : ∀ t, 0 ≤ t → t < (n : Int) → s.1.2 13 t = dpA b n t) (hK : K (mxl (fun k => dpA b n (b.pt n k)) (b.tk (b.fn n)).toNat)) : C_X1_depth (n : Int) s K := by
  have h24 := hb.nt
  obtain ⟨⟨x1, x2, x3, x4⟩, ⟨y1, y2, y3, y4⟩, ⟨c1, c2, c3, c4⟩, -, ht, -⟩ := hr
  obtain ⟨t1, t2, t3⟩ := ht (n : Int) (by omega) hn
  have f1 := hb.fn (n : Int) (by omega) hn
  have f2 := hb.tk _ f1.1 f1.2
  intro X hX
  refine ⟨⟨⟨by omega, by omega⟩, c2⟩, ⟨by omega, by omega⟩, ⟨by omega, by omega⟩, ⟨⟨by omega, by omega⟩, by omega, by omega⟩, ?_⟩
  rw [t2]
  have L : ∀ k, 0 ≤ k → k ≤ b.tk (b.fn n) → X (mxl (fun k => dpA b n (b.pt n k)) k.toNat) n (b.tk (b.fn n)) k := by
    refine upto (fun k k0 k1 ih => hX _ _ _ _ ⟨fun e => ?_, fun e => ?_⟩)
    · have : k = b.tk (b.fn n) := by omega
      rw [this]; exact hK
    · have e3 := t3 k k0 (by omega)
      have hp := hb.pt (n : Int) (by omega) hn k k0 (by omega)
      rw [e3, t2, ha _ hp.1 hp.2]
      have hd := dpA_b (b := b) n (b.pt n k)
      refine ⟨⟨⟨by omega, by omega⟩, k0, by omega⟩, ⟨hp.1, by omega⟩, inI_s (by omega), inI_s (by omega), ?_⟩
      have := ih (by omega)
      rw [show (k + 1).toNat = k.toNat + 1 by omega] at this
      have e : mxl (fun k => dpA b n (b.pt n k)) (k.toNat + 1) = jmax (mxl (fun k => dpA b n (b.pt n k)) k.toNat) (1 + dpA b n (b.pt n k)) := by
        show jmax _ (1 + dpA b n (b.pt n (k.toNat : Int))) = _
        rw [show ((k.toNat : Nat) : Int) = k by omega]
      rw [e] at this
      exact this
  exact L 0 (Int.le_refl _) f2.1
theorem x_deep {b : PB} {t : Int} {s : XS} {K : Int → XS → Prop} (hb : b.ok) (hr : RXb b s) (t0 : 0 ≤ t) (t1 : t < b.nt) (hK : ∀ g, K (dpA b (t.toNat + 1) t) (maR s.1 13 g, s.2)) : C_X1_deep t s K := by
  have h24 := hb.nt
  intro X hX
  have L : ∀ k, 0 ≤ k → k ≤ t + 1 → ∀ g : Int → Int, (∀ i, 0 ≤ i → i < k → g i = dpA b k.toNat i) → X t k (maR s.1 13 g, s.2) := by
    refine upto (fun k k0 k1 ih g hg => hX _ _ _ ⟨fun e => ?_, fun e => ?_⟩)
    · have : k = t + 1 := by omega
      refine ⟨⟨t0, by omega⟩, ?_⟩
      have e2 : (maR s.1 13 g).2 13 t = dpA b (t.toNat + 1) t := by
        rw [maR_at, hg t t0 (by omega), show k.toNat = t.toNat + 1 by omega]
      show K ((maR s.1 13 g).2 13 t) _
      rw [e2]; exact hK g
    · have hr' : RXb b (maR s.1 13 g, s.2) := hr.of (fun _ _ => rfl) (fun k hk => if_neg (by omega))
      have hd := x_depth (n := k.toNat) (s := (maR s.1 13 g, s.2)) (K := fun r3 => (((0 ≤ k ∧ k < 24)) ∧ ∀ s7 : XS, s7 = xa (maR s.1 13 g, s.2) 13 k r3 → (inI (k + 1) ∧ X t (k + 1) s7))) hb hr' (by omega) (fun i i0 i1 => by
        show (maR s.1 13 g).2 13 i = _
        rw [maR_at]; exact hg i i0 (by omega)) ⟨⟨k0, by omega⟩, by
          rintro _ rfl
          refine ⟨inI_s (by omega), ?_⟩
          show X t (k + 1) (ma (maR s.1 13 g) 13 k _, s.2)
          rw [ma_maR]
          refine ih (by omega) _ (fun i i0 i1 => ?_)
          rw [show (k + 1).toNat = k.toNat + 1 by omega]
          show iup g k _ i = iup (dpA b k.toNat) ((k.toNat : Nat) : Int) _ i
          rw [show ((k.toNat : Nat) : Int) = k by omega]
          by_cases ei : i = k
          · rw [ei, iup_at, iup_at]
          · rw [iup_ne ei, iup_ne ei]
            exact hg i i0 (by omega)⟩
      rw [show ((k.toNat : Nat) : Int) = k by omega] at hd
      exact hd
  have e : s = (maR s.1 13 (s.1.2 13), s.2) := by rw [maR_id]
  show X t 0 s
  rw [e]
  exact L 0 (Int.le_refl _) (by omega) _ (fun i i0 i1 => by omega)
theorem c_deepOf {t : Int} {m : MS} {K : Int → MS → Prop} (hb : (bkM m).ok) (t0 : 0 ≤ t) (t1 : t < (bkM m).nt) (hK : ∀ g, K (dpA (bkM m) (t.toNat + 1) t) (maR m 45 g)) : C_deepOf t m K := by
  have h24 := hb.nt
  intro X2 X16 h2 h16
  have L16 : ∀ (x : Int) (g : Int → Int), 0 ≤ x → x ≤ t → (∀ i, 0 ≤ i → i < x → g i = dpA (bkM m) x.toNat i) → X2 t (x + 1) (maR m 45 (iup g x (mxl (fun k => dpA (bkM m) x.toNat ((bkM m).pt x k)) ((bkM m).tk ((bkM m).fn x)).toNat))) → ∀ k, 0 ≤ k → k ≤ (bkM m).tk ((bkM m).fn x) → X16 t x k (maR m 45 (iup g x (mxl (fun k => dpA (bkM m) x.toNat ((bkM m).pt x k)) k.toNat))) := by
    intro x g x0 x1 hg hx
    have f1 := hb.fn x x0 (by omega)
    have f2 := hb.tk _ f1.1 f1.2
    refine upto (fun k k0 k1 ih => h16 _ _ _ _ (c_takesOf (s := maR m 45 _) hb x0 (show x < (bkM m).nt by omega) ⟨fun e => ?_, fun e => ?_⟩))
    · have : k = (bkM m).tk ((bkM m).fn x) := by
        have e : (bkM m).tk ((bkM m).fn x) ≤ k := e
        omega
      rw [this]
      exact ⟨inI_s (by omega), hx⟩
    · have e : ¬ (bkM m).tk ((bkM m).fn x) ≤ k := e
      have hp := hb.pt x x0 (by omega) k k0 (by omega)
      have hp : 0 ≤ m.2 29 (3 * x + k) ∧ m.2 29 (3 * x + k) < x := hp
      have hd := dpA_b (b := bkM m) x.toNat (m.2 29 (3 * x + k))
      have e1 : (maR m 45 (iup g x (mxl (fun k => dpA (bkM m) x.toNat ((bkM m).pt x k)) k.toNat))).2 45 (m.2 29 (3 * x + k)) = dpA (bkM m) x.toNat (m.2 29 (3 * x + k)) := by
        rw [maR_at, iup_ne (by omega)]; exact hg _ hp.1 hp.2
      have e2 : (maR m 45 (iup g x (mxl (fun k => dpA (bkM m) x.toNat ((bkM m).pt x k)) k.toNat))).2 45 x = mxl (fun k => dpA (bkM m) x.toNat ((bkM m).pt x k)) k.toNat := by rw [maR_at, iup_at]
      have hi := ih (by omega)
      rw [show (k + 1).toNat = k.toNat + 1 by omega] at hi
      have e3 : mxl (fun k => dpA (bkM m) x.toNat ((bkM m).pt x k)) (k.toNat + 1) = jmax (mxl (fun k => dpA (bkM m) x.toNat ((bkM m).pt x k)) k.toNat) (1 + dpA (bkM m) x.toNat (m.2 29 (3 * x + k))) := by
        show jmax _ (1 + dpA (bkM m) x.toNat (m.2 29 (3 * x + ((k.toNat : Nat) : Int)))) = _
        rw [show ((k.toNat : Nat) : Int) = k by omega]
      rw [e3] at hi
      refine ⟨inI_s (by omega), inI_s (by omega), ⟨by omega, by omega⟩, ⟨hp.1, show m.2 29 (3 * x + k) < 24 by omega⟩, ?_⟩
      show inI ((maR m 45 _).2 45 (m.2 29 (3 * x + k)) + 1) ∧ _ ∧ ((maR m 45 _).2 45 (m.2 29 (3 * x + k)) + 1 ≤ (maR m 45 _).2 45 x → _ ∧ _ ∧ ∀ s15 : MS, s15 = ma (maR m 45 _) 45 x ((maR m 45 _).2 45 x) → _) ∧ (¬ (maR m 45 _).2 45 (m.2 29 (3 * x + k)) + 1 ≤ (maR m 45 _).2 45 x → _ ∧ ∀ s19 : MS, s19 = ma (maR m 45 _) 45 x ((maR m 45 _).2 45 (m.2 29 (3 * x + k)) + 1) → _)
      rw [e1, e2]
      refine ⟨inI_s (by omega), ⟨x0, by omega⟩, fun q => ⟨⟨x0, by omega⟩, ⟨x0, by omega⟩, ?_⟩, fun q => ⟨⟨x0, by omega⟩, ?_⟩⟩
      · rintro _ rfl
        rw [ma_maR, iup_iup]
        refine ⟨inI_s (by omega), ?_⟩
        unfold jmax at hi
        rw [if_neg (by omega)] at hi
        exact hi
      · rintro _ rfl
        rw [ma_maR, iup_iup]
        refine ⟨inI_s (by omega), ?_⟩
        unfold jmax at hi
        rw [if_pos (by omega), Int.add_comm 1 (dpA (bkM m) x.toNat (m.2 29 (3 * x + k)))] at hi
        exact hi
  have L : ∀ k, 0 ≤ k → k ≤ t + 1 → ∀ g : Int → Int, (∀ i, 0 ≤ i → i < k → g i = dpA (bkM m) k.toNat i) → X2 t k (maR m 45 g) := by
    refine upto (fun k k0 k1 ih g hg => h2 _ _ _ ⟨fun e => ?_, fun e => ⟨⟨k0, by omega⟩, ?_⟩⟩)
    · refine ⟨⟨t0, by omega⟩, ?_⟩
      have e2 : (maR m 45 g).2 45 t = dpA (bkM m) (t.toNat + 1) t := by
        rw [maR_at, hg t t0 (by omega), show k.toNat = t.toNat + 1 by omega]
      rw [e2]; exact hK g
    · rintro _ rfl
      rw [ma_maR]
      have f1 := hb.fn k k0 (by omega)
      have f2 := hb.tk _ f1.1 f1.2
      exact L16 k g k0 (by omega) hg (ih (by omega) _ (fun i i0 i1 => by
        rw [show (k + 1).toNat = k.toNat + 1 by omega]
        show iup g k _ i = iup (dpA (bkM m) k.toNat) ((k.toNat : Nat) : Int) _ i
        rw [show ((k.toNat : Nat) : Int) = k by omega]
        by_cases ei : i = k
        · rw [ei, iup_at, iup_at]
        · rw [iup_ne ei, iup_ne ei]
          exact hg i i0 (by omega))) 0 (Int.le_refl _) f2.1
  show X2 t 0 m
  have := L 0 (Int.le_refl _) (by omega) (m.2 45) (fun i i0 i1 => by omega)
  rw [maR_id] at this
  exact this
/-- a term is used by some of a group -/
abbrev usR (b : PB) (R : Int → Int) (g t : Int) : Prop := fi (fun k => R (b.pt t k) = g) (b.tk (b.fn t)) ≠ -2
theorem x_uses {b : PB} {t g : Int} {s : XS} {K : Int → Prop} (hb : b.ok) (hr : RXb b s) (t0 : 0 ≤ t) (t1 : t < b.nt) (h1 : usR b ((s.2 4).2 0) g t → K 1) (h0 : ¬ usR b ((s.2 4).2 0) g t → K 0) : C_X1_uses t g s K := by
  have h24 := hb.nt
  obtain ⟨⟨x1, x2, x3, x4⟩, ⟨y1, y2, y3, y4⟩, ⟨c1, c2, c3, c4⟩, -, ht, -⟩ := hr
  obtain ⟨e1, e2, e3⟩ := ht t t0 t1
  have f1 := hb.fn t t0 t1
  have f2 := hb.tk _ f1.1 f1.2
  intro X hX
  refine ⟨⟨⟨t0, by omega⟩, c2⟩, ⟨t0, by omega⟩, ⟨t0, by omega⟩, ⟨⟨t0, by omega⟩, by omega, by omega⟩, ?_⟩
  rw [e2]
  have L : ∀ k, 0 ≤ k → k ≤ b.tk (b.fn t) → fi (fun k => (s.2 4).2 0 (b.pt t k) = g) k = -2 → X g t (b.tk (b.fn t)) k := by
    refine upto (fun k k0 k1 ih hk => hX _ _ _ _ ⟨fun e => h0 (fun q => q ?_), fun e => ?_⟩)
    · rw [show b.tk (b.fn t) = k by omega]; exact hk
    · have hp := hb.pt t t0 t1 k k0 (by omega)
      rw [e3 k k0 (by omega), e2]
      refine ⟨⟨⟨t0, by omega⟩, k0, by omega⟩, ⟨hp.1, by omega⟩, fun q => h1 ?_, fun q => ⟨inI_s (by omega), ih (by omega) (fi_n k0 hk q)⟩⟩
      have := fi_y (P := fun k => (s.2 4).2 0 (b.pt t k) = g) k0 hk q (show k < b.tk (b.fn t) by omega)
      show fi _ _ ≠ -2
      omega
  exact L 0 (Int.le_refl _) f2.1 rfl
theorem c_usersOf {t : Int} {m : MS} {K : Int → MS → Prop} (hb : (bkM m).ok) (t0 : 0 ≤ t) (t1 : t < m.1 27) (hK : K (cn (fun u => usR (bkM m) (m.2 36) (m.2 36 t) u) (m.1 27)) m) : C_usersOf t m K := by
  have h24 : 0 ≤ m.1 27 ∧ m.1 27 ≤ 24 := hb.nt
  intro X4 X18 h4 h18
  have L18 : ∀ u c, 0 ≤ u → u < m.1 27 → 0 ≤ c → c ≤ 24 → (usR (bkM m) (m.2 36) (m.2 36 t) u → X4 t (c + 1) (u + 1) m) → (¬ usR (bkM m) (m.2 36) (m.2 36 t) u → X4 t c (u + 1) m) → X18 t c u 0 0 m := by
    intro u c u0 u1 c0 c1 hy hn
    have f1 := hb.fn u u0 u1
    have f2 := hb.tk _ f1.1 f1.2
    have L : ∀ k, 0 ≤ k → k ≤ (bkM m).tk ((bkM m).fn u) → (fi (fun k => m.2 36 ((bkM m).pt u k) = m.2 36 t) k = -2 → X18 t c u 0 k m) ∧ (fi (fun k => m.2 36 ((bkM m).pt u k) = m.2 36 t) k ≠ -2 → X18 t c u 1 k m) := by
      refine upto (fun k k0 k1 ih => ⟨fun hk => h18 _ _ _ _ _ _ (c_takesOf hb u0 u1 ⟨fun e => ⟨fun _ => ⟨inI_s (by omega), inI_s (by omega), ?_⟩, fun q => absurd rfl q⟩, fun e => ⟨fun _ => ?_, fun q => absurd rfl q⟩⟩), fun hk => h18 _ _ _ _ _ _ (c_takesOf hb u0 u1 ⟨fun e => ⟨fun q => absurd q (by decide), fun _ => ⟨inI_s (by omega), inI_s (by omega), hy ?_⟩⟩, fun e => ⟨fun q => absurd q (by decide), fun _ => ⟨inI_s (by omega), (ih (by omega)).2 ((fi_or k0).mpr (Or.inl hk))⟩⟩⟩)⟩)
      · rw [Int.add_zero]
        refine hn (fun q => q ?_)
        rw [show (bkM m).tk ((bkM m).fn u) = k by omega]; exact hk
      · have hp := hb.pt u u0 u1 k k0 (by omega)
        have hp : 0 ≤ m.2 29 (3 * u + k) ∧ m.2 29 (3 * u + k) < u := hp
        refine ⟨inI_s (by omega), inI_s (by omega), ⟨by omega, by omega⟩, ⟨hp.1, by omega⟩, ⟨t0, by omega⟩, fun q => ⟨inI_s (by omega), (ih (by omega)).2 ((fi_or k0).mpr (Or.inr q))⟩, fun q => ⟨inI_s (by omega), (ih (by omega)).1 (fi_n k0 hk q)⟩⟩
      · show fi _ _ ≠ -2
        rw [show (bkM m).tk ((bkM m).fn u) = k by omega]; exact hk
    exact (L 0 (Int.le_refl _) f2.1).1 rfl
  have L : ∀ k, 0 ≤ k → k ≤ m.1 27 → X4 t (cn (fun u => usR (bkM m) (m.2 36) (m.2 36 t) u) k) k m := by
    refine upto (fun k k0 k1 ih => h4 _ _ _ _ ⟨fun e => ?_, fun e => ?_⟩)
    · rw [show k = m.1 27 by omega]; exact hK
    · have b1 := cn_b (P := fun u => usR (bkM m) (m.2 36) (m.2 36 t) u) k0
      refine L18 k _ k0 (by omega) b1.1 (by omega) (fun h => ?_) (fun h => ?_)
      · have := ih (by omega)
        rw [cn_y k0 h] at this; exact this
      · have := ih (by omega)
        rw [cn_n k0 h] at this; exact this
  exact L 0 (Int.le_refl _) h24.1
theorem c_groupMany {t : Int} {m : MS} {K : Int → MS → Prop} (h24 : 0 ≤ m.1 27 ∧ m.1 27 ≤ 24) (t0 : 0 ≤ t) (t1 : t < m.1 27) (hK : K (cn (fun u => m.2 36 u = m.2 36 t) (m.1 27)) m) : C_groupMany t m K := by
  intro X4 h4
  have L : ∀ k, 0 ≤ k → k ≤ m.1 27 → X4 t (cn (fun u => m.2 36 u = m.2 36 t) k) k m := by
    refine upto (fun k k0 k1 ih => h4 _ _ _ _ ⟨fun e => ?_, fun e => ?_⟩)
    · rw [show k = m.1 27 by omega]; exact hK
    · have b1 := cn_b (P := fun u => m.2 36 u = m.2 36 t) k0
      refine ⟨⟨k0, by omega⟩, ⟨t0, by omega⟩, fun q => ⟨inI_s (by omega), inI_s (by omega), ?_⟩, fun q => ⟨inI_s (by omega), inI_s (by omega), ?_⟩⟩
      · have := ih (by omega)
        rw [cn_y k0 q] at this; exact this
      · have := ih (by omega)
        rw [cn_n k0 q] at this
        rw [Int.add_zero]; exact this
  exact L 0 (Int.le_refl _) h24.1
theorem p_term {a : Int → Int} {s : XS} {m : MS} {z : ZS} {KN : XS → MS → Prop} (hJ : JZ s m z) (hK : keepsJ s m KN) : C_law_6 a s m KN := by
  obtain ⟨hu, -⟩ := hJ.hung
  obtain ⟨hb, hr⟩ := hJ.b
  have hr0 := hr
  have h24 : 0 ≤ m.1 27 ∧ m.1 27 ≤ 24 := hb.nt
  have hnt : (bkM m).nt = m.1 27 := rfl
  obtain ⟨n1, n2, n3, n4⟩ := hJ.n
  obtain ⟨⟨x1, x2, x3, x4⟩, ⟨y1, y2, y3, y4⟩, ⟨c1, c2, c3, c4⟩, -, ht, -⟩ := hr
  have ex : s.1.1 31 = m.1 27 := x2
  have hR : ∀ t, 0 ≤ t → t < m.1 27 → (s.2 4).2 0 t = m.2 36 t := fun t t0 t1 => (n2 t t0 t1).1
  have no : ∀ (K : Int → MS → Prop), ¬ ((0 ≤ a 1 ∧ a 1 < m.1 27) ∧ 0 ≤ a 2 ∧ a 2 ≤ 5) → K (-1) (mref m 1) → C_term (a 1) (a 2) m K := by
    intro K h hk
    exact c_isTerm h24 (fun q => ⟨fun q2 => absurd q2 (by decide), fun _ => c_in (fun q2 => absurd ⟨q, q2⟩ h) (fun q2 => ⟨fun _ => r_no hk, fun q3 => absurd rfl q3⟩)⟩) (fun q => ⟨fun _ => r_no hk, fun q3 => absurd rfl q3⟩)
  have yes : ∀ (K : Int → MS → Prop), (0 ≤ a 1 ∧ a 1 < m.1 27) → (0 ≤ a 2 ∧ a 2 ≤ 5) → ((a 2 = 0 → ((0 ≤ a 1 ∧ a 1 < 24) ∧ K (m.2 28 (a 1)) (mref m 0))) ∧ (¬ a 2 = 0 → ((a 2 = 1 → ((0 ≤ a 1 ∧ a 1 < 24) ∧ K (m.2 36 (a 1)) (mref m 0))) ∧ (¬ a 2 = 1 → ((a 2 = 2 → (C_groupMany (a 1) (mref m 0) (fun r23 s20 => K r23 s20))) ∧ (¬ a 2 = 2 → ((a 2 = 3 → (C_usersOf (a 1) (mref m 0) (fun r28 s25 => K r28 s25))) ∧ (¬ a 2 = 3 → ((a 2 = 4 → (C_deepOf (a 1) (mref m 0) (fun r33 s30 => K r33 s30))) ∧ (¬ a 2 = 4 → ((0 ≤ a 1 ∧ a 1 < 24) ∧ K (m.2 37 (a 1)) (mref m 0)))))))))))) → C_term (a 1) (a 2) m K := by
    intro K h1 h2 hk
    exact c_isTerm h24 (fun _ => ⟨fun q => absurd q (by decide), fun _ => c_in (fun _ => ⟨fun q => absurd q (by decide), fun _ => r_yes hk⟩) (fun q => absurd h2 q)⟩) (fun q => absurd h1 q)
  intro X101 X146 h101 h146
  refine x_isTerm1 (by omega) (fun h => ⟨fun q => absurd q (by decide), fun _ => ?_⟩) (fun h => ⟨fun _ => x_refused (no _ (fun q => h ⟨q.1.1, by omega⟩) (p_no hK (by decide))), fun q => absurd rfl q⟩)
  rw [ex] at h
  have y2 : m.1 27 ≤ s.1.1 41 := y2
  refine ⟨fun e => ?_, fun e0 => ⟨fun e => ?_, fun e1 => ⟨fun e => ?_, fun e2 => ⟨fun e => ?_, fun e3 => ⟨fun e => ?_, fun e4 => ⟨fun e => ?_, fun e5 => ?_⟩⟩⟩⟩⟩⟩
  · exact ⟨⟨⟨h.1, by omega⟩, c2⟩, ⟨h.1, by omega⟩, ⟨h.1, by omega⟩, x_fine (yes _ h (by omega) ⟨fun _ => ⟨⟨h.1, by omega⟩, p_ok hK (ht (a 1) h.1 h.2).1⟩, fun q => absurd e q⟩)⟩
  · exact ⟨⟨h.1, by omega⟩, x_fine (yes _ h (by omega) ⟨fun q => absurd q e0, fun _ => ⟨fun _ => ⟨⟨h.1, by omega⟩, p_ok hK (hR (a 1) h.1 h.2)⟩, fun q => absurd e q⟩⟩)⟩
  · have L : ∀ k, 0 ≤ k → k ≤ m.1 27 → X101 (a 1) (cn (fun u => m.2 36 u = m.2 36 (a 1)) k) k s := by
      refine upto (fun k k0 k1 ih => h101 _ _ _ _ (x_terms ?_))
      have b1 := cn_b (P := fun u => m.2 36 u = m.2 36 (a 1)) k0
      rw [ex]
      refine ⟨fun q => x_fine (yes _ h (by omega) ⟨fun q => absurd q e0, fun _ => ⟨fun q => absurd q e1, fun _ => ⟨fun _ => c_groupMany (m := mref m 0) h24 h.1 h.2 (p_ok hK (by rw [show k = m.1 27 by omega]; rfl)), fun q => absurd e q⟩⟩⟩), fun q => x_areOne ⟨k0, by omega⟩ ⟨h.1, by omega⟩ (fun q2 => ⟨fun q3 => absurd q3 (by decide), fun _ => ⟨inI_s (by omega), inI_s (by omega), ?_⟩⟩) (fun q2 => ⟨fun _ => ⟨inI_s (by omega), inI_s (by omega), ?_⟩, fun q3 => absurd rfl q3⟩)⟩
      · rw [hR k k0 (by omega), hR (a 1) h.1 h.2] at q2
        have := ih (by omega)
        rw [cn_y k0 q2] at this; exact this
      · rw [hR k k0 (by omega), hR (a 1) h.1 h.2] at q2
        have := ih (by omega)
        rw [cn_n k0 q2] at this
        rw [Int.add_zero]; exact this
    exact L 0 (Int.le_refl _) h24.1
  · have eu : ∀ u, 0 ≤ u → u < m.1 27 → (usR (bkM m) ((s.2 4).2 0) ((s.2 4).2 0 (a 1)) u ↔ usR (bkM m) (m.2 36) (m.2 36 (a 1)) u) := fun u u0 u1 => by
      have : fi (fun k => (s.2 4).2 0 ((bkM m).pt u k) = (s.2 4).2 0 (a 1)) ((bkM m).tk ((bkM m).fn u)) = fi (fun k => m.2 36 ((bkM m).pt u k) = m.2 36 (a 1)) ((bkM m).tk ((bkM m).fn u)) := fi_congr (fun k k0 k1 => by
        have hp := hb.pt u u0 u1 k k0 k1
        rw [hR _ hp.1 (by omega), hR (a 1) h.1 h.2])
      show fi _ _ ≠ -2 ↔ fi _ _ ≠ -2
      rw [this]
    have L : ∀ k, 0 ≤ k → k ≤ m.1 27 → X146 (a 1) (cn (fun u => usR (bkM m) (m.2 36) (m.2 36 (a 1)) u) k) k s := by
      refine upto (fun k k0 k1 ih => h146 _ _ _ _ (x_terms ?_))
      have b1 := cn_b (P := fun u => usR (bkM m) (m.2 36) (m.2 36 (a 1)) u) k0
      rw [ex]
      refine ⟨fun q => x_fine (yes _ h (by omega) ⟨fun q => absurd q e0, fun _ => ⟨fun q => absurd q e1, fun _ => ⟨fun q => absurd q e2, fun _ => ⟨fun _ => c_usersOf (m := mref m 0) hb h.1 h.2 (p_ok hK (by rw [show k = m.1 27 by omega]; rfl)), fun q => absurd e q⟩⟩⟩⟩), fun q => ⟨⟨h.1, by omega⟩, x_uses hb hr0 k0 (by omega) (fun q2 => ⟨fun q3 => absurd q3 (by decide), fun _ => ⟨inI_s (by omega), inI_s (by omega), ?_⟩⟩) (fun q2 => ⟨fun _ => ⟨inI_s (by omega), inI_s (by omega), ?_⟩, fun q3 => absurd rfl q3⟩)⟩⟩
      · have := ih (by omega)
        rw [cn_y k0 ((eu k k0 (by omega)).mp q2)] at this; exact this
      · have := ih (by omega)
        rw [cn_n k0 (fun q3 => q2 ((eu k k0 (by omega)).mpr q3))] at this
        rw [Int.add_zero]; exact this
    exact L 0 (Int.le_refl _) h24.1
  · refine x_deep hb hr0 h.1 h.2 (fun g => x_fine (yes _ h (by omega) ⟨fun q => absurd q e0, fun _ => ⟨fun q => absurd q e1, fun _ => ⟨fun q => absurd q e2, fun _ => ⟨fun q => absurd q e3, fun _ => ⟨fun _ => c_deepOf (m := mref m 0) hb h.1 h.2 (fun g' => ⟨rfl, hK _ _ (eqX.tr (s1 := (maR s.1 13 g, s.2)) ⟨fun _ _ _ => rfl, fun k q _ _ _ _ => if_neg q, rfl, fun _ _ => rfl, fun _ _ _ => rfl⟩ eqX_o) (eqM.tr eqM_ref ⟨fun _ _ => rfl, fun k q _ _ => if_neg (fun e => q (by unfold mscA; omega)), fun _ _ _ => ⟨rfl, rfl⟩⟩) ⟨rfl, rfl⟩⟩), fun q => absurd e q⟩⟩⟩⟩⟩))
  · have hux := hu (a 1) h.1 h.2
    refine ⟨⟨h.1, by omega⟩, fun q => x_fine ?_, fun q => ⟨⟨h.1, by omega⟩, x_fine ?_⟩⟩
    · rw [hux.1] at q
      have e2' : m.2 37 (a 1) = -2 := by
        by_cases e : m.2 37 (a 1) = -2
        · exact e
        · unfold cv at q
          rw [if_neg e] at q
          have := hux.2 e; omega
      exact yes _ h (by omega) ⟨fun q => absurd q e0, fun _ => ⟨fun q => absurd q e1, fun _ => ⟨fun q => absurd q e2, fun _ => ⟨fun q => absurd q e3, fun _ => ⟨fun q => absurd q e4, fun _ => ⟨⟨h.1, by omega⟩, p_ok hK e2'.symm⟩⟩⟩⟩⟩⟩
    · have e2' : m.2 37 (a 1) ≠ -2 := fun e => q (by rw [hux.1, e]; rfl)
      have e3' : (s.2 4).2 5 (a 1) = m.2 37 (a 1) := by rw [hux.1]; unfold cv; rw [if_neg e2']
      exact yes _ h (by omega) ⟨fun q => absurd q e0, fun _ => ⟨fun q => absurd q e1, fun _ => ⟨fun q => absurd q e2, fun _ => ⟨fun q => absurd q e3, fun _ => ⟨fun q => absurd q e4, fun _ => ⟨⟨h.1, by omega⟩, p_ok hK e3'⟩⟩⟩⟩⟩⟩
  · exact x_refused (no _ (fun q => by omega) (p_no hK (by decide)))
