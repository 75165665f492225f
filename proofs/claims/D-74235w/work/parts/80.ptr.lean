/-! THE PURE PART, 21: the system's trail: puts, going back -/
set_option maxRecDepth 100000
/-- the row of a number on the trail -/
def cod (w : Int) : Nat := if w = 0 then 0 else if w = 1 then 5 else 6
/-- rows some entries ago -/
def rbR (T : Int → Int) : Nat → Int → (Nat → Int → Int) → (Nat → Int → Int)
  | 0, _, R => R
  | k + 1, tr, R => rbR T k (tr - 3) (fun j => if j = cod (T (tr - 3)) then iup (R j) (T (tr - 3 + 1)) (T (tr - 3 + 2)) else R j)
abbrev isR (j : Nat) : Prop := j = 0 ∨ j = 5 ∨ j = 6
theorem cod_R {w : Int} : isR (cod w) := by
  unfold cod
  by_cases a : w = 0
  · rw [if_pos a]; exact Or.inl rfl
  · rw [if_neg a]
    by_cases b : w = 1
    · rw [if_pos b]; exact Or.inr (Or.inl rfl)
    · rw [if_neg b]; exact Or.inr (Or.inr rfl)
theorem rbR_congr {T T' : Int → Int} : ∀ (k : Nat) (tr : Int) (R R' : Nat → Int → Int), (∀ i, 0 ≤ i → i < tr → T i = T' i) → 3 * (k : Int) ≤ tr → (∀ j, isR j → R j = R' j) → ∀ j, isR j → rbR T k tr R j = rbR T' k tr R' j := by
  intro k
  induction k with
  | zero => exact fun _ _ _ _ _ h => h
  | succ k ih =>
    intro tr R R' hT hk hR j hj
    refine ih (tr - 3) _ _ (fun i i0 i1 => hT i i0 (by omega)) (by omega) (fun j hj => ?_) j hj
    show (if j = cod (T (tr - 3)) then iup (R j) (T (tr - 3 + 1)) (T (tr - 3 + 2)) else R j) = (if j = cod (T' (tr - 3)) then iup (R' j) (T' (tr - 3 + 1)) (T' (tr - 3 + 2)) else R' j)
    rw [hT (tr - 3) (by omega) (by omega), hT (tr - 3 + 1) (by omega) (by omega), hT (tr - 3 + 2) (by omega) (by omega), hR j hj]
theorem rbR_add {T : Int → Int} {k : Nat} : ∀ (p : Nat) (tr : Int) (R : Nat → Int → Int), rbR T (p + k) tr R = rbR T k (tr - 3 * p) (rbR T p tr R) := by
  intro p
  induction p with
  | zero =>
    intro tr R
    rw [Nat.zero_add]
    show rbR T k tr R = rbR T k (tr - 3 * ((0 : Nat) : Int)) R
    rw [show tr - 3 * ((0 : Nat) : Int) = tr by omega]
  | succ p ih =>
    intro tr R
    rw [show p + 1 + k = (p + k) + 1 by omega]
    show rbR T (p + k) (tr - 3) _ = rbR T k (tr - 3 * ((p + 1 : Nat) : Int)) (rbR T p (tr - 3) _)
    rw [ih, show tr - 3 - 3 * (p : Int) = tr - 3 * ((p + 1 : Nat) : Int) by omega]
abbrev trl (s : XS) : Int := (s.2 4).1 3
abbrev trT (s : XS) : Int → Int := (s.2 4).2 (100 + xq s)
/-- the trail is good -/
def Tr (s : XS) : Prop := xq s ≤ 5 ∧ (∃ n : Nat, trl s = 3 * n) ∧ trl s ≤ xtl (xq s) ∧ ∀ k : Nat, 3 * (k : Int) < trl s → 0 ≤ trT s (3 * k + 1) ∧ trT s (3 * k + 1) < 24
/-- what rides behind some puts -/
def Pt (s s' : XS) : Prop :=
  (s'.1 = s.1 ∧ ∀ j, j ≠ 4 → s'.2 j = s.2 j) ∧ (∀ k, k ≠ 1 → k ≠ 3 → k ≠ 10 → k ≠ 20 → (s'.2 4).1 k = (s.2 4).1 k) ∧
  (∀ k, k < 100 → ¬ isR k → k ≠ 7 → k ≠ 8 → k ≠ 9 → (s'.2 4).2 k = (s.2 4).2 k) ∧
  (0 ≤ trl s ∧ ∃ p : Nat, trl s' = trl s + 3 * p ∧ ∀ j, isR j → rbR (trT s') p (trl s') (s'.2 4).2 j = (s.2 4).2 j) ∧
  (∀ i, 0 ≤ i → i < trl s → trT s' i = trT s i) ∧ xq s ≤ xq s' ∧ Tr s'
theorem Pt.rf {s : XS} (h : Tr s) : Pt s s := ⟨⟨rfl, fun _ _ => rfl⟩, fun _ _ _ _ _ => rfl, fun _ _ _ _ _ _ => rfl, ⟨by obtain ⟨-, ⟨n, e⟩, -⟩ := h; omega, 0, by omega, fun _ _ => rfl⟩, fun _ _ _ => rfl, Nat.le_refl _, h⟩
theorem Pt.tr {s s1 s2 : XS} (h : Pt s s1) (g : Pt s1 s2) : Pt s s2 := by
  obtain ⟨⟨a1, a2⟩, a3, a4, ⟨a0, p, a5, a6⟩, a7, a8, a9⟩ := h
  obtain ⟨⟨b1, b2⟩, b3, b4, ⟨b0, q, b5, b6⟩, b7, b8, b9⟩ := g
  refine ⟨⟨b1.trans a1, fun j h => (b2 j h).trans (a2 j h)⟩, fun k h1 h2 h3 h4 => (b3 k h1 h2 h3 h4).trans (a3 k h1 h2 h3 h4), fun k h1 h2 h3 h4 h5 => (b4 k h1 h2 h3 h4 h5).trans (a4 k h1 h2 h3 h4 h5), ⟨a0, q + p, by omega, fun j hj => ?_⟩, fun i i0 i1 => (b7 i i0 (by omega)).trans (a7 i i0 i1), by omega, b9⟩
  rw [rbR_add, show trl s2 - 3 * (q : Int) = trl s1 by omega, ← a6 j hj]
  exact rbR_congr p (trl s1) _ _ b7 (by omega) b6 j hj
theorem Pt.tr_le {s s' : XS} (h : Pt s s') : trl s ≤ trl s' := by
  obtain ⟨-, -, -, ⟨-, p, a5, -⟩, -⟩ := h
  omega
theorem xtl_is {q : Nat} (h : q ≤ 6) : xtl q = 300 ∧ q = 0 ∨ xtl q = 600 ∧ q = 1 ∨ xtl q = 1200 ∧ q = 2 ∨ xtl q = 2400 ∧ q = 3 ∨ xtl q = 4800 ∧ q = 4 ∨ xtl q = 9600 ∧ q = 5 ∨ xtl q = 19200 ∧ q = 6 := by
  have : q = 0 ∨ q = 1 ∨ q = 2 ∨ q = 3 ∨ q = 4 ∨ q = 5 ∨ q = 6 := by omega
  rcases this with rfl | rfl | rfl | rfl | rfl | rfl | rfl <;> decide
theorem xtl_mono {q q' : Nat} (h : q ≤ q') : xtl q ≤ xtl q' := Nat.mul_le_mul_left _ (Nat.pow_le_pow_right (by decide) h)
theorem xtl_s {q : Nat} : xtl (q + 1) = 2 * xtl q := by unfold xtl; rw [Nat.pow_succ]; omega
/-- a walk from one state to another with its cost -/
def Rn (C : Nat → Nat → (XS → Prop) → Prop) (s s' : XS) : Prop := xq s ≤ xq s' ∧ ∀ kc ks K, xq s' - xq s ≤ kc → xtl (xq s' + 1) - xtl (xq s + 1) ≤ ks → K s' → C kc ks K
theorem rn_use {C : Nat → Nat → (XS → Prop) → Prop} {s s1 : XS} {q2 : Nat} {R : Nat → Nat → XS → Prop} {kc ks : Nat} (h : Rn C s s1) (h2 : xq s1 ≤ q2) (hc : q2 - xq s ≤ kc) (hs : xtl (q2 + 1) - xtl (xq s + 1) ≤ ks) (hR : ∀ kc' ks', q2 - xq s1 ≤ kc' → xtl (q2 + 1) - xtl (xq s1 + 1) ≤ ks' → R kc' ks' s1) : ∃ mc ms, mc ≤ kc ∧ ms ≤ ks ∧ C mc ms (fun s' => R (kc - mc) (ks - ms) s') := by
  have h1 := h.1
  have m1 := xtl_mono (show xq s + 1 ≤ xq s1 + 1 by omega)
  have m2 := xtl_mono (show xq s1 + 1 ≤ q2 + 1 by omega)
  exact ⟨xq s1 - xq s, xtl (xq s1 + 1) - xtl (xq s + 1), by omega, by omega, h.2 _ _ _ (Nat.le_refl _) (Nat.le_refl _) (hR _ _ (by omega) (by omega))⟩
/-- one put -/
def PutX (s s' : XS) (a : Nat) (c e : Int) : Prop := (∀ k, k ≠ 3 → k ≠ 20 → (s'.2 4).1 k = (s.2 4).1 k) ∧ trl s' = trl s + 3 ∧ ∀ j, j < 100 → (s'.2 4).2 j = if j = a then iup ((s.2 4).2 a) c e else (s.2 4).2 j
/-- the sheet behind a put -/
def putR (r : MS) (q : Nat) (a : Nat) (b c e : Int) : MS := ma (ms (ma (ma (ma r (100 + q) (r.1 3) b) (100 + q) (r.1 3 + 1) c) (100 + q) (r.1 3 + 2) (r.2 a c)) 3 (r.1 3 + 3)) a c e
def onX (s : XS) (r : MS) : XS := (s.1, fun i => if i = 4 then r else s.2 i)
theorem ma_o {r : MS} {k j : Nat} {x v : Int} (h : j ≠ k) : (ma r k x v).2 j = r.2 j := if_neg h
theorem ma_a {r : MS} {k : Nat} {x v : Int} : (ma r k x v).2 k = iup (r.2 k) x v := if_pos rfl
theorem putR_j {r : MS} {q a : Nat} {b c e : Int} {j : Nat} (ha : a < 100) (hj : j < 100) : (putR r q a b c e).2 j = if j = a then iup (r.2 a) c e else r.2 j := by
  unfold putR
  have e0 : ∀ i : Nat, i < 100 → (ms (ma (ma (ma r (100 + q) (r.1 3) b) (100 + q) (r.1 3 + 1) c) (100 + q) (r.1 3 + 2) (r.2 a c)) 3 (r.1 3 + 3)).2 i = r.2 i := fun i hi => by
    show (ma (ma (ma r (100 + q) (r.1 3) b) (100 + q) (r.1 3 + 1) c) (100 + q) (r.1 3 + 2) (r.2 a c)).2 i = _
    rw [ma_o (by omega), ma_o (by omega), ma_o (by omega)]
  by_cases h : j = a
  · rw [h, ma_a, if_pos rfl, e0 a ha]
  · rw [ma_o h, if_neg h, e0 j hj]
theorem putR_T {r : MS} {q a : Nat} {b c e : Int} (ha : a < 100) : (putR r q a b c e).2 (100 + q) = iup (iup (iup (r.2 (100 + q)) (r.1 3) b) (r.1 3 + 1) c) (r.1 3 + 2) (r.2 a c) := by
  unfold putR
  rw [ma_o (by omega)]
  show (ma (ma (ma r (100 + q) (r.1 3) b) (100 + q) (r.1 3 + 1) c) (100 + q) (r.1 3 + 2) (r.2 a c)).2 (100 + q) = _
  rw [ma_a, ma_a, ma_a]
theorem putR_1 {r : MS} {q a : Nat} {b c e : Int} {k : Nat} : (putR r q a b c e).1 k = if k = 3 then r.1 3 + 3 else r.1 k := rfl
/-- what a put does, whether the trail grows or not: by a sheet with the same rows and the trail that is used -/
theorem put_Pt {s : XS} {r : MS} {q a : Nat} {c e : Int} {b : Int} (hT : Tr s) (ha : isR a) (hb : cod b = a) (hc : 0 ≤ c ∧ c < 24) (h1 : ∀ k, k ≠ 20 → r.1 k = (s.2 4).1 k) (hq : r.1 20 = (q : Int)) (hq5 : xq s ≤ q ∧ q ≤ 5) (hroom : trl s + 3 ≤ xtl q) (h2 : ∀ j, j < 100 → r.2 j = (s.2 4).2 j) (h3 : ∀ i, 0 ≤ i → i < trl s → r.2 (100 + q) i = trT s i) :
    Pt s (onX s (putR r q a b c e)) ∧ PutX s (onX s (putR r q a b c e)) a c e ∧ xq (onX s (putR r q a b c e)) = q := by
  obtain ⟨t1, ⟨n, t2⟩, t3, t4⟩ := hT
  have ha100 : a < 100 := by rcases ha with rfl | rfl | rfl <;> decide
  have e3 : r.1 3 = trl s := h1 3 (by decide)
  have exq : xq (onX s (putR r q a b c e)) = q := by
    show ((putR r q a b c e).1 20).toNat = q
    rw [putR_1, if_neg (by decide), hq]; omega
  have eT : trT (onX s (putR r q a b c e)) = iup (iup (iup (r.2 (100 + q)) (trl s) b) (trl s + 1) c) (trl s + 2) ((s.2 4).2 a c) := by
    show (putR r q a b c e).2 (100 + xq (onX s (putR r q a b c e))) = _
    rw [exq, putR_T ha100, e3, h2 a ha100]
  have etr : trl (onX s (putR r q a b c e)) = trl s + 3 := by
    show (putR r q a b c e).1 3 = _
    rw [putR_1, if_pos rfl, e3]
  have below : ∀ i, 0 ≤ i → i < trl s → trT (onX s (putR r q a b c e)) i = trT s i := fun i i0 i1 => by
    rw [eT, iup_ne (by omega), iup_ne (by omega), iup_ne (by omega)]
    exact h3 i i0 i1
  have rows : ∀ j, j < 100 → ((onX s (putR r q a b c e)).2 4).2 j = if j = a then iup ((s.2 4).2 a) c e else (s.2 4).2 j := fun j hj => by
    show (putR r q a b c e).2 j = _
    rw [putR_j ha100 hj, h2 a ha100, h2 j hj]
  refine ⟨⟨⟨rfl, fun j hj => if_neg hj⟩, fun k k1 k2 k3 k4 => ?_, fun k k1 k2 k3 k4 k5 => ?_, ⟨by omega, 1, by omega, fun j hj => ?_⟩, below, by omega, ?_⟩, ⟨fun k k1 k2 => ?_, etr, rows⟩, exq⟩
  · show (putR r q a b c e).1 k = _
    rw [putR_1, if_neg k2]; exact h1 k k4
  · rw [rows k k1, if_neg (fun q => k2 (by rw [q]; exact ha))]
  · have hj100 : j < 100 := by rcases hj with rfl | rfl | rfl <;> decide
    rw [etr]
    show (if j = cod (trT (onX s (putR r q a b c e)) (trl s + 3 - 3)) then iup (((onX s (putR r q a b c e)).2 4).2 j) (trT (onX s (putR r q a b c e)) (trl s + 3 - 3 + 1)) (trT (onX s (putR r q a b c e)) (trl s + 3 - 3 + 2)) else ((onX s (putR r q a b c e)).2 4).2 j) = _
    rw [show trl s + 3 - 3 = trl s by omega, rows j hj100, eT, iup_ne (show trl s ≠ trl s + 2 by omega), iup_ne (show trl s ≠ trl s + 1 by omega), iup_at, iup_ne (show trl s + 1 ≠ trl s + 2 by omega), iup_at, iup_at, hb]
    by_cases h : j = a
    · rw [if_pos h, if_pos h, iup_iup, h]
      funext i
      show (if i = c then _ else _) = _
      by_cases hi : i = c
      · rw [if_pos hi, hi]
      · rw [if_neg hi]
    · rw [if_neg h, if_neg h]
  · refine ⟨by omega, ⟨n + 1, by omega⟩, ?_, fun k hk => ?_⟩
    · rw [etr, exq]; exact hroom
    · rw [etr] at hk
      by_cases hk2 : 3 * (k : Int) < trl s
      · rw [below _ (by omega) (by omega)]; exact t4 k hk2
      · rw [eT, show 3 * (k : Int) + 1 = trl s + 1 by omega, iup_ne (by omega), iup_at]; exact hc
  · show (putR r q a b c e).1 k = _
    rw [putR_1, if_neg k1]; exact h1 k k2
theorem ya_onX {s : XS} {r : MS} {k : Nat} {x v : Int} : ya (onX s r) 4 k x v = onX s (ma r k x v) := by
  refine Prod.ext rfl (funext fun i => ?_)
  show (if i = 4 then ma (if 4 = 4 then r else s.2 4) k x v else if i = 4 then r else s.2 i) = if i = 4 then ma r k x v else s.2 i
  by_cases e : i = 4
  · rw [if_pos e, if_pos e, if_pos rfl]
  · rw [if_neg e, if_neg e, if_neg e]
theorem ys_onX {s : XS} {r : MS} {k : Nat} {v : Int} : ys (onX s r) 4 k v = onX s (ms r k v) := by
  refine Prod.ext rfl (funext fun i => ?_)
  show (if i = 4 then ms (if 4 = 4 then r else s.2 4) k v else if i = 4 then r else s.2 i) = if i = 4 then ms r k v else s.2 i
  by_cases e : i = 4
  · rw [if_pos e, if_pos e, if_pos rfl]
  · rw [if_neg e, if_neg e, if_neg e]
theorem onX_id {s : XS} : onX s (s.2 4) = s := by
  refine Prod.ext rfl (funext fun i => ?_)
  show (if i = 4 then s.2 4 else s.2 i) = s.2 i
  by_cases e : i = 4
  · rw [if_pos e, e]
  · rw [if_neg e]
theorem onX_4 {s : XS} {r : MS} : (onX s r).2 4 = r := rfl
theorem put_onX {s : XS} {r : MS} {k a : Nat} {x1 x2 x3 x4 b c e v : Int} : ya (ys (ya (ya (ya (onX s r) 4 k x1 b) 4 k x2 c) 4 k x3 v) 4 3 x4) 4 a c e = onX s (ma (ms (ma (ma (ma r k x1 b) k x2 c) k x3 v) 3 x4) a c e) := by
  rw [ya_onX, ya_onX, ya_onX, ys_onX, ya_onX]
theorem rn_puts {s : XS} {a : Nat} {b c e : Int} (hT : Tr s) (ha : isR a) (hb : cod b = a) (hc : 0 ≤ c ∧ c < 24) (hroom : trl s + 3 ≤ 9600) : ∃ s', Rn (fun kc ks K => C_X3_puts_N kc ks a b c e s K) s s' ∧ Pt s s' ∧ PutX s s' a c e := by
  have hT' := hT
  obtain ⟨t1, ⟨n, t2⟩, t3, t4⟩ := hT
  have hx := xtl_is (show xq s ≤ 6 by omega)
  have hac : (a = 0 ∨ a = 5 ∨ a = 6) ∧ 0 ≤ c ∧ c < 24 := ⟨ha, hc⟩
  have ha100 : a < 100 := by rcases ha with rfl | rfl | rfl <;> decide
  by_cases hg : trl s + 3 ≤ xtl (xq s)
  · obtain ⟨p1, p2, p3⟩ := put_Pt (r := ((fun k => if k = 20 then (xq s : Int) else (s.2 4).1 k), (s.2 4).2)) (q := xq s) (a := a) (c := c) (e := e) (b := b) hT' ha hb hc (fun k hk => if_neg hk) rfl ⟨Nat.le_refl _, t1⟩ hg (fun j _ => rfl) (fun i _ _ => rfl)
    -- the sheet itself, its number of growths as it is
    have q1 : Pt s (onX s (putR (s.2 4) (xq s) a b c e)) ∧ PutX s (onX s (putR (s.2 4) (xq s) a b c e)) a c e ∧ xq (onX s (putR (s.2 4) (xq s) a b c e)) = xq s := by
      have hx4 : xq (onX s (putR (s.2 4) (xq s) a b c e)) = xq s := rfl
      obtain ⟨⟨u1, u2⟩, u3, u4, ⟨u0, p, u5, u6⟩, u7, u8, u9⟩ := p1
      obtain ⟨v1, v2, v3⟩ := p2
      have eT : trT (onX s (putR (s.2 4) (xq s) a b c e)) = trT (onX s (putR ((fun k => if k = 20 then (xq s : Int) else (s.2 4).1 k), (s.2 4).2) (xq s) a b c e)) := by
        show (putR (s.2 4) (xq s) a b c e).2 (100 + xq s) = (putR ((fun k => if k = 20 then (xq s : Int) else (s.2 4).1 k), (s.2 4).2) (xq s) a b c e).2 (100 + xq (onX s (putR ((fun k => if k = 20 then (xq s : Int) else (s.2 4).1 k), (s.2 4).2) (xq s) a b c e)))
        rw [p3]; rfl
      refine ⟨⟨⟨u1, fun j hj => if_neg hj⟩, fun k k1 k2 k3 k4 => ?_, u4, ⟨u0, p, u5, fun j hj => ?_⟩, fun i i0 i1 => by rw [eT]; exact u7 i i0 i1, Nat.le_refl _, ?_⟩, ⟨fun k k1 k2 => ?_, v2, v3⟩, rfl⟩
      · show (putR (s.2 4) (xq s) a b c e).1 k = _
        rw [putR_1, if_neg k2]
      · rw [eT]; exact u6 j hj
      · obtain ⟨w1, w2, w3, w4⟩ := u9
        refine ⟨t1, w2, by rw [hx4]; rw [p3] at w3; exact w3, fun k hk => ?_⟩
        rw [eT]; exact w4 k hk
      · show (putR (s.2 4) (xq s) a b c e).1 k = _
        rw [putR_1, if_neg k1]
    refine ⟨_, ⟨Nat.le_of_eq q1.2.2.symm, fun kc ks K _ _ hK => ?_⟩, q1.1, q1.2.1⟩
    unfold C_X3_puts_N B_X3_puts_N_E
    refine ⟨by omega, fun q => by omega, fun _ => ⟨inI_s (show -1000000 ≤ trl s + 3 ∧ trl s + 3 ≤ 1000000 by omega), by omega, fun _ => ⟨⟨show 0 ≤ trl s by omega, show trl s < (xtl (xq s) : Int) by omega⟩, ?_⟩, fun q => absurd hg q⟩⟩
    rintro _ rfl
    refine ⟨inI_s (show -1000000 ≤ trl s + 1 ∧ trl s + 1 ≤ 1000000 by omega), ⟨show 0 ≤ trl s + 1 by omega, show trl s + 1 < (xtl (xq s) : Int) by omega⟩, ?_⟩
    rintro _ rfl
    refine ⟨inI_s (show -1000000 ≤ trl s + 2 ∧ trl s + 2 ≤ 1000000 by omega), hac, ⟨show 0 ≤ trl s + 2 by omega, show trl s + 2 < (xtl (xq s) : Int) by omega⟩, ?_⟩
    rintro _ rfl
    refine ⟨inI_s (show -1000000 ≤ trl s + 3 ∧ trl s + 3 ≤ 1000000 by omega), ?_⟩
    rintro _ rfl
    refine ⟨hac, ?_⟩
    rintro _ rfl
    have e1 : (ma (ma (s.2 4) (100 + xq s) ((s.2 4).1 3) b) (100 + xq s) ((s.2 4).1 3 + 1) c).2 a = (s.2 4).2 a := by rw [ma_o (by omega), ma_o (by omega)]
    have e2 : ya (ys (ya (ya (ya s 4 (100 + xq s) ((s.2 4).1 3) b) 4 (100 + xq s) ((s.2 4).1 3 + 1) c) 4 (100 + xq s) ((s.2 4).1 3 + 2) ((ma (ma (s.2 4) (100 + xq s) ((s.2 4).1 3) b) (100 + xq s) ((s.2 4).1 3 + 1) c).2 a c)) 4 3 ((s.2 4).1 3 + 3)) 4 a c e = onX s (putR (s.2 4) (xq s) a b c e) := by
      rw [e1]
      have h0 := put_onX (s := s) (r := s.2 4) (k := 100 + xq s) (a := a) (x1 := (s.2 4).1 3) (x2 := (s.2 4).1 3 + 1) (x3 := (s.2 4).1 3 + 2) (x4 := (s.2 4).1 3 + 3) (b := b) (c := c) (e := e) (v := (s.2 4).2 a c)
      rw [onX_id] at h0
      exact h0
    show K (ya (ys (ya (ya (ya s 4 (100 + xq s) ((s.2 4).1 3) b) 4 (100 + xq s) ((s.2 4).1 3 + 1) c) 4 (100 + xq s) ((s.2 4).1 3 + 2) ((ma (ma (s.2 4) (100 + xq s) ((s.2 4).1 3) b) (100 + xq s) ((s.2 4).1 3 + 1) c).2 a c)) 4 3 ((s.2 4).1 3 + 3)) 4 a c e)
    rw [e2]
    exact hK
  · have hq4 : xq s ≤ 4 := by omega
    have hxs := xtl_s (q := xq s)
    obtain ⟨p1, p2, p3⟩ := put_Pt (r := ((yg s (icpy ((s.2 4).2 (100 + xq s)) (fun _ => 0) 0 0 ((s.2 4).1 3))).2 4)) (q := xq s + 1) (a := a) (c := c) (e := e) (b := b) hT' ha hb hc (fun k hk => if_neg hk) rfl ⟨by omega, by omega⟩ (by omega) (fun j hj => if_neg (by omega)) (fun i i0 i1 => by
      show (if 100 + (xq s + 1) = 100 + (xq s + 1) then icpy ((s.2 4).2 (100 + xq s)) (fun _ => 0) 0 0 ((s.2 4).1 3) else _) i = _
      rw [if_pos rfl]
      show (if 0 ≤ i ∧ i < 0 + (s.2 4).1 3 then (s.2 4).2 (100 + xq s) (0 + (i - 0)) else 0) = _
      rw [if_pos ⟨i0, by have : trl s = (s.2 4).1 3 := rfl; omega⟩, show 0 + (i - 0) = i by omega])
    refine ⟨_, ⟨by rw [p3]; omega, fun kc ks K hkc hks hK => ?_⟩, p1, p2⟩
    rw [p3] at hkc hks
    have hxs2 := xtl_s (q := xq s + 1)
    have hyg : yg s (icpy ((s.2 4).2 (100 + xq s)) (fun _ => 0) 0 0 ((s.2 4).1 3)) = onX s ((yg s (icpy ((s.2 4).2 (100 + xq s)) (fun _ => 0) 0 0 ((s.2 4).1 3))).2 4) := by
      refine Prod.ext rfl (funext fun i => ?_)
      by_cases h4 : i = 4
      · rw [h4]; exact onX_4.symm
      · show (if i = 4 then _ else s.2 i) = (if i = 4 then _ else s.2 i)
        rw [if_neg h4, if_neg h4]
    unfold C_X3_puts_N B_X3_puts_N_E
    refine ⟨by omega, fun q => by omega, fun _ => ⟨inI_s (show -1000000 ≤ trl s + 3 ∧ trl s + 3 ≤ 1000000 by omega), by omega, fun q => absurd q hg, fun _ => ⟨by omega, inI_s (by omega), ⟨by omega, by omega, by omega⟩, ⟨show 0 ≤ trl s by omega, show trl s ≤ (xtl (xq s) : Int) by omega⟩, ?_⟩⟩⟩
    rintro _ rfl
    rw [hyg] at *
    generalize hr : ((yg s (icpy ((s.2 4).2 (100 + xq s)) (fun _ => 0) 0 0 ((s.2 4).1 3))).2 4) = r at *
    have r3 : r.1 3 = trl s := by rw [← hr]; rfl
    have r20 : r.1 20 = ((xq s + 1 : Nat) : Int) := by rw [← hr]; rfl
    have rq : xq (onX s r) = xq s + 1 := by show (r.1 20).toNat = _; rw [r20]; omega
    rw [rq, onX_4]
    refine ⟨⟨by omega, by omega⟩, ?_⟩
    rintro _ rfl
    rw [ya_onX, onX_4]
    have rq1 : ∀ x v, xq (onX s (ma r (100 + (xq s + 1)) x v)) = xq s + 1 := fun _ _ => rq
    rw [rq1]
    refine ⟨inI_s (show -1000000 ≤ r.1 3 + 1 ∧ r.1 3 + 1 ≤ 1000000 by omega), ⟨show 0 ≤ r.1 3 + 1 by omega, show r.1 3 + 1 < (xtl (xq s + 1) : Int) by omega⟩, ?_⟩
    rintro _ rfl
    rw [ya_onX, onX_4]
    have rq2 : ∀ x v y u, xq (onX s (ma (ma r (100 + (xq s + 1)) x v) (100 + (xq s + 1)) y u)) = xq s + 1 := fun _ _ _ _ => rq
    rw [rq2]
    refine ⟨inI_s (show -1000000 ≤ r.1 3 + 2 ∧ r.1 3 + 2 ≤ 1000000 by omega), hac, ⟨show 0 ≤ r.1 3 + 2 by omega, show r.1 3 + 2 < (xtl (xq s + 1) : Int) by omega⟩, ?_⟩
    rintro _ rfl
    rw [ya_onX, onX_4]
    refine ⟨inI_s (show -1000000 ≤ r.1 3 + 3 ∧ r.1 3 + 3 ≤ 1000000 by omega), ?_⟩
    rintro _ rfl
    refine ⟨hac, ?_⟩
    rintro _ rfl
    have e1 : (ma (ma r (100 + (xq s + 1)) (r.1 3) b) (100 + (xq s + 1)) (r.1 3 + 1) c).2 a = r.2 a := by rw [ma_o (by omega), ma_o (by omega)]
    rw [ys_onX, ya_onX]
    show K (onX s (ma (ms (ma (ma (ma r (100 + (xq s + 1)) (r.1 3) b) (100 + (xq s + 1)) (r.1 3 + 1) c) (100 + (xq s + 1)) (r.1 3 + 2) ((ma (ma r (100 + (xq s + 1)) (r.1 3) b) (100 + (xq s + 1)) (r.1 3 + 1) c).2 a c)) 3 (r.1 3 + 3)) a c e))
    rw [e1]
    exact hK
