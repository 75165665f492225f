/-! THE PURE PART, 17: the reference makes what stands -/
set_option maxRecDepth 100000
/-- two keep the same book -/
def agB (m z : MS) : Prop :=
  (m.1 6 = z.1 6 ∧ m.1 27 = z.1 27 ∧ m.1 30 = z.1 30 ∧ m.1 33 = z.1 33) ∧ (∀ f, 0 ≤ f → f < z.1 6 → m.2 7 f = z.2 7 f) ∧
  (∀ t, 0 ≤ t → t < z.1 27 → m.2 28 t = z.2 28 t ∧ ∀ k, 0 ≤ k → k < z.2 7 (z.2 28 t) → m.2 29 (3 * t + k) = z.2 29 (3 * t + k)) ∧
  (∀ k, 0 ≤ k → k < z.1 30 → m.2 31 k = z.2 31 k ∧ m.2 32 k = z.2 32 k) ∧ (∀ k, 0 ≤ k → k < z.1 33 → m.2 34 k = z.2 34 k ∧ m.2 35 k = z.2 35 k)
/-- and the same joins -/
def agN (m z : MS) : Prop :=
  m.1 39 = z.1 39 ∧ (∀ t, 0 ≤ t → t < z.1 27 → m.2 36 t = z.2 36 t ∧ m.2 37 t = z.2 37 t ∧ (z.2 37 t ≠ -2 → m.2 38 t = z.2 38 t)) ∧
  (∀ k, 0 ≤ k → k < z.1 39 → m.2 40 k = z.2 40 k ∧ m.2 41 k = z.2 41 k ∧ m.2 42 k = z.2 42 k ∧ m.2 43 k = z.2 43 k)
theorem agB.fn {m z : MS} (h : agB m z) {t : Int} (t0 : 0 ≤ t) (t1 : t < z.1 27) : (bkM m).fn t = (bkM z).fn t := (h.2.2.1 t t0 t1).1
theorem agB.tk {m z : MS} (h : agB m z) {f : Int} (t0 : 0 ≤ f) (t1 : f < z.1 6) : (bkM m).tk f = (bkM z).tk f := h.2.1 f t0 t1
theorem agB.tkf {m z : MS} (h : agB m z) (hb : (bkM z).ok) {t : Int} (t0 : 0 ≤ t) (t1 : t < z.1 27) : (bkM m).tk ((bkM m).fn t) = (bkM z).tk ((bkM z).fn t) := by
  have f1 := hb.fn t t0 t1
  rw [h.fn t0 t1]
  exact h.tk f1.1 f1.2
theorem agB.pt {m z : MS} (h : agB m z) {t k : Int} (t0 : 0 ≤ t) (t1 : t < z.1 27) (k0 : 0 ≤ k) (k1 : k < (bkM z).tk ((bkM z).fn t)) : (bkM m).pt t k = (bkM z).pt t k := (h.2.2.1 t t0 t1).2 k k0 k1
theorem agB.ok {m z : MS} (h : agB m z) (hb : (bkM z).ok) : (bkM m).ok := by
  obtain ⟨⟨e1, e2, e3, e4⟩, h1, h2, h3, h4⟩ := h
  obtain ⟨b1, b2, b3, b4, b5, b6, b7, b8, b9, b10, b11⟩ := hb
  have e1' : (bkM m).nf = (bkM z).nf := e1
  have e2' : (bkM m).nt = (bkM z).nt := e2
  have e3' : (bkM m).ns = (bkM z).ns := e3
  have e4' : (bkM m).nd = (bkM z).nd := e4
  unfold PB.ok
  rw [e1', e2', e3', e4']
  refine ⟨b1, fun f f0 f1 => ?_, b3, fun t t0 t1 => ?_, fun t t0 t1 k k0 k1 => ?_, b6, fun k k0 k1 => ?_, fun k k0 k1 => ?_, b9, fun k k0 k1 => ?_, fun k k0 k1 => ?_⟩
  · rw [show (bkM m).tk f = (bkM z).tk f from h1 f f0 f1]; exact b2 f f0 f1
  · rw [show (bkM m).fn t = (bkM z).fn t from (h2 t t0 t1).1]; exact b4 t t0 t1
  · have f1 := b4 t t0 t1
    rw [show (bkM m).fn t = (bkM z).fn t from (h2 t t0 t1).1, show (bkM m).tk _ = (bkM z).tk _ from h1 _ f1.1 f1.2] at k1
    rw [show (bkM m).pt t k = (bkM z).pt t k from (h2 t t0 t1).2 k k0 k1]
    exact b5 t t0 t1 k k0 k1
  · rw [show (bkM m).sa k = (bkM z).sa k from (h3 k k0 k1).1]; exact b7 k k0 k1
  · rw [show (bkM m).sb k = (bkM z).sb k from (h3 k k0 k1).2]; exact b8 k k0 k1
  · rw [show (bkM m).da k = (bkM z).da k from (h4 k k0 k1).1]; exact b10 k k0 k1
  · rw [show (bkM m).db k = (bkM z).db k from (h4 k k0 k1).2]; exact b11 k k0 k1
theorem agB_alk {m z : MS} (h : agB m z) (hb : (bkM z).ok) {r r' : Int → Int} (hr : ∀ t, 0 ≤ t → t < z.1 27 → r t = r' t) {t u : Int} (t0 : 0 ≤ t) (t1 : t < z.1 27) (u0 : 0 ≤ u) (u1 : u < z.1 27) : alk (bkM m) r t u ↔ alk (bkM z) r' t u := by
  unfold alk alQ
  rw [h.fn t0 t1, h.fn u0 u1, h.tk (hb.fn t t0 t1).1 (hb.fn t t0 t1).2]
  constructor <;> rintro ⟨e, f⟩ <;> refine ⟨e, fun k k0 k1 => ?_⟩ <;> have g := f k k0 k1
  all_goals
    have p1 := hb.pt t t0 t1 k k0 k1
    have p2 := hb.pt u u0 u1 k k0 (by rw [← e]; exact k1)
    have q1 : (bkM z).pt t k < z.1 27 := by omega
    have q2 : (bkM z).pt u k < z.1 27 := by omega
  · have g : r ((bkM m).pt t k) = r ((bkM m).pt u k) := g
    rw [h.pt t0 t1 k0 k1, h.pt u0 u1 k0 (by rw [← e]; exact k1), hr _ p1.1 q1, hr _ p2.1 q2] at g
    exact g
  · show r ((bkM m).pt t k) = r ((bkM m).pt u k)
    rw [h.pt t0 t1 k0 k1, h.pt u0 u1 k0 (by rw [← e]; exact k1), hr _ p1.1 q1, hr _ p2.1 q2]
    exact g
theorem agB.fp {m z : MS} (h : agB m z) (hb : (bkM z).ok) {r r' : Int → Int} (hr : ∀ t, 0 ≤ t → t < z.1 27 → r t = r' t) : ∀ i j, 0 ≤ i → i < j → j < z.1 27 → ((r i ≠ r j ∧ alk (bkM m) r i j) ↔ (r' i ≠ r' j ∧ alk (bkM z) r' i j)) := by
  intro i j i0 ij jn
  rw [agB_alk h hb hr i0 (by omega) (by omega) jn, hr i i0 (by omega), hr j (by omega) jn]
theorem ma_37 {m : MS} {U H : Int → Int} {x v : Int} : ma (maR (maR m 37 U) 38 H) 37 x v = maR (maR m 37 (iup U x v)) 38 H := by
  refine Prod.ext rfl (funext fun j => ?_)
  show (if j = 37 then iup ((maR (maR m 37 U) 38 H).2 37) x v else if j = 38 then H else if j = 37 then U else m.2 j) = if j = 38 then H else if j = 37 then iup U x v else m.2 j
  by_cases e : j = 37
  · subst e; rfl
  · rw [if_neg e, if_neg e, if_neg e]
theorem ma_38 {m : MS} {U H : Int → Int} {x v : Int} : ma (maR (maR m 37 U) 38 H) 38 x v = maR (maR m 37 U) 38 (iup H x v) := ma_maR
/-- the turning, but where it begins -/
theorem c_turnsL {n b : Int} {K : MS → Prop} {X : Int → Int → Int → MS → Prop} {m : MS} {rk : Int → Int} (hn : n ≤ 24) (hX : ∀ x2 x3 x4 s0, B_turns_8 X K x2 x3 x4 s0 → X x2 x3 x4 s0) (hb : 0 ≤ b ∧ b < n) (hrk : ∀ t, 0 ≤ t → t < n → 0 ≤ rk t) : ∀ (k : Nat) (u h U H : Int → Int) (one on l on' l' : Int), 0 ≤ one → one < n → (∀ t, 0 ≤ t → t < n → t ≠ b → U t = u t ∧ (u t ≠ -2 → H t = h t)) → (U one = u one ∧ (u one ≠ -2 → H one = h one)) → (one ≠ b → on' = on ∧ l' = l) → (∀ t, 0 ≤ t → t < n → rk t ≤ rk one → u t ≠ -2 → (0 ≤ u t ∧ u t < n) ∧ rk (u t) < rk t) → (one = b ∨ rk one < rk b) → rk one < k → (∀ U' H', (∀ t, 0 ≤ t → t < n → t ≠ b → U' t = (rev k u h one on l).1 t ∧ ((rev k u h one on l).1 t ≠ -2 → H' t = (rev k u h one on l).2 t)) → K (maR (maR m 37 U') 38 H')) → X one on' l' (maR (maR m 37 U) 38 H) := by
  intro k
  induction k with
  | zero => exact fun u h U H one on l on' l' o0 o1 _ _ _ _ _ q => by have := hrk one o0 o1; omega
  | succ k ih =>
    intro u h U H one on l on' l' o0 o1 hag hat hon hr hbr hk hK
    refine hX _ _ _ _ ⟨fun q => by omega, fun _ => ⟨⟨o0, by omega⟩, ⟨o0, by omega⟩, ⟨o0, by omega⟩, ?_⟩⟩
    rintro _ rfl
    rw [ma_37]
    refine ⟨⟨o0, by omega⟩, ?_⟩
    rintro _ rfl
    rw [ma_38]
    show X (U one) one (H one) _
    rw [hat.1]
    have hag2 : ∀ t, 0 ≤ t → t < n → t ≠ b → iup U one on' t = iup u one on t ∧ (iup u one on t ≠ -2 → iup H one l' t = iup h one l t) := by
      intro t t0 t1 tb
      by_cases e : t = one
      · obtain ⟨e1, e2⟩ := hon (by rw [← e]; exact tb)
        rw [e, iup_at, iup_at, iup_at, iup_at, e1, e2]
        exact ⟨rfl, fun _ => rfl⟩
      · rw [iup_ne e, iup_ne e, iup_ne e, iup_ne e]
        exact hag t t0 t1 tb
    by_cases hu : u one = -2
    · rw [hu]
      refine hX _ _ _ _ ⟨fun _ => hK _ _ ?_, fun q => absurd rfl q⟩
      have e : rev (k + 1) u h one on l = (iup u one on, iup h one l) := if_pos hu
      rw [e]
      exact hag2
    · have e : rev (k + 1) u h one on l = rev k (iup u one on) (iup h one l) (u one) one (h one) := if_neg hu
      rw [e] at hK
      obtain ⟨g1, g2⟩ := hr one o0 o1 (Int.le_refl _) hu
      have ne1 : u one ≠ one := fun q => by rw [q] at g2; omega
      have ne2 : u one ≠ b := fun q => by rw [q] at g2; rcases hbr with hbr | hbr; rw [hbr] at g2; omega; omega
      rw [hat.2 hu]
      refine ih (iup u one on) (iup h one l) (iup U one on') (iup H one l') (u one) one (h one) one (h one) g1.1 g1.2 hag2 ?_ (fun _ => ⟨rfl, rfl⟩) ?_ ?_ (by omega) hK
      · rw [iup_ne ne1, iup_ne ne1, iup_ne ne1, iup_ne ne1]
        exact hag _ g1.1 g1.2 ne2
      · intro t t0 t1 q
        have : t ≠ one := fun q2 => by rw [q2] at q; omega
        rw [iup_ne this]
        exact hr t t0 t1 (by omega)
      · rcases hbr with hbr | hbr
        · rw [hbr] at g2 ⊢; exact Or.inr g2
        · exact Or.inr (by omega)
theorem rev_b {n : Int} {rk : Int → Int} {b : Int} : ∀ (k : Nat) (u h : Int → Int) (one on l : Int), (∀ t, 0 ≤ t → t < n → rk t ≤ rk one → u t ≠ -2 → (0 ≤ u t ∧ u t < n) ∧ rk (u t) < rk t) → 0 ≤ one → one < n → rk one < rk b → (rev k u h one on l).1 b = u b ∧ (rev k u h one on l).2 b = h b := by
  intro k
  induction k with
  | zero => exact fun u h one on l _ _ _ _ => ⟨rfl, rfl⟩
  | succ k ih =>
    intro u h one on l hr o0 o1 hb
    have ne : b ≠ one := fun q => by rw [q] at hb; omega
    by_cases hu : u one = -2
    · have e : rev (k + 1) u h one on l = (iup u one on, iup h one l) := if_pos hu
      rw [e]
      exact ⟨iup_ne ne, iup_ne ne⟩
    · have e : rev (k + 1) u h one on l = rev k (iup u one on) (iup h one l) (u one) one (h one) := if_neg hu
      obtain ⟨g1, g2⟩ := hr one o0 o1 (Int.le_refl _) hu
      rw [e]
      have := ih (iup u one on) (iup h one l) (u one) one (h one) (fun t t0 t1 q => by
        have : t ≠ one := fun q2 => by rw [q2] at q; omega
        rw [iup_ne this]
        exact hr t t0 t1 (by omega)) g1.1 g1.2 (by omega)
      rw [iup_ne ne, iup_ne ne] at this
      exact this
/-- where it begins it hangs on the new one -/
theorem rev_at {n : Int} {rk u h : Int → Int} {b a l : Int} {k : Nat} (hr : ∀ t, 0 ≤ t → t < n → u t ≠ -2 → (0 ≤ u t ∧ u t < n) ∧ rk (u t) < rk t) (b0 : 0 ≤ b) (b1 : b < n) : (rev (k + 1) u h b a l).1 b = a ∧ (rev (k + 1) u h b a l).2 b = l := by
  by_cases hu : u b = -2
  · have e : rev (k + 1) u h b a l = (iup u b a, iup h b l) := if_pos hu
    rw [e]
    exact ⟨iup_at, iup_at⟩
  · have e : rev (k + 1) u h b a l = rev k (iup u b a) (iup h b l) (u b) b (h b) := if_neg hu
    obtain ⟨g1, g2⟩ := hr b b0 b1 hu
    rw [e]
    have := rev_b (rk := rk) (b := b) k (iup u b a) (iup h b l) (u b) b (h b) (fun t t0 t1 q => by
      have : t ≠ b := fun q2 => by rw [q2] at q; omega
      rw [iup_ne this]
      exact hr t t0 t1) g1.1 g1.2 g2
    rw [iup_at, iup_at] at this
    exact this
theorem un_congr {n : Int} {r r' : Int → Int} {a b t : Int} (h : ∀ t, 0 ≤ t → t < n → r t = r' t) (a0 : 0 ≤ a) (a1 : a < n) (b0 : 0 ≤ b) (b1 : b < n) (t0 : 0 ≤ t) (t1 : t < n) : un n r a b t = un n r' a b t := by
  unfold un
  rw [h t t0 t1, h a a0 a1, h b b0 b1]
/-- what joins change in the reference -/
def mfr (m m' : MS) : Prop := (∀ k, k ≠ 0 → k ≠ 39 → m'.1 k = m.1 k) ∧ ∀ k, (k < 36 ∨ 43 < k) → m'.2 k = m.2 k
theorem mfr.rf {m : MS} : mfr m m := ⟨fun _ _ _ => rfl, fun _ _ => rfl⟩
theorem mfr.tr {m m1 m2 : MS} (h : mfr m m1) (g : mfr m1 m2) : mfr m m2 := ⟨fun k q r => (g.1 k q r).trans (h.1 k q r), fun k q => (g.2 k q).trans (h.2 k q)⟩
theorem c_turns {n b a l : Int} {K : MS → Prop} {m : MS} {u h rk : Int → Int} (hn : n ≤ 24) (hb : 0 ≤ b ∧ b < n) (hrk : ∀ t, 0 ≤ t → t < n → 0 ≤ rk t ∧ rk t < n) (hr : ∀ t, 0 ≤ t → t < n → u t ≠ -2 → (0 ≤ u t ∧ u t < n) ∧ rk (u t) < rk t) (hu : ∀ t, 0 ≤ t → t < n → m.2 37 t = u t ∧ (u t ≠ -2 → m.2 38 t = h t)) (hK : ∀ U' H', (∀ t, 0 ≤ t → t < n → t ≠ b → U' t = (rev 24 u h b a l).1 t ∧ ((rev 24 u h b a l).1 t ≠ -2 → H' t = (rev 24 u h b a l).2 t)) → K (maR (maR m 37 U') 38 H')) : C_turns b m K := by
  intro X hX
  have := c_turnsL (m := m) hn hX hb (fun t t0 t1 => (hrk t t0 t1).1) 24 u h (m.2 37) (m.2 38) b a l (-2) (-1) hb.1 hb.2 (fun t t0 t1 _ => hu t t0 t1) (hu b hb.1 hb.2) (fun q => absurd rfl q) (fun t t0 t1 _ q => hr t t0 t1 q) (Or.inl rfl) (by have := hrk b hb.1 hb.2; omega) hK
  have e : maR (maR m 37 (m.2 37)) 38 (m.2 38) = m := by
    rw [maR_id]
    exact maR_id
  rw [e] at this
  exact this
