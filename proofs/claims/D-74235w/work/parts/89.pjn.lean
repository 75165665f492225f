/-! THE PURE PART, 30: join, part -/
set_option maxRecDepth 100000
/-- the book by what stands -/
theorem RXb_ag {m z : MS} {s : XS} (h : agB m z) (hb : (bkM z).ok) : RXb (bkM m) s ↔ RXb (bkM z) s := by
  obtain ⟨⟨e1, e2, e3, e4⟩, h1, h2, h3, h4⟩ := h
  have e1' : (bkM m).nf = (bkM z).nf := e1
  have e2' : (bkM m).nt = (bkM z).nt := e2
  have e3' : (bkM m).ns = (bkM z).ns := e3
  have e4' : (bkM m).nd = (bkM z).nd := e4
  have t1 : ∀ f, 0 ≤ f → f < (bkM z).nf → (bkM m).tk f = (bkM z).tk f := h1
  have t2 : ∀ t, 0 ≤ t → t < (bkM z).nt → (bkM m).fn t = (bkM z).fn t := fun t t0 t1 => (h2 t t0 t1).1
  have t3 : ∀ t, 0 ≤ t → t < (bkM z).nt → ∀ k, 0 ≤ k → k < (bkM z).tk ((bkM z).fn t) → (bkM m).pt t k = (bkM z).pt t k := fun t t0 t1 => (h2 t t0 t1).2
  have t4 : ∀ k, 0 ≤ k → k < (bkM z).ns → (bkM m).sa k = (bkM z).sa k ∧ (bkM m).sb k = (bkM z).sb k := h3
  have t5 : ∀ k, 0 ≤ k → k < (bkM z).nd → (bkM m).da k = (bkM z).da k ∧ (bkM m).db k = (bkM z).db k := h4
  unfold RXb
  rw [e1', e2', e3', e4']
  refine and_congr Iff.rfl (and_congr Iff.rfl (and_congr Iff.rfl (and_congr ?_ (and_congr ?_ (and_congr ?_ ?_)))))
  · constructor <;> intro q f f0 f1
    · rw [← t1 f f0 f1]; exact q f f0 f1
    · rw [t1 f f0 f1]; exact q f f0 f1
  · constructor <;> intro q t t0 t1'
    · obtain ⟨a1, a2, a3⟩ := q t t0 t1'
      have f1 := hb.fn t t0 t1'
      rw [t2 t t0 t1'] at a1 a2 a3
      rw [t1 _ f1.1 f1.2] at a2 a3
      exact ⟨a1, a2, fun k k0 k1 => by rw [← t3 t t0 t1' k k0 k1]; exact a3 k k0 k1⟩
    · obtain ⟨a1, a2, a3⟩ := q t t0 t1'
      have f1 := hb.fn t t0 t1'
      rw [t2 t t0 t1', t1 _ f1.1 f1.2]
      exact ⟨a1, a2, fun k k0 k1 => by rw [t3 t t0 t1' k k0 k1]; exact a3 k k0 k1⟩
  · constructor <;> intro q k k0 k1
    · rw [← (t4 k k0 k1).1, ← (t4 k k0 k1).2]; exact q k k0 k1
    · rw [(t4 k k0 k1).1, (t4 k k0 k1).2]; exact q k k0 k1
  · constructor <;> intro q k k0 k1
    · rw [← (t5 k k0 k1).1, ← (t5 k k0 k1).2]; exact q k k0 k1
    · rw [(t5 k k0 k1).1, (t5 k k0 k1).2]; exact q k k0 k1
theorem good_ag {m z : MS} {n : Int} {E : Int → Int → Prop} {r : Int → Int} (h : agB m z) (hb : (bkM z).ok) (hn : n ≤ z.1 27) (hg : good (bkM z) n E r) : good (bkM m) n E r :=
  good_bk hb hn (fun t t0 t1 => ⟨h.fn t0 (by omega), h.tkf hb t0 (by omega), fun k k0 k1 => h.pt t0 (by omega) k0 k1⟩) hg
theorem good_ga {m z : MS} {n : Int} {E : Int → Int → Prop} {r : Int → Int} (h : agB m z) (hb : (bkM z).ok) (hn : n ≤ z.1 27) (hg : good (bkM m) n E r) : good (bkM z) n E r :=
  good_bk (h.ok hb) (by have : (bkM m).nt = z.1 27 := h.1.2.1; omega) (fun t t0 t1 => ⟨(h.fn t0 (by omega)).symm, (h.tkf hb t0 (by omega)).symm, fun k k0 k1 => (h.pt t0 (by omega) k0 (by rw [← h.tkf hb t0 (show t < z.1 27 by omega)]; exact k1)).symm⟩) hg
theorem c_whyNotTwo {m : MS} {t u f : Int} {K : Int → MS → Prop} (h24 : 0 ≤ m.1 27 ∧ m.1 27 ≤ 24) (h1 : ¬ ((0 ≤ t ∧ t < m.1 27) ∧ 0 ≤ u ∧ u < m.1 27) → K 1 m) (h2 : (0 ≤ t ∧ t < m.1 27) ∧ 0 ≤ u ∧ u < m.1 27 → (f = 0 → K 0 m) ∧ (f ≠ 0 → K 3 m)) : C_whyNotTwo t u f m K :=
  c_isTerm h24 (fun a => ⟨fun q => absurd q (by decide), fun _ => c_isTerm h24 (fun b => ⟨fun q => absurd q (by decide), fun _ => h2 ⟨a, b⟩⟩) (fun b => ⟨fun _ => h1 (fun q => b q.2), fun q => absurd rfl q⟩)⟩) (fun a => ⟨fun _ => h1 (fun q => a q.1), fun q => absurd rfl q⟩)
theorem grow_1 {n g : Int} (hg : 0 ≤ g ∧ g ≤ 3) (hn : n < 24) (hc : n ≤ (xcap 1 g.toNat : Int)) : (0 ≤ (if n = (xcap 1 g.toNat : Int) then g + 1 else g) ∧ (if n = (xcap 1 g.toNat : Int) then g + 1 else g) ≤ 3) ∧ n + 1 ≤ (xcap 1 (if n = (xcap 1 g.toNat : Int) then g + 1 else g).toNat : Int) ∧ g ≤ (if n = (xcap 1 g.toNat : Int) then g + 1 else g) ∧ xcap 1 (if n = (xcap 1 g.toNat : Int) then g + 1 else g).toNat ≤ 5000 ∧ 0 < xcap 1 g.toNat ∧ al_N (xcap 1 g.toNat) ≤ 100 := by
  rcases (show g = 0 ∨ g = 1 ∨ g = 2 ∨ g = 3 by omega) with rfl | rfl | rfl | rfl
  · have e : ((xcap 1 (Int.toNat 0) : Nat) : Int) = 8 := by decide
    rw [e] at hc ⊢
    by_cases q : n = 8
    · rw [if_pos q]
      have e2 : ((xcap 1 (Int.toNat (0 + 1)) : Nat) : Int) = 12 := by decide
      rw [e2]
      exact ⟨by omega, by omega, by omega, by decide, by decide, by decide⟩
    · rw [if_neg q, e]
      exact ⟨by omega, by omega, by omega, by decide, by decide, by decide⟩
  · have e : ((xcap 1 (Int.toNat 1) : Nat) : Int) = 12 := by decide
    rw [e] at hc ⊢
    by_cases q : n = 12
    · rw [if_pos q]
      have e2 : ((xcap 1 (Int.toNat (1 + 1)) : Nat) : Int) = 18 := by decide
      rw [e2]
      exact ⟨by omega, by omega, by omega, by decide, by decide, by decide⟩
    · rw [if_neg q, e]
      exact ⟨by omega, by omega, by omega, by decide, by decide, by decide⟩
  · have e : ((xcap 1 (Int.toNat 2) : Nat) : Int) = 18 := by decide
    rw [e] at hc ⊢
    by_cases q : n = 18
    · rw [if_pos q]
      have e2 : ((xcap 1 (Int.toNat (2 + 1)) : Nat) : Int) = 27 := by decide
      rw [e2]
      exact ⟨by omega, by omega, by omega, by decide, by decide, by decide⟩
    · rw [if_neg q, e]
      exact ⟨by omega, by omega, by omega, by decide, by decide, by decide⟩
  · have e : ((xcap 1 (Int.toNat 3) : Nat) : Int) = 27 := by decide
    rw [e] at hc ⊢
    by_cases q : n = 27
    · omega
    · rw [if_neg q, e]
      exact ⟨by omega, by omega, by omega, by decide, by decide, by decide⟩
theorem grow_2 {n g : Int} (hg : 0 ≤ g ∧ g ≤ 3) (hn : n < 12) (hc : n ≤ (xcap 2 g.toNat : Int)) : (0 ≤ (if n = (xcap 2 g.toNat : Int) then g + 1 else g) ∧ (if n = (xcap 2 g.toNat : Int) then g + 1 else g) ≤ 3) ∧ n + 1 ≤ (xcap 2 (if n = (xcap 2 g.toNat : Int) then g + 1 else g).toNat : Int) ∧ g ≤ (if n = (xcap 2 g.toNat : Int) then g + 1 else g) ∧ xcap 2 (if n = (xcap 2 g.toNat : Int) then g + 1 else g).toNat ≤ 5000 ∧ 0 < xcap 2 g.toNat ∧ al_N (xcap 2 g.toNat) ≤ 100 := by
  rcases (show g = 0 ∨ g = 1 ∨ g = 2 ∨ g = 3 by omega) with rfl | rfl | rfl | rfl
  · have e : ((xcap 2 (Int.toNat 0) : Nat) : Int) = 4 := by decide
    rw [e] at hc ⊢
    by_cases q : n = 4
    · rw [if_pos q]
      have e2 : ((xcap 2 (Int.toNat (0 + 1)) : Nat) : Int) = 6 := by decide
      rw [e2]
      exact ⟨by omega, by omega, by omega, by decide, by decide, by decide⟩
    · rw [if_neg q, e]
      exact ⟨by omega, by omega, by omega, by decide, by decide, by decide⟩
  · have e : ((xcap 2 (Int.toNat 1) : Nat) : Int) = 6 := by decide
    rw [e] at hc ⊢
    by_cases q : n = 6
    · rw [if_pos q]
      have e2 : ((xcap 2 (Int.toNat (1 + 1)) : Nat) : Int) = 9 := by decide
      rw [e2]
      exact ⟨by omega, by omega, by omega, by decide, by decide, by decide⟩
    · rw [if_neg q, e]
      exact ⟨by omega, by omega, by omega, by decide, by decide, by decide⟩
  · have e : ((xcap 2 (Int.toNat 2) : Nat) : Int) = 9 := by decide
    rw [e] at hc ⊢
    by_cases q : n = 9
    · rw [if_pos q]
      have e2 : ((xcap 2 (Int.toNat (2 + 1)) : Nat) : Int) = 13 := by decide
      rw [e2]
      exact ⟨by omega, by omega, by omega, by decide, by decide, by decide⟩
    · rw [if_neg q, e]
      exact ⟨by omega, by omega, by omega, by decide, by decide, by decide⟩
  · have e : ((xcap 2 (Int.toNat 3) : Nat) : Int) = 13 := by decide
    rw [e] at hc ⊢
    by_cases q : n = 13
    · omega
    · rw [if_neg q, e]
      exact ⟨by omega, by omega, by omega, by decide, by decide, by decide⟩
theorem grow_3 {n g : Int} (hg : 0 ≤ g ∧ g ≤ 2) (hn : n < 8) (hc : n ≤ (xcap 3 g.toNat : Int)) : (0 ≤ (if n = (xcap 3 g.toNat : Int) then g + 1 else g) ∧ (if n = (xcap 3 g.toNat : Int) then g + 1 else g) ≤ 2) ∧ n + 1 ≤ (xcap 3 (if n = (xcap 3 g.toNat : Int) then g + 1 else g).toNat : Int) ∧ g ≤ (if n = (xcap 3 g.toNat : Int) then g + 1 else g) ∧ xcap 3 (if n = (xcap 3 g.toNat : Int) then g + 1 else g).toNat ≤ 5000 ∧ 0 < xcap 3 g.toNat ∧ al_N (xcap 3 g.toNat) ≤ 100 := by
  rcases (show g = 0 ∨ g = 1 ∨ g = 2 by omega) with rfl | rfl | rfl
  · have e : ((xcap 3 (Int.toNat 0) : Nat) : Int) = 4 := by decide
    rw [e] at hc ⊢
    by_cases q : n = 4
    · rw [if_pos q]
      have e2 : ((xcap 3 (Int.toNat (0 + 1)) : Nat) : Int) = 6 := by decide
      rw [e2]
      exact ⟨by omega, by omega, by omega, by decide, by decide, by decide⟩
    · rw [if_neg q, e]
      exact ⟨by omega, by omega, by omega, by decide, by decide, by decide⟩
  · have e : ((xcap 3 (Int.toNat 1) : Nat) : Int) = 6 := by decide
    rw [e] at hc ⊢
    by_cases q : n = 6
    · rw [if_pos q]
      have e2 : ((xcap 3 (Int.toNat (1 + 1)) : Nat) : Int) = 9 := by decide
      rw [e2]
      exact ⟨by omega, by omega, by omega, by decide, by decide, by decide⟩
    · rw [if_neg q, e]
      exact ⟨by omega, by omega, by omega, by decide, by decide, by decide⟩
  · have e : ((xcap 3 (Int.toNat 2) : Nat) : Int) = 9 := by decide
    rw [e] at hc ⊢
    by_cases q : n = 9
    · omega
    · rw [if_neg q, e]
      exact ⟨by omega, by omega, by omega, by decide, by decide, by decide⟩
theorem xok_o {s : XS} {r : MS} {j : Nat} (h : xok s j) (h0 : r.1 (30 + j) = s.1.1 (30 + j)) (h1 : r.1 (50 + j) = s.1.1 (50 + j)) (h2 : r.1 (60 + j) = s.1.1 (60 + j)) : xok (r, s.2) j := by
  unfold xok at h ⊢
  show r.1 (30 + j) ≤ _ ∧ (r.1 (60 + j)).toNat ≤ (r.1 (50 + j)).toNat ∧ xcap j (r.1 (50 + j)).toNat ≤ 5000
  rw [h0, h1, h2]
  exact h
theorem yf2_o {r : MS} {a b : Int} {k : Nat} (h1 : k ≠ 40) (h2 : k ≠ 41) : (yf2 r a b).2 k = r.2 k := by
  show (if k = 40 then _ else if k = 41 then _ else r.2 k) = r.2 k
  rw [if_neg h1, if_neg h2]
theorem yf3_o {r : MS} {a b : Int} {k : Nat} (h1 : k ≠ 42) (h2 : k ≠ 43) : (yf3 r a b).2 k = r.2 k := by
  show (if k = 42 then _ else if k = 43 then _ else r.2 k) = r.2 k
  rw [if_neg h1, if_neg h2]
theorem RXb_same {z : ZS} {s : XS} {a b : Int} (hb : (bkM z.1).ok) (hn : z.1.1 30 < 12) (h : RXb (bkM z.1) s) (h42 : s.1.1 42 = s.1.1 32) (hg : 0 ≤ s.1.1 52 ∧ s.1.1 52 ≤ 3) : RXb (bkM (sameZ z a b).1) (yf2 s.1 a b, s.2) := by
  obtain ⟨⟨x1, x2, x3, x4⟩, ⟨y1, y2, y3, y4⟩, ⟨c1, c2, c3, c4⟩, d, e, f, g⟩ := h
  have x3 : s.1.1 32 = z.1.1 30 := x3
  have h12 : 0 ≤ z.1.1 30 ∧ z.1.1 30 ≤ 12 := hb.ns
  obtain ⟨o1, o2, o3⟩ := c3
  have o1 : s.1.1 32 ≤ (xcap 2 (s.1.1 52).toNat : Int) := o1
  have o2 : (s.1.1 62).toNat ≤ (s.1.1 52).toNat := o2
  obtain ⟨g1, g2, g3, g4, -⟩ := grow_2 hg (show s.1.1 32 < 12 by omega) o1
  refine ⟨⟨x1, x2, ?_, x4⟩, ⟨y1, y2, ?_, y4⟩, ⟨xok_o c1 rfl rfl rfl, xok_o c2 rfl rfl rfl, ⟨?_, ?_, ?_⟩, xok_o c4 rfl rfl rfl⟩, d, fun t t0 t1 => ⟨(e t t0 t1).1, (e t t0 t1).2.1, fun k k0 k1 => by rw [yf2_o (by omega) (by omega)]; exact (e t t0 t1).2.2 k k0 k1⟩, fun k k0 k1 => ?_, g⟩
  · show s.1.1 32 + 1 = z.1.1 30 + 1
    omega
  · show z.1.1 30 + 1 ≤ s.1.1 42 + 1
    omega
  · show s.1.1 32 + 1 ≤ (xcap 2 (if s.1.1 32 = (xcap 2 (s.1.1 52).toNat : Int) then s.1.1 52 + 1 else s.1.1 52).toNat : Int)
    exact g2
  · show (s.1.1 62).toNat ≤ (if s.1.1 32 = (xcap 2 (s.1.1 52).toNat : Int) then s.1.1 52 + 1 else s.1.1 52).toNat
    omega
  · exact g4
  · have k1 : k < z.1.1 30 + 1 := k1
    show iup (s.1.2 40) (s.1.1 32) a k = iup (z.1.2 31) (z.1.1 30) a k ∧ iup (s.1.2 41) (s.1.1 32) b k = iup (z.1.2 32) (z.1.1 30) b k
    rw [x3]
    by_cases q : k = z.1.1 30
    · rw [q, iup_at, iup_at, iup_at, iup_at]; exact ⟨rfl, rfl⟩
    · rw [iup_ne q, iup_ne q, iup_ne q, iup_ne q]; exact f k k0 (show k < z.1.1 30 by omega)
theorem RXb_diff {z : ZS} {s : XS} {a b : Int} (hb : (bkM z.1).ok) (hn : z.1.1 33 < 8) (h : RXb (bkM z.1) s) (h42 : s.1.1 43 = s.1.1 33) (hg : 0 ≤ s.1.1 53 ∧ s.1.1 53 ≤ 2) : RXb (bkM (diffZ z a b).1) (yf3 s.1 a b, s.2) := by
  obtain ⟨⟨x1, x2, x3, x4⟩, ⟨y1, y2, y3, y4⟩, ⟨c1, c2, c3, c4⟩, d, e, f, g⟩ := h
  have x4 : s.1.1 33 = z.1.1 33 := x4
  have h12 : 0 ≤ z.1.1 33 ∧ z.1.1 33 ≤ 8 := hb.nd
  obtain ⟨o1, o2, o3⟩ := c4
  have o1 : s.1.1 33 ≤ (xcap 3 (s.1.1 53).toNat : Int) := o1
  have o2 : (s.1.1 63).toNat ≤ (s.1.1 53).toNat := o2
  obtain ⟨g1, g2, g3, g4, -⟩ := grow_3 hg (show s.1.1 33 < 8 by omega) o1
  refine ⟨⟨x1, x2, x3, ?_⟩, ⟨y1, y2, y3, ?_⟩, ⟨xok_o c1 rfl rfl rfl, xok_o c2 rfl rfl rfl, xok_o c3 rfl rfl rfl, ⟨?_, ?_, ?_⟩⟩, d, fun t t0 t1 => ⟨(e t t0 t1).1, (e t t0 t1).2.1, fun k k0 k1 => by rw [yf3_o (by omega) (by omega)]; exact (e t t0 t1).2.2 k k0 k1⟩, f, fun k k0 k1 => ?_⟩
  · show s.1.1 33 + 1 = z.1.1 33 + 1
    omega
  · show z.1.1 33 + 1 ≤ s.1.1 43 + 1
    omega
  · show s.1.1 33 + 1 ≤ (xcap 3 (if s.1.1 33 = (xcap 3 (s.1.1 53).toNat : Int) then s.1.1 53 + 1 else s.1.1 53).toNat : Int)
    exact g2
  · show (s.1.1 63).toNat ≤ (if s.1.1 33 = (xcap 3 (s.1.1 53).toNat : Int) then s.1.1 53 + 1 else s.1.1 53).toNat
    omega
  · exact g4
  · have k1 : k < z.1.1 33 + 1 := k1
    show iup (s.1.2 42) (s.1.1 33) a k = iup (z.1.2 34) (z.1.1 33) a k ∧ iup (s.1.2 43) (s.1.1 33) b k = iup (z.1.2 35) (z.1.1 33) b k
    rw [x4]
    by_cases q : k = z.1.1 33
    · rw [q, iup_at, iup_at, iup_at, iup_at]; exact ⟨rfl, rfl⟩
    · rw [iup_ne q, iup_ne q, iup_ne q, iup_ne q]; exact g k k0 (show k < z.1.1 33 by omega)
theorem rowW_0 {k a b c d : Int} : rowW k a b c d 0 = k := rfl
theorem rowW_1 {k a b c d : Int} : rowW k a b c d 1 = a := rfl
theorem rowW_2 {k a b c d : Int} : rowW k a b c d 2 = b := rfl
theorem stepZ_same {z : ZS} {a b c d : Int} : stepZ z (rowW 1 a b c d) = askZ (sameZ z a b) a b (z.1.1 30) := by
  unfold stepZ
  rw [rowW_0, rowW_1, rowW_2, if_neg (by decide), if_pos rfl]
  rfl
theorem stepZ_diff {z : ZS} {a b c d : Int} : stepZ z (rowW 2 a b c d) = diffZ z a b := by
  unfold stepZ
  rw [rowW_0, rowW_1, rowW_2, if_neg (by decide), if_neg (by decide)]
theorem J_rows {n : Nat} {s : XS} {m : MS} (h : J n s m) : 0 ≤ m.1 8 ∧ m.1 8 ≤ 44 := by
  obtain ⟨-, -, ⟨⟨a1, a2⟩, -, -, a5⟩, -⟩ := h
  have hb := a5.b.1
  have h1 : 0 ≤ m.1 27 ∧ m.1 27 ≤ 24 := hb.nt
  have h2 : 0 ≤ m.1 30 ∧ m.1 30 ≤ 12 := hb.ns
  have h3 : 0 ≤ m.1 33 ∧ m.1 33 ≤ 8 := hb.nd
  omega
theorem p_join {n : Nat} {a : Int → Int} {s : XS} {m : MS} (hJ : J (n + 1) s m) : C_law_31 a s m (J n) := by
  have hK : keepsW s m (J n) := fun s' m' h1 h2 h3 => J_down (J_keeps hJ s' m' h1 h2 h3)
  have hrows := J_rows hJ
  have hJ0 := hJ
  obtain ⟨j1, j2, ⟨⟨a1, a2⟩, a3, a4, a5⟩, ⟨b1, b2⟩, ⟨c1, c2⟩, j6, -, -⟩ := hJ
  have hKJ := hK.x a5.2.2.2.2.2.1
  obtain ⟨hb, hr⟩ := a5.b
  obtain ⟨z1, z2, z3, z4, z5, z6, z7⟩ := a5
  have h24 := hb.nt
  have h12 := hb.ns
  have h8 := hb.nd
  have hnt : (bkM m).nt = m.1 27 := rfl
  have hns : (bkM m).ns = m.1 30 := rfl
  have hnd : (bkM m).nd = m.1 33 := rfl
  have ex : s.1.1 31 = m.1 27 := hr.1.2.1
  have es : s.1.1 32 = m.1 30 := hr.1.2.2.1
  have e27 : m.1 27 = (zM m (m.1 8)).1.1 27 := z2.1.2.1
  have e30 : m.1 30 = (zM m (m.1 8)).1.1 30 := z2.1.2.2.1
  -- refused
  have no : ∀ w : Int, w ≠ 4 → (∀ K : Int → MS → Prop, K (-1) (mref m w) → C_join (a 1) (a 2) m K) → ∀ mc ms, 1 ≤ mc ∧ 2 ≤ ms → C_X1_refused w s (fun r s' => C_join (a 1) (a 2) m (fun r' m' => r = r' ∧ J n s' m')) := fun w hw hc mc ms _ => x_refused (hc _ ⟨rfl, hKJ _ _ eqX_o eqM_ref (JT_ref hw)⟩)
  by_cases hv : (0 ≤ a 1 ∧ a 1 < m.1 27) ∧ 0 ≤ a 2 ∧ a 2 < m.1 27
  · by_cases hf : m.1 30 = 12
    · refine ⟨1, 2, ⟨by decide, by decide⟩, ⟨by decide, by decide⟩, x_isTerm2 (by omega) (fun _ => ⟨fun q => absurd q (by decide), fun _ => x_sames ⟨fun _ => no 3 (by decide) (fun K hk => ⟨fun _ => c_whyNotTwo h24 (fun q => absurd hv q) (fun _ => ⟨fun q => absurd q (by decide), fun _ => c_isRefused (fun q => absurd q (by decide)) (fun _ => ⟨fun q => absurd q (by decide), fun _ => hk⟩)⟩), fun q => absurd hf q⟩) 1 2 (by decide), fun q => absurd (by rw [es]; exact hf) q⟩⟩) (fun q => absurd (by rw [ex]; exact hv) q)⟩
    · -- the act
      obtain ⟨l1, l2, l3, l4, l5⟩ := j6 2 (by decide)
      have l1 : s.1.1 42 = s.1.1 32 := l1
      have l2 : 0 ≤ s.1.1 52 ∧ s.1.1 52 ≤ 3 := l2
      have l3 : s.1.1 62 ≤ s.1.1 52 := l3
      have l4 : 0 ≤ s.1.1 72 := l4
      have l5 : s.1.1 72 + ((n + 1 : Nat) : Int) ≤ 1000 := l5
      have hokw : okW (zM m (m.1 8)) (rowW 1 (a 1) (a 2) 0 0) := ⟨fun q => absurd (show (1 : Int) = 0 from q) (by decide), fun _ => ⟨by omega, ⟨hv.1.1, show a 1 < (zM m (m.1 8)).1.1 27 by omega⟩, hv.2.1, show a 2 < (zM m (m.1 8)).1.1 27 by omega⟩, fun _ q => absurd rfl q⟩
      have hTs := sameZ_wf (a := a 1) (b := a 2) z1.1 (by omega) ⟨hv.1.1, by omega⟩ ⟨hv.2.1, by omega⟩
      have hrz : RXb (bkM (zM m (m.1 8)).1) s := (RXb_ag z2 z1.1.ok).mp hr
      have hrA : RXb (bkM (zM m (m.1 8)).1) (sAct s 0) := hrz.of (fun k hk => if_neg (by omega)) (fun k hk => by
        show (if k = 11 then _ else if k = 10 then _ else if k = 9 then _ else s.1.2 k) = s.1.2 k
        rw [if_neg (by omega), if_neg (by omega), if_neg (by omega)])
      have hr19 := RXb_same (a := a 1) (b := a 2) (s := sAct s 0) z1.1.ok (by omega) hrA l1 l2
      have hR19 : RN (yf2 (sAct s 0).1 (a 1) (a 2), s.2) (sameZ (zM m (m.1 8)) (a 1) (a 2)) := z5
      obtain ⟨s27, q1, p1, w1, w2⟩ := rn_same (t := a 1) (u := a 2) (c := (zM m (m.1 8)).1.1 30) (s := (yf2 (sAct s 0).1 (a 1) (a 2), s.2)) hTs (subB_self hTs.ok) hr19 z6 hR19 z7 hv.1.1 (show a 1 < (zM m (m.1 8)).1.1 27 by omega) hv.2.1 (show a 2 < (zM m (m.1 8)).1.1 27 by omega) (by omega)
      have hx5 := xtl_6 (q := xq s) p1.2.2.2.2.2.2.1
      obtain ⟨g1, g2, g3, g4, g5, g6⟩ := grow_2 l2 (show s.1.1 32 < 12 by omega) (hr.2.2.1.2.2.1.1)
      have hm5 := p1.2.2.2.2.2.2.1
      refine ⟨xq s27 - xq s + 3, xtl (xq s27 + 1) - xtl (xq s + 1) + al_N (xcap 2 (s.1.1 52).toNat) + 4, ⟨by show _ ≤ 40000; omega, by show _ ≤ 200000; omega⟩, ⟨by omega, by omega⟩, x_isTerm2 (by omega) (fun _ => ⟨fun q => absurd q (by decide), fun _ => x_sames ⟨fun q => absurd (by rw [← es]; exact q) hf, fun _ => x_acts ⟨by omega, by omega⟩ ?_⟩⟩) (fun q => absurd (by rw [ex]; exact hv) q)⟩
      refine ⟨⟨l1, by omega, by omega⟩, l1, ⟨by show 0 ≤ s.1.1 32; omega, l1, l2.1, hr19.2.2.1.2.2.1 |> fun _ => ?_, g5, ⟨by show -1000000 ≤ s.1.1 72; omega, by show s.1.1 72 ≤ 1000000; omega⟩, by omega, by show al_N (xcap 2 (s.1.1 52).toNat) ≤ _; omega⟩, ?_⟩
      · exact hrA.2.2.1.2.2.1
      · rintro _ rfl
        refine x_sames ⟨inI_s (show -1000000 ≤ s.1.1 32 + 1 - 1 ∧ s.1.1 32 + 1 - 1 ≤ 1000000 by omega), ?_⟩
        show ∃ mc30c mc30s, mc30c ≤ _ ∧ mc30s ≤ _ ∧ C_X4_same_N mc30c mc30s (a 1) (a 2) (s.1.1 32 + 1 - 1) (yf2 (sAct s 0).1 (a 1) (a 2), s.2) _
        rw [show s.1.1 32 + 1 - 1 = (zM m (m.1 8)).1.1 30 by omega]
        have eq0 : xq (yf2 (sAct s 0).1 (a 1) (a 2), s.2) = xq s := rfl
        refine ⟨xq s27 - xq s, xtl (xq s27 + 1) - xtl (xq s + 1), by omega, ?_, q1.2 _ _ _ (Nat.le_refl _) (Nat.le_refl _) ?_⟩
        · show _ ≤ _ - 2 - 2 - al_N (xcap 2 (s.1.1 52).toNat)
          omega
        · have i27 : (s27.2 4).1 1 = (askZ (sameZ (zM m (m.1 8)) (a 1) (a 2)) (a 1) (a 2) ((zM m (m.1 8)).1.1 30)).1.1 27 := w2.1
          have hA := askZ_wf (c := (zM m (m.1 8)).1.1 30) hTs hv.1.1 (show a 1 < (zM m (m.1 8)).1.1 27 by omega) hv.2.1 (show a 2 < (zM m (m.1 8)).1.1 27 by omega) (by omega)
          have a27 : (askZ (sameZ (zM m (m.1 8)) (a 1) (a 2)) (a 1) (a 2) ((zM m (m.1 8)).1.1 30)).1.1 27 = (zM m (m.1 8)).1.1 27 := hA.2.1.1 27 (by decide)
          refine x_groups (by rw [i27, a27, ← e27]; exact h24) (x_fine ⟨fun q => absurd q hf, fun _ => c_whyNotTwo h24 (fun q => absurd hv q) (fun _ => ⟨fun _ => c_isRefused (fun _ => ⟨fun _ => ?_, fun q => absurd rfl q⟩) (fun q => absurd rfl q), fun q => absurd rfl q⟩)⟩)
          refine c_acts (m := mref m 0) z1 z2 z3 (show 0 ≤ m.1 8 ∧ m.1 8 < 96 by omega) hokw (fun m1 u1 u2 u3 => ?_)
          have u1' := u1
          have u2' := u2
          rw [stepZ_same] at u1' u2'
          have m27 : m1.1 27 = (zM m (m.1 8)).1.1 27 := u1'.1.2.1.trans a27
          refine c_groupsIn ⟨rfl, rfl⟩ (by omega) ⟨?_, ?_⟩
          · rw [i27, a27, m27]
            exact gr_congr (fun t t0 t1 => by rw [(w2.2.1.1 t t0 (by rw [a27]; exact t1)).1, (u2'.2.1 t t0 (by rw [a27]; exact t1)).1])
          · have hJ' : J (n + 1) (xfin s) (mref m 0) := J_keeps hJ0 _ _ (eqX_o.w z6) eqM_ref JT_fine
            have e1 : s27.1 = yf2 (sAct s 0).1 (a 1) (a 2) := p1.1.1
            have ebk : bkM (stepZ (zM m (m.1 8)) (rowW 1 (a 1) (a 2) 0 0)).1 = bkM (sameZ (zM m (m.1 8)) (a 1) (a 2)).1 := by rw [stepZ_same]; exact hA.2.1.2.2
            have hokz : (bkM (stepZ (zM m (m.1 8)) (rowW 1 (a 1) (a 2) 0 0)).1).ok := by rw [ebk]; exact hTs.ok
            have hRXf : RXb (bkM m1) (xfin s27) := (RXb_ag u1 hokz).mpr (by
              rw [ebk]
              refine (hr19.pt p1).of (fun k hk => ?_) (fun _ _ => rfl)
              show (if k = 1 then _ else if k = 0 then _ else s27.1.1 k) = s27.1.1 k
              rw [if_neg (by omega), if_neg (by omega)])
            refine J_act (s := xfin s) (m := mref m 0) hJ' u3 hokw u1 u2 ⟨?_, ?_⟩ ?_ hRXf (by show RN (xfin s27) (stepZ (zM m (m.1 8)) (rowW 1 (a 1) (a 2) 0 0)); rw [stepZ_same]; exact w2) p1.2.2.2.2.2.2 (by show TB (xfin s27) (stepZ (zM m (m.1 8)) (rowW 1 (a 1) (a 2) 0 0)); rw [stepZ_same]; exact w1) ?_ ?_ ?_ ?_ (fun to z h0 h => show hstX s27 to z from hstX_pt (s := (yf2 (sAct s 0).1 (a 1) (a 2), s.2)) p1 h0 h) ⟨?_, ?_⟩ (fun j hj => ?_) (fun t t0 t1 => ?_) (fun t t0 t1 => ?_) ?_ ?_
            · have := u3.1 1 (by decide) (by decide) (by decide) (by decide) (by decide) (by decide)
              exact this.symm
            · have := u3.1 1 (by decide) (by decide) (by decide) (by decide) (by decide) (by decide)
              rw [this]; rfl
            · show s27.1.1 4 = s.1.1 4
              rw [e1]; rfl
            · show s27.1.1 12 = s.1.1 12 + 1
              rw [e1]; rfl
            · show s27.1.2 9 = _
              rw [e1]; rfl
            · show s27.1.2 10 = _
              rw [e1]; rfl
            · show s27.1.2 11 = _
              rw [e1]; rfl
            · show (s27.2 2).1 1 = m1.1 27
              rw [p1.1.2 2 (by decide), m27, ← e27]; exact c1
            · show good (bkM m1) (m1.1 27) E0 ((s27.2 2).2 0)
              rw [p1.1.2 2 (by decide), m27]
              refine good_ag u1 hokz (by rw [stepZ_same, a27]; exact Int.le_refl _) ?_
              rw [ebk]
              have := good_ga z2 z1.1.ok (Int.le_refl _) (show good (bkM m) ((zM m (m.1 8)).1.1 27) E0 ((s.2 2).2 0) by rw [← e27]; exact c2)
              exact this
            · have hj' := j6 j hj
              have xo : ∀ i, 2 ≤ i → (xfin s27).1.1 i = s27.1.1 i := fun i hi => by
                show (if i = 1 then _ else if i = 0 then _ else s27.1.1 i) = s27.1.1 i
                rw [if_neg (by omega), if_neg (by omega)]
              rw [xo _ (by omega), xo _ (by omega), xo _ (by omega), xo _ (by omega), xo _ (by omega), e1]
              rcases hj with rfl | rfl | rfl
              · obtain ⟨q1, q2, q3, q4, q5⟩ := hj'
                exact ⟨q1, q2, q3, q4, by show s.1.1 71 + (n : Int) ≤ 1000; have q5 : s.1.1 71 + ((n + 1 : Nat) : Int) ≤ 1000 := q5; omega⟩
              · refine ⟨?_, g1, ?_, ?_, ?_⟩
                · show s.1.1 42 + 1 = s.1.1 32 + 1
                  omega
                · show s.1.1 62 ≤ (if s.1.1 32 = (xcap 2 (s.1.1 52).toNat : Int) then s.1.1 52 + 1 else s.1.1 52)
                  omega
                · show 0 ≤ s.1.1 72 + 1
                  omega
                · show s.1.1 72 + 1 + (n : Int) ≤ 1000
                  omega
              · obtain ⟨q1, q2, q3, q4, q5⟩ := hj'
                exact ⟨q1, q2, q3, q4, by show s.1.1 73 + (n : Int) ≤ 1000; have q5 : s.1.1 73 + ((n + 1 : Nat) : Int) ≤ 1000 := q5; omega⟩
            · show s27.1.2 32 t = s.1.2 32 t
              rw [e1]; rfl
            · have t0 : m.1 27 ≤ t := t0
              omega
            · show s27.1.1 3 = s.1.1 3
              rw [e1]; rfl
            · show s27.1.2 2 = s.1.2 2
              rw [e1]; rfl
  · refine ⟨1, 2, ⟨by decide, by decide⟩, ⟨by decide, by decide⟩, x_isTerm2 (by omega) (fun q => absurd (by rw [← ex]; exact q) hv) (fun _ => ⟨fun _ => no 1 (by decide) (fun K hk => ⟨fun _ => c_whyNotTwo h24 (fun _ => c_isRefused (fun q => absurd q (by decide)) (fun _ => ⟨fun q => absurd q (by decide), fun _ => hk⟩)) (fun q => absurd q hv), fun _ => c_whyNotTwo h24 (fun _ => c_isRefused (fun q => absurd q (by decide)) (fun _ => ⟨fun q => absurd q (by decide), fun _ => hk⟩)) (fun q => absurd q hv)⟩) 1 2 (by decide), fun q => absurd rfl q⟩)⟩
