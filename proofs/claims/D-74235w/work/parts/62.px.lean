/-! THE PURE PART, 3: small methods of the system, as they answer -/
set_option maxRecDepth 100000
/-- the system's book -/
def RXb (b : PB) (s : XS) : Prop := (s.1.1 30 = b.nf ∧ s.1.1 31 = b.nt ∧ s.1.1 32 = b.ns ∧ s.1.1 33 = b.nd) ∧ (b.nf ≤ s.1.1 40 ∧ b.nt ≤ s.1.1 41 ∧ b.ns ≤ s.1.1 42 ∧ b.nd ≤ s.1.1 43) ∧ (xok s 0 ∧ xok s 1 ∧ xok s 2 ∧ xok s 3) ∧ (∀ f, 0 ≤ f → f < b.nf → s.1.2 31 f = b.tk f) ∧ (∀ t, 0 ≤ t → t < b.nt → s.1.2 33 t = b.fn t ∧ s.1.2 34 t = b.tk (b.fn t) ∧ ∀ k, 0 ≤ k → k < b.tk (b.fn t) → s.1.2 (100 + t.toNat) k = b.pt t k) ∧ (∀ k, 0 ≤ k → k < b.ns → s.1.2 40 k = b.sa k ∧ s.1.2 41 k = b.sb k) ∧ (∀ k, 0 ≤ k → k < b.nd → s.1.2 42 k = b.da k ∧ s.1.2 43 k = b.db k)
/-- the book's part alone matters -/
theorem RXb.of {b : PB} {s s' : XS} (h : RXb b s) (h1 : ∀ k, 30 ≤ k → s'.1.1 k = s.1.1 k) (h2 : ∀ k, 30 ≤ k → s'.1.2 k = s.1.2 k) : RXb b s' := by
  obtain ⟨⟨a1, a2, a3, a4⟩, ⟨b1, b2, b3, b4⟩, ⟨c1, c2, c3, c4⟩, d, e, f, g⟩ := h
  have hx : ∀ j, xok s j → xok s' j := fun j h => by
    unfold xok at h ⊢
    rw [h1 (30 + j) (by omega), h1 (50 + j) (by omega), h1 (60 + j) (by omega)]
    exact h
  refine ⟨⟨?_, ?_, ?_, ?_⟩, ⟨?_, ?_, ?_, ?_⟩, ⟨hx _ c1, hx _ c2, hx _ c3, hx _ c4⟩, fun x x0 x1 => ?_, fun t t0 t1 => ⟨?_, ?_, fun k k0 k1 => ?_⟩, fun k k0 k1 => ⟨?_, ?_⟩, fun k k0 k1 => ⟨?_, ?_⟩⟩
  · rw [h1 _ (by decide)]; exact a1
  · rw [h1 _ (by decide)]; exact a2
  · rw [h1 _ (by decide)]; exact a3
  · rw [h1 _ (by decide)]; exact a4
  · rw [h1 _ (by decide)]; exact b1
  · rw [h1 _ (by decide)]; exact b2
  · rw [h1 _ (by decide)]; exact b3
  · rw [h1 _ (by decide)]; exact b4
  · rw [h2 _ (by decide)]; exact d x x0 x1
  · rw [h2 _ (by decide)]; exact (e t t0 t1).1
  · rw [h2 _ (by decide)]; exact (e t t0 t1).2.1
  · rw [h2 _ (by omega)]; exact (e t t0 t1).2.2 k k0 k1
  · rw [h2 _ (by decide)]; exact (f k k0 k1).1
  · rw [h2 _ (by decide)]; exact (f k k0 k1).2
  · rw [h2 _ (by decide)]; exact (g k k0 k1).1
  · rw [h2 _ (by decide)]; exact (g k k0 k1).2
theorem x_isIn {a b c : Int} {K : Int → Prop} (h1 : b ≤ a ∧ a ≤ c → K 1) (h2 : ¬ (b ≤ a ∧ a ≤ c) → K 0) : C_X1_isIn a b c K := by
  unfold C_X1_isIn B_X1_isIn_E
  exact ⟨fun e => h2 (by omega), fun e => ⟨fun f => h2 (by omega), fun f => h1 (by omega)⟩⟩
theorem x_isTerm {n : Nat} {f : Int → Int} {s : XS} {K : Int → Prop} (hn : 0 ≤ s.1.1 31 ∧ s.1.1 31 ≤ 24) (hm : n ≤ 3) (h1 : (∀ k, 0 ≤ k → k < (n : Int) → 0 ≤ f k ∧ f k < s.1.1 31) → K 1) (h2 : ¬ (∀ k, 0 ≤ k → k < (n : Int) → 0 ≤ f k ∧ f k < s.1.1 31) → K 0) : C_X1_isTerm n f s K := by
  intro X hX
  have L : ∀ k, 0 ≤ k → k ≤ (n : Int) → (∀ i, 0 ≤ i → i < k → 0 ≤ f i ∧ f i < s.1.1 31) → X (n : Int) k := by
    refine upto (fun k k0 k1 ih hp => hX _ _ ?_)
    unfold B_X1_isTerm_8
    refine ⟨fun e => h1 (fun i i0 i1 => hp i i0 (by omega)), fun e => ⟨⟨k0, by omega⟩, ?_⟩⟩
    unfold C_X1_terms B_X1_terms_E
    refine ⟨inI_s (by omega), x_isIn (fun q => ⟨fun e => absurd e (by decide), fun _ => ⟨inI_s (by omega), ih (by omega) (fun i i0 i1 => ?_)⟩⟩) (fun q => ⟨fun _ => h2 (fun q2 => q (by have := q2 k k0 (by omega); omega)), fun e => absurd rfl e⟩)⟩
    by_cases e2 : i = k
    · rw [e2]; omega
    · exact hp i i0 (by omega)
  exact L 0 (by omega) (by omega) (fun i i0 i1 => by omega)
theorem x_isTerm1 {a : Int} {s : XS} {K : Int → Prop} (hn : 0 ≤ s.1.1 31 ∧ s.1.1 31 ≤ 24) (h1 : 0 ≤ a ∧ a < s.1.1 31 → K 1) (h2 : ¬ (0 ≤ a ∧ a < s.1.1 31) → K 0) : C_X1_isTerm 1 (iup (fun _ => 0) 0 a) s K := by
  refine x_isTerm hn (by decide) (fun q => h1 (q 0 (by decide) (by decide))) (fun q => h2 (fun q2 => q (fun k k0 k1 => ?_)))
  rw [show k = 0 by omega]
  exact q2
theorem x_isTerm2 {a b : Int} {s : XS} {K : Int → Prop} (hn : 0 ≤ s.1.1 31 ∧ s.1.1 31 ≤ 24) (h1 : (0 ≤ a ∧ a < s.1.1 31) ∧ 0 ≤ b ∧ b < s.1.1 31 → K 1) (h2 : ¬ ((0 ≤ a ∧ a < s.1.1 31) ∧ 0 ≤ b ∧ b < s.1.1 31) → K 0) : C_X1_isTerm 2 (iup (iup (fun _ => 0) 0 a) 1 b) s K := by
  refine x_isTerm hn (by decide) (fun q => h1 ⟨q 0 (by decide) (by decide), q 1 (by decide) (by decide)⟩) (fun q => h2 (fun q2 => q (fun k k0 k1 => ?_)))
  rcases (show k = 0 ∨ k = 1 by omega) with rfl | rfl
  · exact q2.1
  · exact q2.2
theorem x_areOne {a b : Int} {j : Nat} {s : XS} {K : Int → Prop} (ha : 0 ≤ a ∧ a < 24) (hb : 0 ≤ b ∧ b < 24) (h1 : (s.2 j).2 0 a = (s.2 j).2 0 b → K 1) (h2 : ¬ (s.2 j).2 0 a = (s.2 j).2 0 b → K 0) : C_X3_areOne_G a b j s K := ⟨ha, hb, h1, h2⟩
theorem x_groups {j : Nat} {s : XS} {K : Int → Prop} (hn : 0 ≤ (s.2 j).1 1 ∧ (s.2 j).1 1 ≤ 24) (h : K (gr ((s.2 j).1 1) ((s.2 j).2 0))) : C_X3_groups_G j s K := by
  intro X hX
  have L : ∀ k, 0 ≤ k → k ≤ (s.2 j).1 1 → X (gr k ((s.2 j).2 0)) k := by
    refine upto (fun k k0 k1 ih => hX _ _ ?_)
    unfold B_X3_groups_G_4
    have hb := cn_b (P := fun t => (s.2 j).2 0 t = t) k0
    refine ⟨fun e => ?_, fun e => ⟨⟨k0, by omega⟩, fun e2 => ⟨?_, ?_, ?_⟩, fun e2 => ⟨?_, ?_, ?_⟩⟩⟩
    · rw [show k = (s.2 j).1 1 by omega]; exact h
    · exact inI_s (by unfold gr; omega)
    · exact inI_s (by omega)
    · have := ih (by omega)
      rw [gr_y k0 e2] at this
      exact this
    · exact inI_s (by unfold gr; omega)
    · exact inI_s (by omega)
    · have := ih (by omega)
      rw [gr_n k0 e2] at this
      rw [Int.add_zero]
      exact this
  exact L 0 (by omega) hn.1
theorem x_clash {b : PB} {j : Nat} {s : XS} {K : Int → Prop} (hb : b.ok) (hr : RXb b s) (h : K (fi (fun k => (s.2 j).2 0 (b.da k) = (s.2 j).2 0 (b.db k)) b.nd)) : C_X1_clash j s K := by
  intro X hX
  have h8 := hb.nd
  have h24 := hb.nt
  obtain ⟨⟨a1, a2, a3, a4⟩, ⟨b1, b2, b3, b4⟩, ⟨c1, c2, c3, c4⟩, d, e, f, g⟩ := hr
  have L : ∀ k, 0 ≤ k → k ≤ b.nd → fi (fun k => (s.2 j).2 0 (b.da k) = (s.2 j).2 0 (b.db k)) k = -2 → X k := by
    refine upto (fun k k0 k1 ih hf => hX _ ?_)
    unfold B_X1_clash_2
    rw [a4]
    refine ⟨fun e => ?_, fun e => ?_⟩
    · rw [show b.nd = k by omega, hf] at h
      exact h
    · have d1 := hb.da k k0 (by omega)
      have d2 := hb.db k k0 (by omega)
      have g1 := g k k0 (by omega)
      rw [g1.1, g1.2]
      refine ⟨⟨⟨k0, by omega⟩, c4⟩, ⟨k0, by omega⟩, ⟨k0, by omega⟩, ⟨⟨k0, by omega⟩, c4⟩, ⟨k0, by omega⟩, ⟨k0, by omega⟩, x_areOne ⟨d1.1, by omega⟩ ⟨d2.1, by omega⟩ (fun e2 => ⟨fun e => absurd e (by decide), fun _ => ?_⟩) (fun e2 => ⟨fun _ => ⟨inI_s (by omega), ih (by omega) (fi_n k0 hf e2)⟩, fun e => absurd rfl e⟩)⟩
      rw [fi_y k0 hf e2 (by omega)] at h
      exact h
  exact L 0 (by omega) h8.1 fi_0
theorem x_follow {b : PB} {j : Nat} {t u : Int} {s : XS} {K : Int → Prop} (hb : b.ok) (hr : RXb b s) (t0 : 0 ≤ t) (t1 : t < b.nt) (u0 : 0 ≤ u) (u1 : u < b.nt) (h1 : alk b ((s.2 j).2 0) t u → K 1) (h2 : ¬ alk b ((s.2 j).2 0) t u → K 0) : C_X4_follow_P t u j s K := by
  intro X hX
  have h24 := hb.nt
  obtain ⟨⟨a1, a2, a3, a4⟩, ⟨b1, b2, b3, b4⟩, ⟨c1, c2, c3, c4⟩, d, e, f, g⟩ := hr
  have et := e t t0 t1
  have eu := e u u0 u1
  have ht : 0 ≤ t ∧ t < s.1.1 41 := ⟨t0, by omega⟩
  have hu : 0 ≤ u ∧ u < s.1.1 41 := ⟨u0, by omega⟩
  unfold B_X4_follow_P_E
  rw [et.1, eu.1]
  refine ⟨⟨⟨t0, by omega⟩, c2⟩, ht, ⟨⟨u0, by omega⟩, c2⟩, hu, ht, hu, fun e2 => ?_, fun e2 => h2 (fun q => e2 q.1)⟩
  have f1 := hb.fn t t0 t1
  have f2 := hb.tk _ f1.1 f1.2
  have L : ∀ k, 0 ≤ k → k ≤ b.tk (b.fn t) → (∀ i, 0 ≤ i → i < k → (s.2 j).2 0 (b.pt t i) = (s.2 j).2 0 (b.pt u i)) → X t u k := by
    refine upto (fun k k0 k1 ih hp => hX _ _ _ ?_)
    unfold B_X4_follow_P_46
    rw [et.2.1, eu.2.1, ← e2]
    refine ⟨ht, ⟨ht, f2.1, by omega⟩, fun q => h1 ⟨e2, fun i i0 i1 => hp i i0 (by omega)⟩, fun q => ⟨ht, ⟨ht, k0, by omega⟩, hu, ⟨hu, k0, by omega⟩, ?_⟩⟩
    have p1 := hb.pt t t0 t1 k k0 (by omega)
    have p2 := hb.pt u u0 u1 k k0 (by rw [← e2]; omega)
    rw [et.2.2 k k0 (by omega), eu.2.2 k k0 (by rw [← e2]; omega)]
    refine x_areOne ⟨p1.1, by omega⟩ ⟨p2.1, by omega⟩ (fun e3 => ⟨fun e => absurd e (by decide), fun _ => ⟨inI_s (by omega), ih (by omega) (fun i i0 i1 => ?_)⟩⟩) (fun e3 => ⟨fun _ => h2 (fun q => e3 (q.2 k k0 (by omega))), fun e => absurd rfl e⟩)
    by_cases ei : i = k
    · rw [ei]; exact e3
    · exact hp i i0 (by omega)
  exact L 0 (by omega) f2.1 (fun i i0 i1 => by omega)
def yaR (s : XS) (j : Nat) (r : Int → Int) : XS := (s.1, fun i => if i = j then maR (s.2 j) 0 r else s.2 i)
theorem yaR_at {s : XS} {j : Nat} {r : Int → Int} : (yaR s j r).2 j = maR (s.2 j) 0 r := if_pos rfl
theorem yaR_row {s : XS} {j : Nat} {r : Int → Int} : ((yaR s j r).2 j).2 0 = r := by rw [yaR_at, maR_at]
theorem yaR_id {s : XS} {j : Nat} : yaR s j ((s.2 j).2 0) = s := by
  unfold yaR
  refine Prod.ext rfl (funext fun k => ?_)
  show (if k = j then maR (s.2 j) 0 ((s.2 j).2 0) else s.2 k) = s.2 k
  by_cases e : k = j
  · rw [if_pos e, maR_id, e]
  · rw [if_neg e]
theorem ya_yaR {s : XS} {j : Nat} {r : Int → Int} {x v : Int} : ya (yaR s j r) j 0 x v = yaR s j (iup r x v) := by
  unfold yaR
  refine Prod.ext rfl (funext fun k => ?_)
  show (if k = j then ma (if j = j then maR (s.2 j) 0 r else s.2 j) 0 x v else if k = j then maR (s.2 j) 0 r else s.2 k) = if k = j then maR (s.2 j) 0 (iup r x v) else s.2 k
  by_cases e : k = j
  · rw [if_pos e, if_pos rfl, if_pos e, ma_maR]
  · rw [if_neg e, if_neg e, if_neg e]
/-- a row changed below a place -/
def upto_row (r r' : Int → Int) (k : Int) : Int → Int := fun i => if 0 ≤ i ∧ i < k then r' i else r i
theorem upto_put {r r' : Int → Int} {k v : Int} (h0 : 0 ≤ k) (h : v = r' k) : iup (upto_row r r' k) k v = upto_row r r' (k + 1) := by
  funext i
  unfold upto_row
  show (if i = k then v else if 0 ≤ i ∧ i < k then _ else _) = _
  by_cases e : i = k
  · rw [if_pos e, if_pos (by omega), h, e]
  · rw [if_neg e]
    by_cases e2 : 0 ≤ i ∧ i < k
    · rw [if_pos e2, if_pos (by omega)]
    · rw [if_neg e2, if_neg (by omega)]
theorem upto_same {r r' : Int → Int} {k : Int} (h : r k = r' k) : upto_row r r' k = upto_row r r' (k + 1) := by
  funext i
  unfold upto_row
  by_cases e2 : 0 ≤ i ∧ i < k
  · rw [if_pos e2, if_pos (by omega)]
  · rw [if_neg e2]
    by_cases e : 0 ≤ i ∧ i = k
    · rw [if_pos (by omega), e.2, h]
    · rw [if_neg (by omega)]
theorem upto_at {r r' : Int → Int} {k : Int} : upto_row r r' k k = r k := if_neg (by omega)
theorem upto_in {r r' : Int → Int} {k i : Int} (h0 : 0 ≤ i) (h1 : i < k) : upto_row r r' k i = r' i := if_pos ⟨h0, h1⟩
theorem upto_0 {r r' : Int → Int} : upto_row r r' 0 = r := funext fun i => if_neg (by omega)
theorem upto_n {n : Int} {r r' : Int → Int} (h : ∀ i, ¬ (0 ≤ i ∧ i < n) → r' i = r i) : upto_row r r' n = r' := by
  funext i
  unfold upto_row
  by_cases e : 0 ≤ i ∧ i < n
  · rw [if_pos e]
  · rw [if_neg e, h i e]
theorem un_out {n : Int} {r : Int → Int} {t u i : Int} (h : ¬ (0 ≤ i ∧ i < n)) : un n r t u i = r i := if_neg (fun q => h q.1)
theorem jmin_min {x y : Int} : jmin x y = min x y := by unfold jmin; split <;> omega
theorem jmax_max {x y : Int} : jmax x y = max x y := by unfold jmax; split <;> omega
theorem x_unites {j : Nat} {t u : Int} {s : XS} {K : XS → Prop} (hn : 0 ≤ (s.2 j).1 1 ∧ (s.2 j).1 1 ≤ 24) (t0 : 0 ≤ t) (t1 : t < (s.2 j).1 1) (u0 : 0 ≤ u) (u1 : u < (s.2 j).1 1) (h : K (yaR s j (un ((s.2 j).1 1) ((s.2 j).2 0) t u))) : C_X3_unites_Q t u j s K := by
  intro X hX
  have L : ∀ k, 0 ≤ k → k ≤ (s.2 j).1 1 → X (min ((s.2 j).2 0 t) ((s.2 j).2 0 u)) (max ((s.2 j).2 0 t) ((s.2 j).2 0 u)) k (yaR s j (upto_row ((s.2 j).2 0) (un ((s.2 j).1 1) ((s.2 j).2 0) t u) k)) := by
    refine upto (fun k k0 k1 ih => hX _ _ _ _ ?_)
    unfold B_X3_unites_Q_36
    rw [yaR_row, yaR_at, upto_at]
    refine ⟨fun e => ?_, fun e => ?_⟩
    · have e : (s.2 j).1 1 ≤ k := e
      rw [show k = (s.2 j).1 1 by omega, upto_n (fun i hi => un_out hi)]
      exact h
    · have e : ¬ (s.2 j).1 1 ≤ k := e
      refine ⟨⟨k0, by omega⟩, fun e2 => ⟨⟨k0, by omega⟩, ?_⟩, fun e2 => ⟨inI_s (by omega), ?_⟩⟩
      · rintro _ rfl
        rw [ya_yaR, upto_put k0 (by unfold un; rw [if_pos ⟨⟨k0, by omega⟩, e2⟩])]
        exact ⟨inI_s (by omega), ih (by omega)⟩
      · rw [upto_same (by unfold un; rw [if_neg (fun q => e2 q.2)])]
        exact ih (by omega)
  have := L 0 (by omega) hn.1
  rw [upto_0, yaR_id] at this
  unfold B_X3_unites_Q_E
  rw [jmin_min, jmax_max]
  exact ⟨⟨t0, by omega⟩, ⟨u0, by omega⟩, ⟨t0, by omega⟩, ⟨u0, by omega⟩, this⟩
