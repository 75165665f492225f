/-! THE PURE PART, 23: the system's sheet that stands: joins, closes, comes -/
set_option maxRecDepth 100000
/-- the system's rows are what stands -/
def rowsZ (R : Nat → Int → Int) (z : ZS) : Prop := (∀ t, 0 ≤ t → t < z.1.1 27 → R 0 t = z.1.2 36 t ∧ R 5 t = cv (z.1.2 37 t) ∧ (z.1.2 37 t ≠ -2 → R 6 t = z.1.2 38 t)) ∧ ∀ t, z.1.1 27 ≤ t → t < 24 → R 5 t = -1
def RN (s : XS) (z : ZS) : Prop := (s.2 4).1 1 = z.1.1 27 ∧ rowsZ (s.2 4).2 z ∧ (s.2 4).1 10 = z.1.1 39 ∧ ∀ k, 0 ≤ k → k < z.1.1 39 → (s.2 4).2 7 k = z.1.2 40 k ∧ (s.2 4).2 8 k = z.1.2 41 k ∧ (s.2 4).2 9 k = z.1.2 42 k
theorem Tr_ya {s : XS} {k : Nat} {x v : Int} (hk : k < 100) (h : Tr s) : Tr (ya s 4 k x v) := by
  have e : trT (ya s 4 k x v) = trT s := by
    show (ma (s.2 4) k x v).2 (100 + xq s) = _
    rw [ma_o (by omega)]
  obtain ⟨h1, h2, h3, h4⟩ := h
  exact ⟨h1, h2, h3, fun i hi => by rw [e]; exact h4 i hi⟩
theorem Pt_ya {s : XS} {k : Nat} {x v : Int} (hk : k = 7 ∨ k = 8 ∨ k = 9) (h : Tr s) : Pt s (ya s 4 k x v) := by
  have e : trT (ya s 4 k x v) = trT s := by
    show (ma (s.2 4) k x v).2 (100 + xq s) = _
    rw [ma_o (by omega)]
  refine ⟨⟨rfl, fun j hj => if_neg hj⟩, fun _ _ _ _ _ => rfl, fun j h1 h2 h3 h4 h5 => ?_, ⟨by obtain ⟨-, ⟨n, e⟩, -⟩ := h; omega, 0, ?_, fun j hj => ?_⟩, fun i _ _ => by rw [e], Nat.le_refl _, Tr_ya (by omega) h⟩
  · show (ma (s.2 4) k x v).2 j = _
    rw [ma_o (by omega)]
  · show trl s = trl s + 3 * ((0 : Nat) : Int)
    omega
  · show (ma (s.2 4) k x v).2 j = _
    rw [ma_o (by rcases hj with rfl | rfl | rfl <;> omega)]
theorem Pt_ys {s : XS} {k : Nat} {v : Int} (hk : k = 1 ∨ k = 10) (h : Tr s) : Pt s (ys s 4 k v) ∧ Tr (ys s 4 k v) := by
  have e3 : trl (ys s 4 k v) = trl s := if_neg (by omega)
  have eq : xq (ys s 4 k v) = xq s := by
    show ((ms (s.2 4) k v).1 20).toNat = ((s.2 4).1 20).toNat
    rw [ms_n (by omega)]
  have e : trT (ys s 4 k v) = trT s := by
    show (s.2 4).2 (100 + xq (ys s 4 k v)) = _
    rw [eq]
  have hT : Tr (ys s 4 k v) := by
    obtain ⟨h1, h2, h3, h4⟩ := h
    exact ⟨by rw [eq]; exact h1, by rw [e3]; exact h2, by rw [e3, eq]; exact h3, fun i hi => by rw [e]; rw [e3] at hi; exact h4 i hi⟩
  refine ⟨⟨⟨rfl, fun j hj => if_neg hj⟩, fun j h1 h2 h3 h4 => ?_, fun j h1 h2 h3 h4 h5 => rfl, ⟨by obtain ⟨-, ⟨n, e⟩, -⟩ := h; omega, 0, by omega, fun j hj => rfl⟩, fun i _ _ => by rw [e], by rw [eq]; exact Nat.le_refl _, hT⟩, hT⟩
  show (ms (s.2 4) k v).1 j = _
  rw [ms_n (by omega)]
theorem rn_joins {s : XS} {z : ZS} {a b c : Int} (hw : wfZ z) (hT : Tr s) (hR : RN s z) (a0 : 0 ≤ a) (a1 : a < z.1.1 27) (b0 : 0 ≤ b) (b1 : b < z.1.1 27) (hab : z.1.2 36 a ≠ z.1.2 36 b) (hroom : trl s + 216 ≤ 9600) : ∃ s', Rn (fun kc ks K => C_X5_joins_N kc ks a b c s K) s s' ∧ Pt s s' ∧ trl s' ≤ trl s + 216 ∧ RN s' (joinZ z a b c) := by
  obtain ⟨r1, ⟨r2, r3⟩, r4, r5⟩ := hR
  have hb := hw.ok
  have h24 : 0 ≤ z.1.1 27 ∧ z.1.1 27 ≤ 24 := hb.nt
  have hj := hw.nj
  have hjn := hw.njn (by omega)
  obtain ⟨⟨rk, f1⟩, f2, -⟩ := hw.fo
  have j24 : 0 ≤ (s.2 4).1 10 ∧ (s.2 4).1 10 < 24 := by omega
  -- the joins' rows
  have t1 := Tr_ya (k := 7) (x := (s.2 4).1 10) (v := a) (by decide) hT
  have t2 := Tr_ya (k := 8) (x := (s.2 4).1 10) (v := b) (by decide) t1
  have t3 := Tr_ya (k := 9) (x := (s.2 4).1 10) (v := c) (by decide) t2
  have p3 := ((Pt_ya (k := 7) (x := (s.2 4).1 10) (v := a) (by decide) hT).tr (Pt_ya (k := 8) (x := (s.2 4).1 10) (v := b) (by decide) t1)).tr (Pt_ya (k := 9) (x := (s.2 4).1 10) (v := c) (by decide) t2)
  have bk := f1 b b0 b1
  obtain ⟨s5, q1, p5, u1, u2, u3, u4, u5⟩ := rn_hangs (n := z.1.1 27) (rk := rk) h24.2 (fun t t0 t1 => (f1 t t0 t1).1.1) 24 (z.1.2 37) (z.1.2 38) b a ((s.2 4).1 10) (ya (ya (ya s 4 7 ((s.2 4).1 10) a) 4 8 ((s.2 4).1 10) b) 4 9 ((s.2 4).1 10) c) t3 b0 b1 a0 a1 j24.1 j24.2 (fun t t0 t1 => (r2 t t0 t1).2) (fun t t0 t1 _ q => ⟨(f2 t t0 t1 q).1, ⟨(f2 t t0 t1 q).2.1.1, by have := (f2 t t0 t1 q).2.1.2; omega⟩, (f1 t t0 t1).2 q⟩) (by omega) (by show trl s + _ ≤ _; omega)
  have u1 : trl s5 ≤ trl s + 6 * (rk b + 1) := u1
  obtain ⟨p6, t6⟩ := Pt_ys (s := s5) (k := 10) (v := (s5.2 4).1 10 + 1) (Or.inr rfl) p5.2.2.2.2.2.2
  have e6 : trl (ys s5 4 10 ((s5.2 4).1 10 + 1)) = trl s5 := rfl
  have q6 : xq (ys s5 4 10 ((s5.2 4).1 10 + 1)) = xq s5 := rfl
  have i1 : (s5.2 4).1 1 = z.1.1 27 := (u2 1 (by decide) (by decide)).trans r1
  have i10 : (s5.2 4).1 10 = z.1.1 39 := (u2 10 (by decide) (by decide)).trans r4
  obtain ⟨s7, q7, p7, v1, v2, v3⟩ := rn_unites (s := ys s5 4 10 ((s5.2 4).1 10 + 1)) (a := a) (b := b) (n := z.1.1 27) t6 i1 h24 a0 a1 b0 b1 (by omega)
  have m5 := q1.1
  have m7 := q7.1
  rw [q6] at m7
  have m5 : xq s ≤ xq s5 := m5
  refine ⟨s7, ⟨by omega, fun kc ks K h1 h2 hK => ?_⟩, p3.tr (p5.tr (p6.tr p7)), by omega, ?_, ⟨?_, ?_⟩, ?_, ?_⟩
  · unfold C_X5_joins_N B_X5_joins_N_E
    refine ⟨j24, ?_⟩
    rintro _ rfl
    refine ⟨j24, ?_⟩
    rintro _ rfl
    refine ⟨j24, ?_⟩
    rintro _ rfl
    refine rn_use (s1 := s5) (q2 := xq s7) (R := fun kc ks s11 => (inI (((s11.2 4).1 10) + 1)) ∧ (∀ s17 : XS, s17 = ys s11 4 10 (((s11.2 4).1 10) + 1) → (∃ mc24c mc24s, mc24c ≤ kc ∧ mc24s ≤ ks ∧ C_X4_joins_NF mc24c mc24s a b c s17 (fun s21 => K s21)))) q1 m7 h1 h2 (fun kc' ks' h3 h4 => ⟨inI_s (by omega), ?_⟩)
    rintro _ rfl
    refine rn_use (s1 := s7) (q2 := xq s7) (C := fun mc ms K => C_X4_joins_NF mc ms a b c (ys s5 4 10 ((s5.2 4).1 10 + 1)) K) (s := ys s5 4 10 ((s5.2 4).1 10 + 1)) (R := fun _ _ s21 => K s21) ⟨m7, fun kc ks K h1 h2 hK => ?_⟩ (Nat.le_refl _) h3 h4 (fun _ _ _ _ => hK)
    unfold C_X4_joins_NF B_X4_joins_NF_E
    exact rn_use (R := fun _ _ s => K s) q7 (Nat.le_refl _) h1 h2 (fun _ _ _ _ => hK)
  · exact (v2 1 (by decide) (by decide)).trans i1
  · intro t t0 tn
    have tn : t < z.1.1 27 := tn
    rw [v3 0 (by decide), if_pos rfl, v3 5 (by decide), if_neg (by decide), v3 6 (by decide), if_neg (by decide)]
    show un (z.1.1 27) ((s5.2 4).2 0) a b t = un (z.1.1 27) (z.1.2 36) a b t ∧ (s5.2 4).2 5 t = cv ((rev 24 (z.1.2 37) (z.1.2 38) b a (z.1.1 39)).1 t) ∧ ((rev 24 (z.1.2 37) (z.1.2 38) b a (z.1.1 39)).1 t ≠ -2 → (s5.2 4).2 6 t = (rev 24 (z.1.2 37) (z.1.2 38) b a (z.1.1 39)).2 t)
    rw [← r4, u3 0 (by decide) (by decide) (by decide)]
    refine ⟨un_congr (fun i i0 i1 => (r2 i i0 i1).1) a0 a1 b0 b1 t0 tn, u4 t t0 tn⟩
  · intro t t0 tn
    have t0 : z.1.1 27 ≤ t := t0
    rw [v3 5 (by decide), if_neg (by decide)]
    show (s5.2 4).2 5 t = -1
    rw [u5 t (by omega)]
    exact r3 t t0 tn
  · refine (v2 10 (by decide) (by decide)).trans ?_
    show (s5.2 4).1 10 + 1 = z.1.1 39 + 1
    omega
  · intro k k0 k1
    have k1 : k < z.1.1 39 + 1 := k1
    rw [v3 7 (by decide), if_neg (by decide), v3 8 (by decide), if_neg (by decide), v3 9 (by decide), if_neg (by decide)]
    show (s5.2 4).2 7 k = iup (z.1.2 40) (z.1.1 39) a k ∧ (s5.2 4).2 8 k = iup (z.1.2 41) (z.1.1 39) b k ∧ (s5.2 4).2 9 k = iup (z.1.2 42) (z.1.1 39) c k
    rw [u3 7 (by decide) (by decide) (by decide), u3 8 (by decide) (by decide) (by decide), u3 9 (by decide) (by decide) (by decide)]
    show iup ((s.2 4).2 7) ((s.2 4).1 10) a k = _ ∧ iup ((s.2 4).2 8) ((s.2 4).1 10) b k = _ ∧ iup ((s.2 4).2 9) ((s.2 4).1 10) c k = _
    rw [r4]
    by_cases e : k = z.1.1 39
    · rw [e, iup_at, iup_at, iup_at, iup_at, iup_at, iup_at]; exact ⟨rfl, rfl, rfl⟩
    · rw [iup_ne e, iup_ne e, iup_ne e, iup_ne e, iup_ne e, iup_ne e]; exact r5 k k0 (by omega)
/-- a book that has what stands -/
def subB (b : PB) (z : ZS) : Prop := b.ok ∧ z.1.1 27 ≤ b.nt ∧ ∀ t, 0 ≤ t → t < z.1.1 27 → b.fn t = (bkM z.1).fn t ∧ b.tk (b.fn t) = (bkM z.1).tk ((bkM z.1).fn t) ∧ ∀ k, 0 ≤ k → k < (bkM z.1).tk ((bkM z.1).fn t) → b.pt t k = (bkM z.1).pt t k
theorem subB.jo {b : PB} {z z' : ZS} (h : subB b z) (g : jfr z z') : subB b z' := by
  unfold subB
  rw [g.2.2, g.1 27 (by decide)]
  exact h
theorem subB_self {z : ZS} (h : (bkM z.1).ok) : subB (bkM z.1) z := ⟨h, Int.le_refl _, fun _ _ _ => ⟨rfl, rfl, fun _ _ _ => rfl⟩⟩
theorem subB_alk {b : PB} {z : ZS} (h : subB b z) (hz : (bkM z.1).ok) {r r' : Int → Int} (hr : ∀ t, 0 ≤ t → t < z.1.1 27 → r t = r' t) {t u : Int} (t0 : 0 ≤ t) (t1 : t < z.1.1 27) (u0 : 0 ≤ u) (u1 : u < z.1.1 27) : alk b r t u ↔ alk (bkM z.1) r' t u := by
  obtain ⟨e1, e2, e3⟩ := h.2.2 t t0 t1
  obtain ⟨g1, g2, g3⟩ := h.2.2 u u0 u1
  unfold alk alQ
  rw [e2, e1, g1]
  constructor <;> rintro ⟨e, f⟩ <;> refine ⟨e, fun k k0 k1 => ?_⟩ <;> have g := f k k0 k1
  all_goals
    have p1 := hz.pt t t0 t1 k k0 k1
    have p2 := hz.pt u u0 u1 k k0 (by rw [← e]; exact k1)
    have q1 : (bkM z.1).pt t k < z.1.1 27 := by omega
    have q2 : (bkM z.1).pt u k < z.1.1 27 := by omega
  · have g : r (b.pt t k) = r (b.pt u k) := g
    rw [e3 k k0 k1, g3 k k0 (by rw [← e]; exact k1), hr _ p1.1 q1, hr _ p2.1 q2] at g
    exact g
  · show r (b.pt t k) = r (b.pt u k)
    rw [e3 k k0 k1, g3 k k0 (by rw [← e]; exact k1), hr _ p1.1 q1, hr _ p2.1 q2]
    exact g
theorem x_followN {b : PB} {t u : Int} {s : XS} {K : Int → Prop} (hb : b.ok) (hr : RXb b s) (t0 : 0 ≤ t) (t1 : t < b.nt) (u0 : 0 ≤ u) (u1 : u < b.nt) (h1 : alk b ((s.2 4).2 0) t u → K 1) (h2 : ¬ alk b ((s.2 4).2 0) t u → K 0) : C_X4_follow_N t u s K := by
  intro X hX
  have h24 := hb.nt
  obtain ⟨⟨a1, a2, a3, a4⟩, ⟨b1, b2, b3, b4⟩, ⟨c1, c2, c3, c4⟩, d, e, f, g⟩ := hr
  have et := e t t0 t1
  have eu := e u u0 u1
  have ht : 0 ≤ t ∧ t < s.1.1 41 := ⟨t0, by omega⟩
  have hu : 0 ≤ u ∧ u < s.1.1 41 := ⟨u0, by omega⟩
  unfold B_X4_follow_N_E
  rw [et.1, eu.1]
  refine ⟨⟨⟨t0, by omega⟩, c2⟩, ht, ⟨⟨u0, by omega⟩, c2⟩, hu, ht, hu, fun e2 => ?_, fun e2 => h2 (fun q => e2 q.1)⟩
  have f1 := hb.fn t t0 t1
  have f2 := hb.tk _ f1.1 f1.2
  have L : ∀ k, 0 ≤ k → k ≤ b.tk (b.fn t) → (∀ i, 0 ≤ i → i < k → (s.2 4).2 0 (b.pt t i) = (s.2 4).2 0 (b.pt u i)) → X t u k := by
    refine upto (fun k k0 k1 ih hp => hX _ _ _ ?_)
    unfold B_X4_follow_N_46
    rw [et.2.1, eu.2.1, ← e2]
    refine ⟨ht, ⟨ht, f2.1, by omega⟩, fun q => h1 ⟨e2, fun i i0 i1 => hp i i0 (by omega)⟩, fun q => ⟨ht, ⟨ht, k0, by omega⟩, hu, ⟨hu, k0, by omega⟩, ?_⟩⟩
    have p1 := hb.pt t t0 t1 k k0 (by omega)
    have p2 := hb.pt u u0 u1 k k0 (by rw [← e2]; omega)
    rw [et.2.2 k k0 (by omega), eu.2.2 k k0 (by rw [← e2]; omega)]
    refine x_areOne ⟨p1.1, by omega⟩ ⟨p2.1, by omega⟩ (fun e3 => ⟨fun e => absurd e (by decide), fun _ => ⟨inI_s (by omega), ih (by omega) (fun i i0 i1 => ?_)⟩⟩) (fun e3 => ⟨fun _ => h2 (fun q => e3 (q.2 k k0 (by omega))), fun e => absurd rfl e⟩)
    by_cases ei : i = k
    · rw [ei]; exact e3
    · exact hp i i0 (by omega)
  exact L 0 (by omega) f2.1 (fun i i0 i1 => by omega)
/-- the first pair, by the system -/
theorem x_closesOneN {b : PB} {z : ZS} {s : XS} {kc ks : Nat} {K : Int → XS → Prop} (hw : wfZ z) (hs : subB b z) (hr : RXb b s) (hR : RN s z) (h0 : noFP (bkM z.1) (z.1.2 36) (z.1.1 27) → K 0 s) (h1 : ∀ i j, isFP (bkM z.1) (z.1.2 36) (z.1.1 27) i j → ∃ mc ms, mc ≤ kc ∧ ms ≤ ks ∧ C_X5_joins_N mc ms i j (-2) s (fun s' => K 1 s')) : C_X4_closesOne_N kc ks s K := by
  intro X2 X14 hX2 hX14
  have hbz := hw.ok
  have hb := hs.1
  have hle := hs.2.1
  have h24 : 0 ≤ z.1.1 27 ∧ z.1.1 27 ≤ 24 := hbz.nt
  obtain ⟨r1, ⟨r2, r3⟩, r4, r5⟩ := hR
  have rows : ∀ t, 0 ≤ t → t < z.1.1 27 → (s.2 4).2 0 t = z.1.2 36 t := fun t t0 t1 => (r2 t t0 t1).1
  have L : ∀ i, 0 ≤ i → i ≤ z.1.1 27 → (∀ i' j', 0 ≤ i' → i' < j' → j' < z.1.1 27 → i' < i → ¬ (z.1.2 36 i' ≠ z.1.2 36 j' ∧ alk (bkM z.1) (z.1.2 36) i' j')) → X2 i kc ks s := by
    refine pairs (P14 := fun i k => (∀ i' j', 0 ≤ i' → i' < j' → j' < z.1.1 27 → ahead i k i' j' → ¬ (z.1.2 36 i' ≠ z.1.2 36 j' ∧ alk (bkM z.1) (z.1.2 36) i' j')) → X14 i k kc ks s) (fun i i0 i1 ih hp => hX2 _ _ _ _ ?_) (fun i k i0 ik kn hin ih ih2 hp => hX14 _ _ _ _ _ ?_)
    · unfold B_X4_closesOne_N_2
      rw [r1]
      exact ⟨fun e => h0 (fun i' j' a1 a2 a3 => hp i' j' a1 a2 a3 (by omega)), fun e => ⟨inI_s (by omega), ih (by omega) (fun i' j' a1 a2 a3 a4 => hp i' j' a1 a2 a3 (by unfold ahead at a4; omega))⟩⟩
    · unfold B_X4_closesOne_N_14
      rw [r1]
      refine ⟨fun e => ⟨inI_s (by omega), ih2 (by omega) (fun i' j' a1 a2 a3 a4 => hp i' j' a1 a2 a3 (by unfold ahead; omega))⟩, fun e => ?_⟩
      have next : ¬ (z.1.2 36 i ≠ z.1.2 36 k ∧ alk (bkM z.1) (z.1.2 36) i k) → inI (k + 1) ∧ X14 i (k + 1) kc ks s := by
        intro hno
        refine ⟨inI_s (by omega), ih (by omega) (fun i' j' a1 a2 a3 a4 => ?_)⟩
        by_cases q : i' = i ∧ j' = k
        · rw [q.1, q.2]; exact hno
        · exact hp i' j' a1 a2 a3 (by unfold ahead at a4 ⊢; omega)
      have e1 := rows i i0 (by omega)
      have e2 := rows k (by omega) (by omega)
      refine x_areOne ⟨i0, by omega⟩ ⟨by omega, by omega⟩ (fun q => ⟨fun e => absurd e (by decide), fun _ => next (fun q2 => q2.1 (by rw [← e1, ← e2]; exact q))⟩) (fun q => ⟨fun _ => ?_, fun e => absurd rfl e⟩)
      have hal := subB_alk hs hbz rows i0 (show i < z.1.1 27 by omega) (show 0 ≤ k by omega) (show k < z.1.1 27 by omega)
      refine x_followN hb hr i0 (by omega) (by omega) (by omega) (fun e3 => ⟨fun e => absurd e (by decide), fun _ => ?_⟩) (fun e3 => ⟨fun _ => next (fun q => e3 (hal.mpr q.2)), fun e => absurd rfl e⟩)
      exact h1 i k ⟨⟨⟨i0, ik, by omega⟩, by rw [← e1, ← e2]; exact q, hal.mp e3⟩, hp⟩
  exact L 0 (by omega) h24.1 (fun i' j' a1 a2 a3 a4 => by omega)
/-- room on the trail -/
def TB (s : XS) (z : ZS) : Prop := trl s ≤ 216 * z.1.1 39 + 3 * z.1.1 27
theorem TB.room {s : XS} {z : ZS} (h : TB s z) (hw : wfZ z) (h0 : 0 < z.1.1 27) : trl s + 300 ≤ 9600 := by
  have h1 := hw.njn h0
  have h24 : 0 ≤ z.1.1 27 ∧ z.1.1 27 ≤ 24 := hw.ok.nt
  unfold TB at h
  omega
theorem RXb.pt {b : PB} {s s' : XS} (h : RXb b s) (g : Pt s s') : RXb b s' := h.of (fun _ _ => by rw [g.1.1]) (fun _ _ => by rw [g.1.1])
theorem rn_closes {b : PB} : ∀ (n : Nat) (z : ZS) (s : XS), wfZ z → subB b z → RXb b s → Tr s → RN s z → TB s z → gr (z.1.1 27) (z.1.2 36) ≤ n → ∃ s', Rn (fun kc ks K => C_X4_closes_N kc ks s K) s s' ∧ Pt s s' ∧ TB s' (closeZ n z) ∧ RN s' (closeZ n z) := by
  have L : ∀ (n : Nat) (z : ZS) (s : XS), wfZ z → subB b z → RXb b s → Tr s → RN s z → TB s z → gr (z.1.1 27) (z.1.2 36) ≤ n → ∃ s', (xq s ≤ xq s' ∧ ∀ (K : XS → Prop) (X2 : Int → Nat → Nat → XS → Prop), (∀ x1 kc ks s0, B_X4_closes_N_2 X2 K x1 kc ks s0 → X2 x1 kc ks s0) → ∀ kc ks, xq s' - xq s ≤ kc → xtl (xq s' + 1) - xtl (xq s + 1) ≤ ks → K s' → X2 1 kc ks s) ∧ Pt s s' ∧ TB s' (closeZ n z) ∧ RN s' (closeZ n z) := by
    intro n
    induction n with
    | zero =>
      intro z s hw hs hr hT hR hB hg
      refine ⟨s, ⟨Nat.le_refl _, fun K X hX kc ks h1 h2 hK => hX _ _ _ _ ⟨fun q => absurd q (by decide), fun _ => ⟨0, 0, Nat.zero_le _, Nat.zero_le _, x_closesOneN hw hs hr hR (fun _ => hX _ _ _ _ ⟨fun _ => hK, fun q => absurd rfl q⟩) (fun i j hf => ?_)⟩⟩⟩, Pt.rf hT, hB, hR⟩
      have := gr_pos hw.lr (by have := hf.1.1; omega)
      omega
    | succ n ih =>
      intro z s hw hs hr hT hR hB hg
      rcases fp_or (b := bkM z.1) (r := z.1.2 36) (n := z.1.1 27) with ⟨i, j, hf⟩ | hf
      · have hf' := hf
        obtain ⟨⟨⟨f1, f2, f3⟩, f4, f5⟩, -⟩ := hf'
        have hroom := hB.room hw (by omega)
        obtain ⟨s1, q1, p1, u1, u2⟩ := rn_joins (c := -2) hw hT hR f1 (by omega) (by omega) f3 f4 (by omega)
        have hgr := un_gr hw.lr f1 (show i < z.1.1 27 by omega) (show 0 ≤ j by omega) f3 f4
        obtain ⟨s2, ⟨q2, q3⟩, p2, v1, v2⟩ := ih (joinZ z i j (-2)) s1 (joinZ_wf hw f1 (by omega) (by omega) f3 f4 (Or.inl ⟨rfl, f5⟩)) (hs.jo joinZ_fr) (hr.pt p1) p1.2.2.2.2.2.2 u2 (by show trl s1 ≤ 216 * (z.1.1 39 + 1) + 3 * z.1.1 27; unfold TB at hB; omega) (by show gr (z.1.1 27) (un (z.1.1 27) (z.1.2 36) i j) ≤ n; omega)
        rw [closeZ_y hf]
        have m1 := q1.1
        have x1 := xtl_mono (show xq s + 1 ≤ xq s1 + 1 by omega)
        have x2 := xtl_mono (show xq s1 + 1 ≤ xq s2 + 1 by omega)
        refine ⟨s2, ⟨by omega, fun K X hX kc ks h1 h2 hK => hX _ _ _ _ ⟨fun q => absurd q (by decide), fun _ => ?_⟩⟩, p1.tr p2, v1, v2⟩
        refine ⟨xq s1 - xq s, xtl (xq s1 + 1) - xtl (xq s + 1), by omega, by omega, x_closesOneN hw hs hr hR (fun hn => absurd hf.1.2 (hn i j f1 f2 f3)) (fun i' j' hf2 => ?_)⟩
        obtain ⟨e1, e2⟩ := isFP_one hf2 hf
        rw [e1, e2]
        exact ⟨_, _, Nat.le_refl _, Nat.le_refl _, q1.2 _ _ _ (Nat.le_refl _) (Nat.le_refl _) (q3 K X hX _ _ (by omega) (by omega) hK)⟩
      · rw [closeZ_n hf]
        refine ⟨s, ⟨Nat.le_refl _, fun K X hX kc ks h1 h2 hK => hX _ _ _ _ ⟨fun q => absurd q (by decide), fun _ => ⟨0, 0, Nat.zero_le _, Nat.zero_le _, x_closesOneN hw hs hr hR (fun _ => hX _ _ _ _ ⟨fun _ => hK, fun q => absurd rfl q⟩) (fun i j hf2 => ?_)⟩⟩⟩, Pt.rf hT, hB, hR⟩
        exact absurd hf2.1.2 (hf i j hf2.1.1.1 hf2.1.1.2.1 hf2.1.1.2.2)
  intro n z s hw hs hr hT hR hB hg
  obtain ⟨s', ⟨q1, q2⟩, p, v1, v2⟩ := L n z s hw hs hr hT hR hB hg
  exact ⟨s', ⟨q1, fun kc ks K h1 h2 hK X hX => q2 K X hX kc ks h1 h2 hK⟩, p, v1, v2⟩
theorem gr24 {z : ZS} (h : wfZ z) : gr (z.1.1 27) (z.1.2 36) ≤ 24 := by
  have h24 : 0 ≤ z.1.1 27 ∧ z.1.1 27 ≤ 24 := h.ok.nt
  have := (cn_b (P := fun t => z.1.2 36 t = t) h24.1).2
  exact Int.le_trans this h24.2
/-- a term comes -/
theorem rn_comes {b : PB} {z : ZS} {s : XS} {f : Int} {p : Int → Int} (hw : wfZ z) (hw' : wfZ (termZ z f p)) (hs : subB b (termZ z f p)) (hr : RXb b s) (hT : Tr s) (hR : RN s z) (hB : TB s z) (hn : z.1.1 27 < 24) : ∃ s', Rn (fun kc ks K => C_X4_comes_N kc ks s K) s s' ∧ Pt s s' ∧ TB s' (closeZ 24 (termZ z f p)) ∧ RN s' (closeZ 24 (termZ z f p)) := by
  obtain ⟨r1, ⟨r2, r3⟩, r4, r5⟩ := hR
  have h24 : 0 ≤ z.1.1 27 ∧ z.1.1 27 ≤ 24 := hw.ok.nt
  have hroom : trl s + 3 ≤ 9600 := by
    unfold TB at hB
    have := hw.nj
    have := (cn_b (P := fun t => z.1.2 36 t = t) h24.1).1
    unfold gr at *
    omega
  obtain ⟨s1, q1, p1, x1, x2, x3⟩ := rn_puts (a := 0) (b := 0) (c := z.1.1 27) (e := z.1.1 27) hT (Or.inl rfl) rfl ⟨h24.1, hn⟩ hroom
  have i1 : (s1.2 4).1 1 = z.1.1 27 := (x1 1 (by decide) (by decide)).trans r1
  obtain ⟨p2, t2⟩ := Pt_ys (s := s1) (k := 1) (v := (s1.2 4).1 1 + 1) (Or.inl rfl) p1.2.2.2.2.2.2
  have hR2 : RN (ys s1 4 1 ((s1.2 4).1 1 + 1)) (termZ z f p) := by
    refine ⟨?_, ⟨fun t t0 t1 => ?_, fun t t0 t1 => ?_⟩, ?_, fun k k0 k1 => ?_⟩
    · show (s1.2 4).1 1 + 1 = z.1.1 27 + 1
      omega
    · have t1 : t < z.1.1 27 + 1 := t1
      show (s1.2 4).2 0 t = iup (z.1.2 36) (z.1.1 27) (z.1.1 27) t ∧ (s1.2 4).2 5 t = cv (iup (z.1.2 37) (z.1.1 27) (-2) t) ∧ (iup (z.1.2 37) (z.1.1 27) (-2) t ≠ -2 → (s1.2 4).2 6 t = iup (z.1.2 38) (z.1.1 27) (-1) t)
      rw [x3 0 (by decide), if_pos rfl, x3 5 (by decide), if_neg (by decide), x3 6 (by decide), if_neg (by decide)]
      by_cases e : t = z.1.1 27
      · rw [e, iup_at, iup_at, iup_at, r3 _ (Int.le_refl _) hn]
        exact ⟨rfl, rfl, fun q => absurd rfl q⟩
      · rw [iup_ne e, iup_ne e, iup_ne e, iup_ne e]
        exact r2 t t0 (by omega)
    · have t0 : z.1.1 27 + 1 ≤ t := t0
      show (s1.2 4).2 5 t = -1
      rw [x3 5 (by decide), if_neg (by decide)]
      exact r3 t (by omega) t1
    · exact (x1 10 (by decide) (by decide)).trans r4
    · show (s1.2 4).2 7 k = _ ∧ (s1.2 4).2 8 k = _ ∧ (s1.2 4).2 9 k = _
      rw [x3 7 (by decide), if_neg (by decide), x3 8 (by decide), if_neg (by decide), x3 9 (by decide), if_neg (by decide)]
      exact r5 k k0 k1
  have hB2 : TB (ys s1 4 1 ((s1.2 4).1 1 + 1)) (termZ z f p) := by
    show trl s1 ≤ 216 * z.1.1 39 + 3 * (z.1.1 27 + 1)
    unfold TB at hB
    omega
  obtain ⟨s3, q3, p3, v1, v2⟩ := rn_closes 24 (termZ z f p) _ hw' hs ((hr.pt p1).pt p2) t2 hR2 hB2 (gr24 hw')
  have m1 := q1.1
  have m3 := q3.1
  refine ⟨s3, ⟨Nat.le_trans m1 m3, fun kc ks K h1 h2 hK => ?_⟩, p1.tr (p2.tr p3), v1, v2⟩
  unfold C_X4_comes_N B_X4_comes_N_E
  rw [r1]
  refine rn_use (R := fun kc ks s2 => (inI (((s2.2 4).1 1) + 1)) ∧ (∀ s8 : XS, s8 = ys s2 4 1 (((s2.2 4).1 1) + 1) → (∃ mc15c mc15s, mc15c ≤ kc ∧ mc15s ≤ ks ∧ C_X4_closes_N mc15c mc15s s8 (fun s12 => K s12)))) q1 m3 h1 h2 (fun kc' ks' h3 h4 => ⟨inI_s (by omega), ?_⟩)
  rintro _ rfl
  exact rn_use (R := fun _ _ s12 => K s12) q3 (Nat.le_refl _) h3 h4 (fun _ _ _ _ => hK)
/-- two are told to be one -/
noncomputable def askZ (z : ZS) (a b c : Int) : ZS := if z.1.2 36 a = z.1.2 36 b then z else closeZ 24 (joinZ z a b c)
theorem rn_same {b : PB} {z : ZS} {s : XS} {t u c : Int} (hw : wfZ z) (hs : subB b z) (hr : RXb b s) (hT : Tr s) (hR : RN s z) (hB : TB s z) (t0 : 0 ≤ t) (t1 : t < z.1.1 27) (u0 : 0 ≤ u) (u1 : u < z.1.1 27) (hc : 0 ≤ c ∧ c ≤ 12) : ∃ s', Rn (fun kc ks K => C_X4_same_N kc ks t u c s K) s s' ∧ Pt s s' ∧ TB s' (askZ z t u c) ∧ RN s' (askZ z t u c) := by
  have h24 : 0 ≤ z.1.1 27 ∧ z.1.1 27 ≤ 24 := hw.ok.nt
  have e1 := (hR.2.1.1 t t0 t1).1
  have e2 := (hR.2.1.1 u u0 u1).1
  unfold askZ
  by_cases e : z.1.2 36 t = z.1.2 36 u
  · rw [if_pos e]
    refine ⟨s, ⟨Nat.le_refl _, fun kc ks K _ _ hK => ?_⟩, Pt.rf hT, hB, hR⟩
    unfold C_X4_same_N B_X4_same_N_E
    exact x_areOne ⟨t0, by omega⟩ ⟨u0, by omega⟩ (fun _ => ⟨fun q => absurd q (by decide), fun _ => hK⟩) (fun q => absurd (by rw [e1, e2]; exact e) q)
  · rw [if_neg e]
    have hroom := hB.room hw (by omega)
    obtain ⟨s1, q1, p1, v1, v2⟩ := rn_joins (c := c) hw hT hR t0 t1 u0 u1 e (by omega)
    have hJ := joinZ_wf (c := c) hw t0 t1 u0 u1 e (Or.inr hc)
    obtain ⟨s2, q2, p2, w1, w2⟩ := rn_closes 24 (joinZ z t u c) s1 hJ (hs.jo joinZ_fr) (hr.pt p1) p1.2.2.2.2.2.2 v2 (by show trl s1 ≤ 216 * (z.1.1 39 + 1) + 3 * z.1.1 27; unfold TB at hB; omega) (gr24 hJ)
    have m1 := q1.1
    have m2 := q2.1
    refine ⟨s2, ⟨by omega, fun kc ks K h1 h2 hK => ?_⟩, p1.tr p2, w1, w2⟩
    unfold C_X4_same_N B_X4_same_N_E
    refine x_areOne ⟨t0, by omega⟩ ⟨u0, by omega⟩ (fun q => absurd (by rw [← e1, ← e2]; exact q) e) (fun _ => ⟨fun _ => ?_, fun q => absurd rfl q⟩)
    refine rn_use (R := fun kc ks s7 => ∃ mc16c mc16s, mc16c ≤ kc ∧ mc16s ≤ ks ∧ C_X4_closes_N mc16c mc16s s7 (fun s13 => K s13)) q1 m2 h1 h2 (fun kc' ks' h3 h4 => ?_)
    exact rn_use (R := fun _ _ s13 => K s13) q2 (Nat.le_refl _) h3 h4 (fun _ _ _ _ => hK)
