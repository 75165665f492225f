/-! THE PURE PART, 74: costs, the system's walks -/
set_option maxRecDepth 100000
theorem su_lt {f g : Int → Int} {n x : Int} (h : ∀ k, 0 ≤ k → k < n → f k ≤ g k) (x0 : 0 ≤ x) (x1 : x < n) (hx : f x < g x) : su f n < su g n := by
  have L : ∀ d : Nat, (d : Int) ≤ n → su f d ≤ su g d ∧ (x < d → su f d < su g d) := by
    intro d
    induction d with
    | zero => exact fun _ => ⟨Int.le_refl _, fun q => by omega⟩
    | succ d ih =>
      intro hd
      have h1 := ih (by omega)
      have h2 := h d (by omega) (by omega)
      have e : ∀ f : Int → Int, su f ((d + 1 : Nat) : Int) = su f d + f d := fun f => by
        rw [show ((d + 1 : Nat) : Int) = (d : Int) + 1 by omega]; exact su_s (by omega)
      rw [e f, e g]
      refine ⟨by omega, fun q => ?_⟩
      by_cases c : x = d
      · rw [c] at hx; omega
      · have := h1.2 (by omega); omega
  have := (L n.toNat (by omega)).2 (by omega)
  rw [show ((n.toNat : Nat) : Int) = n by omega] at this
  exact this
/-- how much there is to lessen -/
def msrC (A : Int → Int) : Int := su (fun x => if A x < 0 then 0 else A x) 576
theorem msrC_nn {A : Int → Int} : 0 ≤ msrC A := su_nn (fun k _ _ => by
  show 0 ≤ if A k < 0 then 0 else A k
  split <;> omega) (by decide)
theorem msrC_lt {A : Int → Int} {x v : Int} (x0 : 0 ≤ x) (x1 : x < 576) (v0 : 0 ≤ v) (hv : v < A x) : msrC (iup A x v) < msrC A := by
  refine su_lt (x := x) (fun k _ _ => ?_) x0 x1 ?_
  · show (if iup A x v k < 0 then 0 else iup A x v k) ≤ if A k < 0 then 0 else A k
    by_cases e : k = x
    · rw [e, iup_at, if_neg (by omega), if_neg (by omega)]; omega
    · rw [iup_ne e]; exact Int.le_refl _
  · show (if iup A x v x < 0 then 0 else iup A x v x) < if A x < 0 then 0 else A x
    rw [iup_at, if_neg (by omega), if_neg (by omega)]; exact hv
/-- the object with an array put anew -/
def xR (s : XS) (k : Nat) (r : Int → Int) : XS := (maR s.1 k r, s.2)
theorem xa_xR {s : XS} {k : Nat} {r : Int → Int} {x v : Int} : xa (xR s k r) k x v = xR s k (iup r x v) := by
  show (ma (maR s.1 k r) k x v, s.2) = _
  rw [ma_maR]; rfl
theorem xR_id {s : XS} {k : Nat} : xR s k (s.1.2 k) = s := by
  show (maR s.1 k (s.1.2 k), s.2) = s
  rw [maR_id]
theorem xR_at {s : XS} {k : Nat} {r : Int → Int} : (xR s k r).1.2 k = r := maR_at
theorem xR_ne {s : XS} {k j : Nat} {r : Int → Int} (h : j ≠ k) : (xR s k r).1.2 j = s.1.2 j := if_neg h
theorem RXb.xR {b : PB} {s : XS} {k : Nat} {r : Int → Int} (hk : k < 30) (h : RXb b s) : RXb b (xR s k r) := h.of (fun _ _ => rfl) (fun j hj => if_neg (by omega))
theorem x_isSame {b : PB} {i j : Int} {s : XS} {K : Int → Prop} (hb : b.ok) (hr : RXb b s) (h1 : saC b i j → K 1) (h0 : ¬ saC b i j → K 0) : C_X1_isSame i j s K := by
  intro X hX
  have h12 := hb.ns
  have es : s.1.1 32 = b.ns := hr.1.2.2.1
  have y3 : b.ns ≤ s.1.1 42 := hr.2.1.2.2.1
  have L : ∀ k, 0 ≤ k → k ≤ b.ns → (∀ l, 0 ≤ l → l < k → ¬ ((b.sa l = i ∧ b.sb l = j) ∨ (b.sa l = j ∧ b.sb l = i))) → X i j k := by
    refine upto (fun k k0 k1 ih hl => hX _ _ _ (x_sames ?_))
    rw [es]
    refine ⟨fun e => h0 (fun q => ?_), fun e => ?_⟩
    · obtain ⟨l, ⟨l0, l1⟩, ql⟩ := saC_iff.mp q
      exact hl l l0 (by omega) ql
    · have hs := hr.2.2.2.2.2.1 k k0 (by omega)
      have hk : 0 ≤ k ∧ k < s.1.1 42 := ⟨k0, by omega⟩
      rw [hs.1, hs.2]
      have yes : ((b.sa k = i ∧ b.sb k = j) ∨ (b.sa k = j ∧ b.sb k = i)) → K 1 := fun q => h1 (saC_iff.mpr ⟨k, ⟨k0, by omega⟩, q⟩)
      have no : ¬ ((b.sa k = i ∧ b.sb k = j) ∨ (b.sa k = j ∧ b.sb k = i)) → inI (k + 1) ∧ X i j (k + 1) := fun q => ⟨inI_s (by omega), ih (by omega) (fun l l0 l1 => by
        by_cases c : l = k
        · rw [c]; exact q
        · exact hl l l0 (by omega))⟩
      refine ⟨⟨⟨k0, by omega⟩, hr.2.2.1.2.2.1⟩, hk, hk, fun e1 => ⟨hk, fun e2 => yes (Or.inl ⟨e1, e2⟩), fun e2 => ⟨hk, fun e3 => ⟨hk, fun e4 => yes (Or.inr ⟨e3, e4⟩), fun e4 => no (fun q => q.elim (fun q => e2 q.2) (fun q => e4 q.2))⟩, fun e3 => no (fun q => q.elim (fun q => e2 q.2) (fun q => e3 q.1))⟩⟩, fun e1 => ⟨hk, fun e3 => ⟨hk, fun e4 => yes (Or.inr ⟨e3, e4⟩), fun e4 => no (fun q => q.elim (fun q => e1 q.1) (fun q => e4 q.2))⟩, fun e3 => no (fun q => q.elim (fun q => e1 q.1) (fun q => e3 q.1))⟩⟩
  exact L 0 (Int.le_refl _) h12.1 (fun l l0 l1 => by omega)
theorem x_partsCost {b : PB} {i j : Int} {s : XS} {K : Int → Prop} (hb : b.ok) (hr : RXb b s) (i0 : 0 ≤ i) (i1 : i < b.nt) (j0 : 0 ≤ j) (j1 : j < b.nt) (hf : b.fn i = b.fn j) (hd : ∀ p q, 0 ≤ p → p < b.nt → 0 ≤ q → q < b.nt → 0 ≤ s.1.2 17 (24 * p + q) ∧ s.1.2 17 (24 * p + q) ≤ 1000000000) (h : K (jmin 1000000000 (spC b (s.1.2 17) i j))) : C_X1_partsCost i j s K := by
  intro X hX
  have h24 := hb.nt
  obtain ⟨⟨x1, x2, x3, x4⟩, ⟨y1, y2, y3, y4⟩, ⟨c1, c2, c3, c4⟩, -, ht, -⟩ := hr
  obtain ⟨e1, e2, e3⟩ := ht i i0 i1
  obtain ⟨g1, g2, g3⟩ := ht j j0 j1
  have htk := hb.tk _ (hb.fn i i0 i1).1 (hb.fn i i0 i1).2
  have L : ∀ k, 0 ≤ k → k ≤ b.tk (b.fn i) → X (su (fun k => s.1.2 17 (24 * b.pt i k + b.pt j k)) k) i j k := by
    refine upto (fun k k0 k1 ih => hX _ _ _ _ ⟨⟨⟨i0, by omega⟩, by omega, by omega⟩, fun e => ?_, fun e => ?_⟩)
    · rw [e2] at e
      have : k = b.tk (b.fn i) := by omega
      rw [this]; exact h
    · rw [e2] at e
      have p1 := hb.pt i i0 i1 k k0 (by omega)
      have p2 := hb.pt j j0 j1 k k0 (by rw [← hf]; omega)
      rw [e3 k k0 (by omega), g3 k k0 (by rw [← hf]; omega), e2, g2, ← hf]
      have hdk := hd _ _ p1.1 (show b.pt i k < b.nt by omega) p2.1 (show b.pt j k < b.nt by omega)
      have hsb : 0 ≤ su (fun k => s.1.2 17 (24 * b.pt i k + b.pt j k)) k ∧ su (fun k => s.1.2 17 (24 * b.pt i k + b.pt j k)) k ≤ 1000000000 * k := by
        have hk' : ∀ l, 0 ≤ l → l < k → 0 ≤ s.1.2 17 (24 * b.pt i l + b.pt j l) ∧ s.1.2 17 (24 * b.pt i l + b.pt j l) ≤ 1000000000 := fun l l0 l1 => by
          have q1 := hb.pt i i0 i1 l l0 (by omega)
          have q2 := hb.pt j j0 j1 l l0 (by rw [← hf]; omega)
          exact hd _ _ q1.1 (by omega) q2.1 (by omega)
        refine ⟨su_nn (fun l l0 l1 => (hk' l l0 l1).1) k0, ?_⟩
        have := su_le (f := fun k => s.1.2 17 (24 * b.pt i k + b.pt j k)) (g := fun _ => 1000000000) (n := k) (fun l l0 l1 => (hk' l l0 l1).2)
        have e : su (fun _ => (1000000000 : Int)) k = 1000000000 * k := by
          unfold su
          rw [sn_c, show (k.toNat : Int) = k by omega]
        omega
      have := ih (by omega)
      rw [su_s k0] at this
      exact ⟨⟨⟨i0, by omega⟩, k0, by omega⟩, inI_s (by omega), ⟨⟨j0, by omega⟩, k0, by omega⟩, inI_s (by omega), ⟨by omega, by omega⟩, ⟨by omega, by omega⟩, inI_s (by omega), this⟩
  refine ⟨⟨⟨i0, by omega⟩, c2⟩, ⟨i0, by omega⟩, ⟨i0, by omega⟩, ⟨⟨j0, by omega⟩, c2⟩, ⟨j0, by omega⟩, ⟨j0, by omega⟩, ?_⟩
  exact L 0 (Int.le_refl _) htk.1
/-- the edges are laid -/
theorem x_laysEdges {b : PB} {R : Int → Int} {s : XS} {K : XS → Prop} (hb : b.ok) (hr : RXb b s) (hR : (s.2 4).2 0 = R) (hd : ∀ p q, 0 ≤ p → p < b.nt → 0 ≤ q → q < b.nt → 0 ≤ s.1.2 17 (24 * p + q) ∧ s.1.2 17 (24 * p + q) ≤ 1000000000) (h : ∀ E, (∀ i j, 0 ≤ i → i < b.nt → 0 ≤ j → j < b.nt → E (24 * i + j) = evC b R (s.1.2 17) i j) → K (xR s 18 E)) : C_X1_laysEdges s K := by
  intro X2 X12 h2 h12
  have h24 := hb.nt
  have ex : s.1.1 31 = b.nt := hr.1.2.1
  have L2 : ∀ i, 0 ≤ i → i ≤ b.nt → ∀ E, (∀ p q, 0 ≤ p → p < i → 0 ≤ q → q < b.nt → E (24 * p + q) = evC b R (s.1.2 17) p q) → X2 i (xR s 18 E) := by
    refine upto (fun i i0 i1 ih E hE => h2 _ _ (x_terms ?_))
    have ex' : (xR s 18 E).1.1 31 = b.nt := ex
    rw [ex']
    refine ⟨fun e => h E (fun p q p0 p1 q0 q1 => hE p q p0 (by omega) q0 q1), fun e => ?_⟩
    have L12 : ∀ j, 0 ≤ j → j ≤ b.nt → ∀ E, (∀ p q, 0 ≤ p → p < b.nt → 0 ≤ q → q < b.nt → (p < i ∨ (p = i ∧ q < j)) → E (24 * p + q) = evC b R (s.1.2 17) p q) → X12 i j (xR s 18 E) := by
      refine upto (fun j j0 j1 ih2 E hE => h12 _ _ _ (x_terms ?_))
      have ex' : (xR s 18 E).1.1 31 = b.nt := ex
      rw [ex']
      refine ⟨fun e2 => ⟨inI_s (by omega), ih (by omega) E (fun p q p0 p1 q0 q1 => hE p q p0 (by omega) q0 q1 (by omega))⟩, fun e2 => ?_⟩
      have put : ∀ v, v = evC b R (s.1.2 17) i j → ((0 ≤ ((24 * i) + j) ∧ ((24 * i) + j) < 576)) ∧ ∀ s15 : XS, s15 = xa (xR s 18 E) 18 ((24 * i) + j) v → (inI (j + 1) ∧ X12 i (j + 1) s15) := by
        intro v hv
        refine ⟨⟨by omega, by omega⟩, ?_⟩
        rintro _ rfl
        rw [xa_xR]
        refine ⟨inI_s (by omega), ih2 (by omega) _ (fun p q p0 p1 q0 q1 hpq => ?_)⟩
        by_cases c : p = i ∧ q = j
        · rw [c.1, c.2, iup_at]; exact hv
        · rw [iup_ne (ix_ne j0 (by omega) q0 (by omega) c)]
          exact hE p q p0 p1 q0 q1 (by omega)
      have hr' : RXb b (xR s 18 E) := hr.xR (by decide)
      have e17 : (xR s 18 E).1.2 17 = s.1.2 17 := xR_ne (by decide)
      have hI1 : inI (24 * i) := inI_s (by omega)
      have hI2 : inI (24 * i + j) := inI_s (by omega)
      refine x_isSame hb hr' (fun hs => ⟨fun q => absurd q (by decide), fun _ => ⟨fun eq => ⟨hI1, hI2, put 1 ?_⟩, fun ne => x_follow1 (b := b) (j := 4) hb hr' i0 (by omega) j0 (by omega) (fun ha => ⟨fun q => absurd q (by decide), fun _ => x_partsCost hb hr' i0 (by omega) j0 (by omega) ha.1 (by rw [e17]; exact hd) ⟨hI1, hI2, put _ ?_⟩⟩) (fun ha => ⟨fun _ => ⟨hI1, hI2, put 1 ?_⟩, fun q => absurd rfl q⟩)⟩⟩) (fun hs => ⟨fun _ => ⟨fun eq => ⟨hI1, hI2, put 1000000000 ?_⟩, fun ne => x_follow1 (b := b) (j := 4) hb hr' i0 (by omega) j0 (by omega) (fun ha => ⟨fun q => absurd q (by decide), fun _ => x_partsCost hb hr' i0 (by omega) j0 (by omega) ha.1 (by rw [e17]; exact hd) ⟨hI1, hI2, put _ ?_⟩⟩) (fun ha => ⟨fun _ => ⟨hI1, hI2, put 1000000000 ?_⟩, fun q => absurd rfl q⟩)⟩, fun q => absurd rfl q⟩)
      · unfold evC
        rw [if_neg (fun q => q.1 eq), if_pos hs]
      · have ha : alk b ((s.2 4).2 0) i j := ha
        rw [hR] at ha
        unfold evC
        rw [if_pos ⟨ne, flC_iff.mpr ha⟩, if_pos hs, e17]
      · have ha : ¬ alk b ((s.2 4).2 0) i j := ha
        rw [hR] at ha
        unfold evC
        rw [if_neg (fun q => ha (flC_iff.mp q.2)), if_pos hs]
      · unfold evC
        rw [if_neg (fun q => q.1 eq), if_neg hs]
      · have ha : alk b ((s.2 4).2 0) i j := ha
        rw [hR] at ha
        unfold evC
        rw [if_pos ⟨ne, flC_iff.mpr ha⟩, if_neg hs, e17]
      · have ha : ¬ alk b ((s.2 4).2 0) i j := ha
        rw [hR] at ha
        unfold evC
        rw [if_neg (fun q => ha (flC_iff.mp q.2)), if_neg hs]
    exact L12 0 (Int.le_refl _) h24.1 E (fun p q p0 p1 q0 q1 hpq => hE p q p0 (by omega) q0 q1)
  have := L2 0 (Int.le_refl _) h24.1 (s.1.2 18) (fun p q p0 p1 q0 q1 => by omega)
  rw [xR_id] at this
  exact this
