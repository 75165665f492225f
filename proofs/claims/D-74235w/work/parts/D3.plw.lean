/-! THE PURE PART, 70: levels, the walks -/
set_option maxRecDepth 100000
theorem PC_ex {b : PB} {n : Int} {r0 : Int → Int} (hn : 0 ≤ n) (h : lr n r0) : ∃ r, PC b n r0 r0 r := by
  have row : ∀ (e : Nat) (i j : Int) (r : Int → Int), 0 ≤ i → i < j → j + e = n → PI b n r0 r0 i j r → ∃ r', PI b n r0 r0 (i + 1) (i + 1 + 1) r' := by
    intro e
    induction e with
    | zero => exact fun i j r i0 ij hj h => ⟨r, PI_row h (by omega)⟩
    | succ e ih =>
      intro i j r i0 ij hj h
      by_cases ha : alk b r0 i j
      · exact ih i (j + 1) _ i0 (by omega) (by omega) (PI_y h i0 ij (by omega) ha)
      · exact ih i (j + 1) _ i0 (by omega) (by omega) (PI_n h ha)
  have all : ∀ (d : Nat) (i : Int) (r : Int → Int), 0 ≤ i → i + d = n → PI b n r0 r0 i (i + 1) r → ∃ r', PC b n r0 r0 r' := by
    intro d
    induction d with
    | zero => exact fun i r i0 hi h => ⟨r, PI_end h (by omega)⟩
    | succ d ih =>
      intro i r i0 hi h
      obtain ⟨r', h'⟩ := row (n - (i + 1)).toNat i (i + 1) r i0 (by omega) (by omega) h
      exact ih (i + 1) r' (by omega) (by omega) h'
  exact all n.toNat 0 r0 (Int.le_refl _) (by omega) (PI_0 h)
theorem PC_congr {b : PB} {n : Int} {r1 r0 r0' r : Int → Int} (hb : b.ok) (hn : n ≤ b.nt) (h : ∀ i, 0 ≤ i → i < n → r0' i = r0 i) (hp : PC b n r1 r0 r) : PC b n r1 r0' r := by
  have e : ∀ t u, 0 ≤ t → t < n → 0 ≤ u → u < n → (alk b r0' t u ↔ alk b r0 t u) := fun t u t0 t1 u0 u1 => by
    have hp : ∀ x, 0 ≤ x → x < n → ∀ k, 0 ≤ k → k < b.tk (b.fn x) → r0' (b.pt x k) = r0 (b.pt x k) := fun x x0 x1 k k0 k1 => by
      have := hb.pt x x0 (by omega) k k0 k1
      exact h _ this.1 (by omega)
    constructor
    · rintro ⟨h1, h2⟩
      refine ⟨h1, fun k k0 k1 => ?_⟩
      show r0 _ = r0 _
      rw [← hp t t0 t1 k k0 k1, ← hp u u0 u1 k k0 (by rw [← h1]; exact k1)]; exact h2 k k0 k1
    · rintro ⟨h1, h2⟩
      refine ⟨h1, fun k k0 k1 => ?_⟩
      show r0' _ = r0' _
      rw [hp t t0 t1 k k0 k1, hp u u0 u1 k k0 (by rw [← h1]; exact k1)]; exact h2 k k0 k1
  exact ⟨hp.1, hp.2.1, fun t u t0 t1 u0 u1 ha => hp.2.2.1 t u t0 t1 u0 u1 ((e t u t0 t1 u0 u1).mp ha), fun Q hQ q1 q2 => hp.2.2.2 Q hQ q1 (fun t u t0 t1 u0 u1 ha => q2 t u t0 t1 u0 u1 ((e t u t0 t1 u0 u1).mpr ha))⟩
theorem LV_m {b : PB} {rM rR rM' rR' : Int → Int} (hb : b.ok) (h : LV b rM rR) (hM : PC b b.nt rM rM rM') (hR : PC b b.nt rR rR rR') : LV b rM' rR' := by
  obtain ⟨l1, l2, l3, l4⟩ := h
  have s1 : subR b.nt rM (fun x y => rR x = rR y) := fun t u t0 t1 u0 u1 e => (l2 t u t0 t1 u0 u1).mpr e
  have s2 : subR b.nt rR (fun x y => rM x = rM y) := fun t u t0 t1 u0 u1 e => (l2 t u t0 t1 u0 u1).mp e
  have hsM : ∀ i, 0 ≤ i → i < b.ns → rM' (b.sa i) = rM' (b.sb i) := fun i i0 i1 => hM.2.1 _ _ (hb.sa i i0 i1).1 (hb.sa i i0 i1).2 (hb.sb i i0 i1).1 (hb.sb i i0 i1).2 (l3 i i0 i1)
  have hMR : subR b.nt rM' (fun x y => rR' x = rR' y) := hM.2.2.2 _ eqvQ_r (fun t u t0 t1 u0 u1 e => hR.2.1 t u t0 t1 u0 u1 (s1 t u t0 t1 u0 u1 e)) (fun t u t0 t1 u0 u1 ha => hR.2.2.1 t u t0 t1 u0 u1 (alk_mono hb s1 t0 t1 u0 u1 ha))
  have hRM : subR b.nt rR' (fun x y => rM' x = rM' y) := hR.2.2.2 _ eqvQ_r (fun t u t0 t1 u0 u1 e => hM.2.1 t u t0 t1 u0 u1 (s2 t u t0 t1 u0 u1 e)) (fun t u t0 t1 u0 u1 ha => hM.2.2.1 t u t0 t1 u0 u1 (alk_mono hb s2 t0 t1 u0 u1 ha))
  exact ⟨hM.1, fun t u t0 t1 u0 u1 => ⟨hRM t u t0 t1 u0 u1, hMR t u t0 t1 u0 u1⟩, hsM, fun Q hQ q1 q2 => hM.2.2.2 Q hQ (l4 Q hQ q1 (fun t u t0 t1 u0 u1 ha => q2 t u t0 t1 u0 u1 (alk_mono hb hM.2.1 t0 t1 u0 u1 ha))) (fun t u t0 t1 u0 u1 ha => q2 t u t0 t1 u0 u1 (alk_mono hb hM.2.1 t0 t1 u0 u1 ha))⟩
/-- sheets 0 and 1 alone differ -/
def lX (s s' : XS) : Prop := s'.1 = s.1 ∧ ∀ j, j ≠ 0 → j ≠ 1 → s'.2 j = s.2 j
theorem lX.rf {s : XS} : lX s s := ⟨rfl, fun _ _ _ => rfl⟩
theorem lX.tr {s s1 s2 : XS} (h : lX s s1) (g : lX s1 s2) : lX s s2 := ⟨g.1.trans h.1, fun j a b => (g.2 j a b).trans (h.2 j a b)⟩
theorem lX.x {s s' : XS} (h : lX s s') : eqX s s' := ⟨fun _ _ _ => by rw [h.1], fun _ _ _ _ _ _ => by rw [h.1], h.2 2 (by decide) (by decide), fun _ _ => by rw [h.2 4 (by decide) (by decide)], fun _ _ _ => by rw [h.2 4 (by decide) (by decide)]⟩
theorem lX.rxb {b : PB} {s s' : XS} (h : lX s s') (hr : RXb b s) : RXb b s' := hr.of (fun _ _ => by rw [h.1]) (fun _ _ => by rw [h.1])
theorem lX_yaR {s : XS} {j : Nat} {r : Int → Int} (hj : j = 0 ∨ j = 1) : lX s (yaR s j r) := ⟨rfl, fun i i0 i1 => if_neg (by omega)⟩
theorem lX_ys {s : XS} {j k : Nat} {v : Int} (hj : j = 0 ∨ j = 1) : lX s (ys s j k v) := ⟨rfl, fun i i0 i1 => if_neg (by omega)⟩
def vM (m m' : MS) : Prop := m'.1 = m.1 ∧ ∀ k, k ≠ 47 → k ≠ 48 → m'.2 k = m.2 k
theorem vM.rf {m : MS} : vM m m := ⟨rfl, fun _ _ _ => rfl⟩
theorem vM.m {m m' : MS} (h : vM m m') : eqM m m' := ⟨fun _ _ => by rw [h.1], fun k q _ _ => h.2 k (fun e => q (by unfold mscA; omega)) (fun e => q (by unfold mscA; omega)), fun _ _ _ => by rw [h.2 31 (by decide) (by decide), h.2 32 (by decide) (by decide)]; exact ⟨rfl, rfl⟩⟩
theorem vM.bk {m m' : MS} (h : vM m m') : bkM m' = bkM m := by
  unfold bkM
  rw [h.1, h.2 7 (by decide) (by decide), h.2 28 (by decide) (by decide), h.2 29 (by decide) (by decide), h.2 31 (by decide) (by decide), h.2 32 (by decide) (by decide), h.2 34 (by decide) (by decide), h.2 35 (by decide) (by decide)]
theorem vM_R {m : MS} {k : Nat} {r : Int → Int} (hk : k = 47 ∨ k = 48) {m0 : MS} (h : vM m0 m) : vM m0 (maR m k r) := ⟨h.1, fun i i0 i1 => (if_neg (by omega)).trans (h.2 i i0 i1)⟩
theorem x_follow1 {b : PB} {j : Nat} {t u : Int} {s : XS} {K : Int → Prop} (hb : b.ok) (hr : RXb b s) (t0 : 0 ≤ t) (t1 : t < b.nt) (u0 : 0 ≤ u) (u1 : u < b.nt) (h1 : alk b ((s.2 j).2 0) t u → K 1) (h2 : ¬ alk b ((s.2 j).2 0) t u → K 0) : C_X1_follow t u j s K :=
  x_follow (j := j) hb hr t0 t1 u0 u1 h1 h2
theorem x_bySames {b : PB} {s0 s : XS} {K : XS → Prop} (hb : b.ok) (hr : RXb b s0) (hq : lX s0 s) (hK : ∀ s', lX s0 s' → (s'.2 1).1 1 = b.nt → SC b b.nt b.ns ((s'.2 1).2 0) → s'.2 0 = s.2 0 → K s') : C_X1_bySames s K := by
  have h24 := hb.nt
  have h12 := hb.ns
  have hrs := hq.rxb hr
  have e31 : s.1.1 31 = b.nt := hrs.1.2.1
  have e32 : s.1.1 32 = b.ns := hrs.1.2.2.1
  intro X10 X33 h10 h33
  unfold B_X1_bySames_E
  refine x_terms ?_
  rintro _ rfl
  rw [e31]
  have n1 : ∀ r, ((yaR (ys s 1 1 b.nt) 1 r).2 1).1 1 = b.nt := fun r => rfl
  have lq : ∀ r, lX s0 (yaR (ys s 1 1 b.nt) 1 r) := fun r => hq.tr ((lX_ys (Or.inr rfl)).tr (lX_yaR (Or.inr rfl)))
  have L33 : ∀ k, 0 ≤ k → k ≤ b.ns → ∀ r, SC b b.nt k r → X33 k (yaR (ys s 1 1 b.nt) 1 r) := by
    refine upto (fun k k0 k1 ih r hsc => h33 _ _ (x_sames ?_))
    have e32' : (yaR (ys s 1 1 b.nt) 1 r).1.1 32 = b.ns := e32
    rw [e32']
    refine ⟨fun e => ?_, fun e => ?_⟩
    · have ek : k = b.ns := by omega
      rw [ek] at hsc
      exact hK _ (lq r) (n1 r) (by rw [yaR_row]; exact hsc) rfl
    · have ha := hb.sa k k0 (by omega)
      have hb' := hb.sb k k0 (by omega)
      have hs := hrs.2.2.2.2.2.1 k k0 (by omega)
      have y3 : b.ns ≤ s.1.1 42 := hrs.2.1.2.2.1
      have hk2 : 0 ≤ k ∧ k < s.1.1 32 := ⟨k0, by omega⟩
      have hk3 : 0 ≤ k ∧ k < s.1.1 42 := ⟨k0, by omega⟩
      refine ⟨⟨⟨k0, by omega⟩, hrs.2.2.1.2.2.1⟩, hk3, hk3, ⟨⟨k0, by omega⟩, hrs.2.2.1.2.2.1⟩, hk3, hk3, ?_⟩
      show C_X3_unites_Q (s.1.2 40 k) (s.1.2 41 k) 1 _ _
      rw [hs.1, hs.2]
      refine x_unites (by rw [n1]; exact h24) ha.1 (by rw [n1]; exact ha.2) hb'.1 (by rw [n1]; exact hb'.2) ⟨inI_s (by omega), ?_⟩
      rw [n1, yaR_row, yaR_yaR]
      exact ih (by omega) _ (SC_s hb k0 (by omega) hsc)
  have L10 : ∀ k, 0 ≤ k → k ≤ b.nt → X10 k (yaR (ys s 1 1 b.nt) 1 (upto_row ((ys s 1 1 b.nt).2 1 |>.2 0) (fun x => x) k)) := by
    refine upto (fun k k0 k1 ih => h10 _ _ (x_terms ?_))
    have e31' : (yaR (ys s 1 1 b.nt) 1 (upto_row ((ys s 1 1 b.nt).2 1 |>.2 0) (fun x => x) k)).1.1 31 = b.nt := e31
    rw [e31']
    refine ⟨fun e => L33 0 (Int.le_refl _) h12.1 _ (SC_0 (fun i i0 i1 => upto_in i0 (by omega))), fun e => ⟨⟨k0, by omega⟩, ?_⟩⟩
    rintro _ rfl
    rw [ya_yaR, upto_put k0 rfl]
    exact ⟨inI_s (by omega), ih (by omega)⟩
  have := L10 0 (Int.le_refl _) h24.1
  rw [upto_0, yaR_id] at this
  exact this
theorem x_like01 {s : XS} {K : XS → Prop} {n : Int} (hn : 0 ≤ n ∧ n ≤ 24) (e2 : (s.2 1).1 1 = n) (h : ∀ s', lX s s' → s'.2 1 = s.2 1 → (∀ i, 0 ≤ i → i < n → (s'.2 0).2 0 i = (s.2 1).2 0 i) → K s') : C_X3_like_V01 s K := by
  intro X hX
  have L : ∀ k, 0 ≤ k → k ≤ n → X k (yaR (ys s 0 1 n) 0 (upto_row ((ys s 0 1 n).2 0 |>.2 0) ((s.2 1).2 0) k)) := by
    refine upto (fun k k0 k1 ih => hX _ _ ?_)
    unfold B_X3_like_V01_10
    have e1 : ((yaR (ys s 0 1 n) 0 (upto_row ((ys s 0 1 n).2 0 |>.2 0) ((s.2 1).2 0) k)).2 0).1 1 = n := rfl
    rw [e1]
    refine ⟨fun e => h _ ((lX_ys (Or.inl rfl)).tr (lX_yaR (Or.inl rfl))) rfl (fun i i0 i1 => ?_), fun e => ⟨⟨k0, by omega⟩, ⟨k0, by omega⟩, ?_⟩⟩
    · rw [yaR_row]; exact upto_in i0 (by omega)
    · rintro _ rfl
      rw [ya_yaR]
      show inI (k + 1) ∧ X (k + 1) (yaR (ys s 0 1 n) 0 (iup _ k ((s.2 1).2 0 k)))
      rw [upto_put k0 rfl]
      exact ⟨inI_s (by omega), ih (by omega)⟩
  have h0 := L 0 (by omega) hn.1
  unfold B_X3_like_V01_E
  rintro _ rfl
  rw [e2]
  rw [upto_0, yaR_id] at h0
  exact h0
