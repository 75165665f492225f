/-! THE PURE PART, 5: the paper: by a set of sames; with one more -/
set_option maxRecDepth 100000
theorem lr_congr {n : Int} {r r' : Int → Int} (h : ∀ i, 0 ≤ i → i < n → r' i = r i) (hl : lr n r) : lr n r' := by
  intro t t0 t1
  obtain ⟨a, b, c⟩ := hl t t0 t1
  rw [h t t0 t1]
  refine ⟨a, b, ?_⟩
  rw [h (r t) a (by omega)]
  exact c
theorem sound_congr {b : PB} {n : Int} {E : Int → Int → Prop} {r r' : Int → Int} (h : ∀ i, 0 ≤ i → i < n → r' i = r i) (hs : sound b n E r) : sound b n E r' := by
  intro Q hQ t u t0 t1 u0 u1 e
  rw [h t t0 t1, h u u0 u1] at e
  exact hs Q hQ t u t0 t1 u0 u1 e
theorem alk_congr {b : PB} {n : Int} {r r' : Int → Int} (hb : b.ok) (hn : n ≤ b.nt) (h : ∀ i, 0 ≤ i → i < n → r' i = r i) {t u : Int} (t0 : 0 ≤ t) (t1 : t < n) (u0 : 0 ≤ u) (u1 : u < n) : alk b r' t u ↔ alk b r t u := by
  constructor <;> intro ⟨e, f⟩ <;> refine ⟨e, fun k k0 k1 => ?_⟩ <;> have p1 := hb.pt t t0 (by omega) k k0 k1 <;> have p2 := hb.pt u u0 (by omega) k k0 (by rw [← e]; exact k1) <;> have := f k k0 k1
  · show r _ = r _
    rw [← h _ p1.1 (by omega), ← h _ p2.1 (by omega)]; exact this
  · show r' _ = r' _
    rw [h _ p1.1 (by omega), h _ p2.1 (by omega)]; exact this
theorem closed_congr {b : PB} {n : Int} {r r' : Int → Int} (hb : b.ok) (hn : n ≤ b.nt) (h : ∀ i, 0 ≤ i → i < n → r' i = r i) (hc : closedR b n r) : closedR b n r' := by
  intro t u t0 t1 u0 u1 ha
  rw [h t t0 t1, h u u0 u1]
  exact hc t u t0 t1 u0 u1 ((alk_congr hb hn h t0 t1 u0 u1).mp ha)
theorem sound_mono {b : PB} {n : Int} {E E' : Int → Int → Prop} {r : Int → Int} (h : ∀ t u, E t u → E' t u) (hs : sound b n E r) : sound b n E' r :=
  fun Q hQ => hs Q ⟨hQ.1, hQ.2.1, hQ.2.2.1, fun t u e => hQ.2.2.2.1 t u (h t u e), hQ.2.2.2.2⟩
/-- a plain sheet with a number of terms and a row -/
def psh (s : XS) (n : Int) (r : Int → Int) : XS := (s.1, fun i => if i = 3 then maR (ms (s.2 3) 1 n) 0 r else s.2 i)
theorem psh_1 {s : XS} {n : Int} {r : Int → Int} : ((psh s n r).2 3).1 1 = n := rfl
theorem psh_r {s : XS} {n : Int} {r : Int → Int} : ((psh s n r).2 3).2 0 = r := rfl
theorem psh_o {s : XS} {n : Int} {r : Int → Int} {i : Nat} (h : i ≠ 3) : (psh s n r).2 i = s.2 i := if_neg h
theorem RXb.psh {b : PB} {s : XS} {n : Int} {r : Int → Int} (h : RXb b s) : RXb b (psh s n r) := h.of (fun _ _ => rfl) (fun _ _ => rfl)
theorem yaR_psh {s : XS} {n : Int} {r r' : Int → Int} : yaR (psh s n r) 3 r' = psh s n r' := by
  unfold yaR psh
  refine Prod.ext rfl (funext fun k => ?_)
  show (if k = 3 then maR (maR (ms (s.2 3) 1 n) 0 r) 0 r' else if k = 3 then _ else s.2 k) = if k = 3 then maR (ms (s.2 3) 1 n) 0 r' else s.2 k
  by_cases e : k = 3
  · rw [if_pos e, if_pos e]
    unfold maR
    refine Prod.ext rfl (funext fun k2 => ?_)
    show (if k2 = 0 then r' else if k2 = 0 then r else _) = if k2 = 0 then r' else _
    by_cases e2 : k2 = 0
    · rw [if_pos e2, if_pos e2]
    · rw [if_neg e2, if_neg e2, if_neg e2]
  · rw [if_neg e, if_neg e, if_neg e]
theorem psh_psh {s : XS} {n n' : Int} {r r' : Int → Int} : psh (psh s n r) n' r' = psh s n' r' := by
  unfold psh
  refine Prod.ext rfl (funext fun k => ?_)
  show (if k = 3 then maR (ms (maR (ms (s.2 3) 1 n) 0 r) 1 n') 0 r' else if k = 3 then _ else s.2 k) = if k = 3 then maR (ms (s.2 3) 1 n') 0 r' else s.2 k
  by_cases e : k = 3
  · rw [if_pos e, if_pos e]
    refine Prod.ext (funext fun k2 => ?_) (funext fun k2 => ?_)
    · show (if k2 = 1 then n' else if k2 = 1 then n else (s.2 3).1 k2) = if k2 = 1 then n' else (s.2 3).1 k2
      by_cases e2 : k2 = 1
      · rw [if_pos e2, if_pos e2]
      · rw [if_neg e2, if_neg e2, if_neg e2]
    · show (if k2 = 0 then r' else if k2 = 0 then r else (s.2 3).2 k2) = if k2 = 0 then r' else (s.2 3).2 k2
      by_cases e2 : k2 = 0
      · rw [if_pos e2, if_pos e2]
      · rw [if_neg e2, if_neg e2, if_neg e2]
  · rw [if_neg e, if_neg e, if_neg e]
theorem ya_psh {s : XS} {n : Int} {r : Int → Int} {x v : Int} : ya (psh s n r) 3 0 x v = psh s n (iup r x v) := by
  have h := ya_yaR (s := psh s n r) (j := 3) (r := r) (x := x) (v := v)
  rw [yaR_psh, yaR_psh] at h
  exact h
theorem ys_psh {s : XS} {n : Int} : ys s 3 1 n = psh s n ((s.2 3).2 0) := by
  unfold psh
  refine Prod.ext rfl (funext fun k => ?_)
  show (if k = 3 then ms (s.2 3) 1 n else s.2 k) = if k = 3 then maR (ms (s.2 3) 1 n) 0 ((s.2 3).2 0) else s.2 k
  by_cases e : k = 3
  · rw [if_pos e, if_pos e]
    exact (maR_id (m := ms (s.2 3) 1 n) (j := 0)).symm
  · rw [if_neg e, if_neg e]
theorem x_like2 {s : XS} {K : XS → Prop} {n : Int} (hn : 0 ≤ n ∧ n ≤ 24) (e2 : (s.2 2).1 1 = n) (h : K (psh s n (upto_row ((s.2 3).2 0) ((s.2 2).2 0) n))) : C_X3_like_V32 s K := by
  intro X hX
  have L : ∀ k, 0 ≤ k → k ≤ n → X k (psh s n (upto_row ((s.2 3).2 0) ((s.2 2).2 0) k)) := by
    refine upto (fun k k0 k1 ih => hX _ _ ?_)
    unfold B_X3_like_V32_10
    rw [psh_1]
    refine ⟨fun e => by rw [show k = n by omega]; exact h, fun e => ⟨⟨k0, by omega⟩, ⟨k0, by omega⟩, ?_⟩⟩
    rintro _ rfl
    rw [ya_psh, psh_o (by decide), upto_put k0 rfl]
    exact ⟨inI_s (by omega), ih (by omega)⟩
  have h0 := L 0 (by omega) hn.1
  unfold B_X3_like_V32_E
  rintro _ rfl
  rw [e2, ys_psh]
  rw [upto_0] at h0
  exact h0
theorem x_like4 {s : XS} {K : XS → Prop} {n : Int} (hn : 0 ≤ n ∧ n ≤ 24) (e2 : (s.2 4).1 1 = n) (h : K (psh s n (upto_row ((s.2 3).2 0) ((s.2 4).2 0) n))) : C_X3_like_V34 s K := by
  intro X hX
  have L : ∀ k, 0 ≤ k → k ≤ n → X k (psh s n (upto_row ((s.2 3).2 0) ((s.2 4).2 0) k)) := by
    refine upto (fun k k0 k1 ih => hX _ _ ?_)
    unfold B_X3_like_V34_10
    rw [psh_1]
    refine ⟨fun e => by rw [show k = n by omega]; exact h, fun e => ⟨⟨k0, by omega⟩, ⟨k0, by omega⟩, ?_⟩⟩
    rintro _ rfl
    rw [ya_psh, psh_o (by decide), upto_put k0 rfl]
    exact ⟨inI_s (by omega), ih (by omega)⟩
  have h0 := L 0 (by omega) hn.1
  unfold B_X3_like_V34_E
  rintro _ rfl
  rw [e2, ys_psh]
  rw [upto_0] at h0
  exact h0
theorem x_same {b : PB} {j : Nat} {s : XS} {K : XS → Prop} {E : Int → Int → Prop} {t u c : Int} (hb : b.ok) (hr : RXb b s) (hn : 0 ≤ (s.2 j).1 1 ∧ (s.2 j).1 1 ≤ b.nt) (hl : lr ((s.2 j).1 1) ((s.2 j).2 0)) (hs : sound b ((s.2 j).1 1) E ((s.2 j).2 0)) (hc : closedR b ((s.2 j).1 1) ((s.2 j).2 0)) (t0 : 0 ≤ t) (t1 : t < (s.2 j).1 1) (u0 : 0 ≤ u) (u1 : u < (s.2 j).1 1) (hq : ∀ Q, cg b ((s.2 j).1 1) E Q → Q t u) (h : ∀ r', toClosed b ((s.2 j).1 1) E ((s.2 j).2 0) r' → r' t = r' u → K (yaR s j r')) : C_X4_same_P t u c j s K := by
  have h24 := hb.nt
  unfold C_X4_same_P B_X4_same_P_E
  refine x_areOne ⟨t0, by omega⟩ ⟨u0, by omega⟩ (fun e => ⟨fun e2 => absurd e2 (by decide), fun _ => ?_⟩) (fun e => ⟨fun _ => ?_, fun e2 => absurd rfl e2⟩)
  · have := h _ ⟨hl, hs, hc, fun _ _ _ _ _ _ e => e, fun _ _ => rfl⟩ e
    rw [yaR_id] at this
    exact this
  · refine x_unites ⟨hn.1, by omega⟩ t0 t1 u0 u1 ?_
    refine x_closes (E := E) hb hr.yaR (by rw [yaR_at]; exact hn) (by rw [yaR_at, maR_at]; exact un_lr hl t0 t1 u0 u1) (by rw [yaR_at, maR_at]; exact un_sound hs t0 t1 u0 u1 hq) (fun r' hr' => ?_)
    rw [yaR_at, maR_at] at hr'
    rw [yaR_yaR]
    have hr' : toClosed b ((s.2 j).1 1) E (un ((s.2 j).1 1) ((s.2 j).2 0) t u) r' := hr'
    obtain ⟨a1, a2, a3, a4, a5⟩ := hr'
    exact h r' ⟨a1, a2, a3, fun x y x0 x1 y0 y1 e => a4 x y x0 x1 y0 y1 (un_keeps x0 x1 y0 y1 e), fun i hi => (a5 i hi).trans (un_out hi)⟩ (a4 t u t0 t1 u0 u1 (un_joins t0 t1 u0 u1))
/-- the pairs of a set of sames -/
def bit (S k : Int) : Prop := jand (jshr S k) 1 = 1
def ES (b : PB) (S : Int) (t u : Int) : Prop := ∃ k, 0 ≤ k ∧ k < b.ns ∧ bit S k ∧ t = b.sa k ∧ u = b.sb k
def E0 (_ _ : Int) : Prop := False
theorem x_by {b : PB} {s : XS} {K : XS → Prop} {S : Int} (hb : b.ok) (hr : RXb b s) (hn : (s.2 2).1 1 = b.nt) (hg : good b b.nt E0 ((s.2 2).2 0)) (h : ∀ r, good b b.nt (ES b S) r → K (psh s b.nt r)) : C_X1_by S s K := by
  intro X hX
  have h24 := hb.nt
  have h12 := hb.ns
  have hr' := hr
  obtain ⟨⟨a1, a2, a3, a4⟩, ⟨b1, b2, b3, b4⟩, ⟨c1, c2, c3, c4⟩, d, e, f, g⟩ := hr'
  have L : ∀ k, 0 ≤ k → k ≤ b.ns → ∀ r, lr b.nt r → sound b b.nt (ES b S) r → closedR b b.nt r → (∀ i, 0 ≤ i → i < k → bit S i → r (b.sa i) = r (b.sb i)) → X S k (psh s b.nt r) := by
    refine upto (fun k k0 k1 ih r r1 r2 r3 r4 => hX _ _ _ ?_)
    show B_X1_by_13 X K S k (psh s b.nt r)
    unfold B_X1_by_13 C_X1_sames B_X1_sames_E C_X1_has B_X1_has_E
    rw [show (psh s b.nt r).1.1 32 = b.ns from a3]
    refine ⟨fun e => h r ⟨r1, r2, ?_, r3⟩, fun e => ⟨fun hbit => ⟨fun e => absurd e (by decide), fun _ => ?_⟩, fun hbit => ⟨fun _ => ⟨inI_s (by omega), ih (by omega) r r1 r2 r3 (fun i i0 i1 hi => ?_)⟩, fun e => absurd rfl e⟩⟩⟩
    · rintro t u ⟨i, i0, i1, hi, rfl, rfl⟩
      exact r4 i i0 (by omega) hi
    · have fk := f k k0 (by omega)
      have s1 := hb.sa k k0 (by omega)
      have s2 := hb.sb k k0 (by omega)
      have b3' : b.ns ≤ (psh s b.nt r).1.1 42 := b3
      rw [show (psh s b.nt r).1.2 40 k = b.sa k from fk.1, show (psh s b.nt r).1.2 41 k = b.sb k from fk.2]
      refine ⟨⟨⟨k0, by omega⟩, c3⟩, ⟨k0, by omega⟩, ⟨k0, by omega⟩, ⟨⟨k0, by omega⟩, c3⟩, ⟨k0, by omega⟩, ⟨k0, by omega⟩, ?_⟩
      refine x_same (E := ES b S) hb hr.psh ⟨h24.1, Int.le_refl _⟩ r1 r2 r3 s1.1 s1.2 s2.1 s2.2 (fun Q hQ => hQ.has _ _ ⟨k, k0, by omega, hbit, rfl, rfl⟩) (fun r' hr' he => ?_)
      rw [yaR_psh]
      obtain ⟨q1, q2, q3, q4, q5⟩ := hr'
      refine ⟨inI_s (by omega), ih (by omega) r' q1 q2 q3 (fun i i0 i1 hi => ?_)⟩
      by_cases ei : i = k
      · rw [ei]; exact he
      · have t1 := hb.sa i i0 (by omega)
        have t2 := hb.sb i i0 (by omega)
        exact q4 _ _ t1.1 t1.2 t2.1 t2.2 (r4 i i0 (by omega) hi)
    · by_cases ei : i = k
      · exact absurd (by rw [ei] at hi; exact hi) hbit
      · exact r4 i i0 (by omega) hi
  refine x_like2 h24 hn ?_
  have hrow : ∀ i, 0 ≤ i → i < b.nt → upto_row ((s.2 3).2 0) ((s.2 2).2 0) b.nt i = (s.2 2).2 0 i := fun i i0 i1 => upto_in i0 i1
  exact L 0 (by omega) h12.1 _ (lr_congr hrow hg.lr) (sound_congr hrow (sound_mono (fun _ _ q => q.elim) hg.sound)) (closed_congr hb (Int.le_refl _) hrow hg.closed) (fun i i0 i1 => by omega)
/-- all there is and one more -/
def E1 (E : Int → Int → Prop) (t u : Int) (x y : Int) : Prop := E x y ∨ (x = t ∧ y = u)
theorem x_with {b : PB} {s : XS} {K : XS → Prop} {E : Int → Int → Prop} {t u : Int} (hb : b.ok) (hr : RXb b s) (hn : (s.2 4).1 1 = b.nt) (hg : good b b.nt E ((s.2 4).2 0)) (hE : ∀ x y, E x y → (0 ≤ x ∧ x < b.nt) ∧ 0 ≤ y ∧ y < b.nt) (t0 : 0 ≤ t) (t1 : t < b.nt) (u0 : 0 ≤ u) (u1 : u < b.nt) (h : ∀ r, good b b.nt (E1 E t u) r → K (psh s b.nt r)) : C_X1_with t u s K := by
  have h24 := hb.nt
  refine x_like4 h24 hn ?_
  have hrow : ∀ i, 0 ≤ i → i < b.nt → upto_row ((s.2 3).2 0) ((s.2 4).2 0) b.nt i = (s.2 4).2 0 i := fun i i0 i1 => upto_in i0 i1
  refine x_same (E := E1 E t u) hb hr.psh ⟨h24.1, Int.le_refl _⟩ (lr_congr hrow hg.lr) (sound_congr hrow (sound_mono (fun _ _ q => Or.inl q) hg.sound)) (closed_congr hb (Int.le_refl _) hrow hg.closed) t0 t1 u0 u1 (fun Q hQ => hQ.has _ _ (Or.inr ⟨rfl, rfl⟩)) (fun r' hr' he => ?_)
  rw [yaR_psh]
  obtain ⟨q1, q2, q3, q4, q5⟩ := hr'
  refine h r' ⟨q1, q2, fun x y hxy => ?_, q3⟩
  rcases hxy with hxy | ⟨rfl, rfl⟩
  · obtain ⟨⟨x0, x1⟩, y0, y1⟩ := hE x y hxy
    refine q4 x y x0 x1 y0 y1 ?_
    show upto_row _ _ _ _ = upto_row _ _ _ _
    rw [hrow x x0 x1, hrow y y0 y1]
    exact hg.has x y hxy
  · exact he
