/-! THE PURE PART, 48: texts: the system takes the order's rows -/
set_option maxRecDepth 100000
theorem agR_sub {r : MS} {z z' : ZS} (h : agR r z) (h' : agR r z') (hb : (bkM z'.1).ok) (hn : z.1.1 27 ≤ z'.1.1 27) : subB (bkM z'.1) z := by
  obtain ⟨⟨a1, a2⟩, a3, a4, a5⟩ := h
  obtain ⟨⟨b1, b2⟩, b3, b4, b5⟩ := h'
  refine ⟨hb, hn, fun t t0 t1 => ?_⟩
  obtain ⟨c1, c2, c3, c4⟩ := a3 t t0 t1
  obtain ⟨d1, d2, d3, d4⟩ := b3 t t0 (by omega)
  refine ⟨show z'.1.2 28 t = z.1.2 28 t by rw [c1, d1], ?_, fun k k0 k1 => ?_⟩
  · show z'.1.2 7 (z'.1.2 28 t) = z.1.2 7 (z.1.2 28 t)
    rw [c1, d1, a2 _ c2.1 c2.2, b2 _ c2.1 c2.2]
  · have k1 : k < z.1.2 7 (z.1.2 28 t) := k1
    rw [c1, a2 _ c2.1 c2.2] at k1
    show z'.1.2 29 (3 * t + k) = z.1.2 29 (3 * t + k)
    rw [c4 k k0 k1, d4 k k0 k1]
theorem text_order {r m : MS} {z0 : ZS} {W : Int → Int → Int} {R : Nat} {b : PB} {s0 : XS} (h0 : fullZ z0) (e6 : z0.1.1 6 = r.1 30) (e0 : z0.1.1 27 = 0 ∧ z0.1.1 30 = 0 ∧ z0.1.1 33 = 0) (e7 : ∀ f, 0 ≤ f → f < r.1 30 → z0.1.2 7 f = r.2 31 f) (hf : ∀ f, 0 ≤ f → f < r.1 30 → r.2 31 f ≤ 3) (hW : ∀ k : Nat, k < R → W (k : Int) 0 = m.2 10 (48 + (k : Int)) ∧ ∀ i, 0 ≤ i → i < 4 → W (k : Int) (1 + i) = m.2 11 (4 * (48 + (k : Int)) + i))
    (hN : r.1 31 ≤ 24) (hS : r.1 32 ≤ 12) (hD : r.1 33 ≤ 8) (hb : b.ok) (hrx : RXb b s0) (hsub : ∀ k, k ≤ R → subB b (runZ z0 W k)) (h34 : s0.1.1 34 = r.1 31 + r.1 32) (hx4 : xok s0 4) (h44 : ∀ x, 0 ≤ x → x < r.1 31 + r.1 32 → s0.1.2 44 x = r.2 44 x ∧ -128 ≤ r.2 44 x ∧ r.2 44 x < 128) (h40 : ∀ k, 0 ≤ k → k < r.1 32 → s0.1.2 40 k = r.2 40 k ∧ s0.1.2 41 k = r.2 41 k) (e32 : s0.1.1 32 = r.1 32 ∧ r.1 32 ≤ s0.1.1 42) (hT : Tr s0) (hRN : RN s0 z0) (hTB : TB s0 z0) :
    ∀ (k : Nat) (t s d : Int), k ≤ R → t ≤ r.1 31 → s ≤ r.1 32 → d ≤ r.1 33 → RW r m k t s d → ∃ sk, Pt s0 sk ∧ TB sk (runZ z0 W k) ∧ RN sk (runZ z0 W k) ∧ ∀ (X139 X227 : Int → Nat → Nat → XS → Prop) (K : Int → XS → Prop) (kc ks : Nat), (∀ (x2 : Int) (kc ks : Nat) (s0 : XS), B_X1_text_139 X139 X227 K x2 kc ks s0 → X139 x2 kc ks s0) → 5 - xq s0 ≤ kc → xtl (5 + 1) - xtl (xq s0 + 1) ≤ ks → (∀ kc' ks', 5 - xq sk ≤ kc' → xtl (5 + 1) - xtl (xq sk + 1) ≤ ks' → X139 (t + s) kc' ks' sk) → X139 0 kc ks s0 := by
  intro k
  induction k with
  | zero =>
    rintro t s d - - - - ⟨rfl, rfl, rfl⟩
    exact ⟨s0, Pt.rf hT, hTB, hRN, fun X139 X227 K kc ks _ h1 h2 h3 => h3 kc ks h1 h2⟩
  | succ k ih =>
    intro t s d hk ht hs hd h
    have hpos := RW_pos (k + 1) t s d h
    obtain ⟨ok1, -, ag1⟩ := rows_run h0 e6 e0 e7 hf hW (k + 1) t s d hk (by omega) (by omega) (by omega) h
    have okk := ok1 k (by omega)
    have ok0 : okRun z0 W k := fun j hj => ok1 j (by omega)
    have hz := runZ_full h0 k ok0
    have h24 : 0 ≤ (runZ z0 W k).1.1 27 ∧ (runZ z0 W k).1.1 27 ≤ 24 := hz.1.ok.nt
    have w0 := (hW k (by omega)).1
    have w1 := (hW k (by omega)).2 0 (by decide) (by decide)
    have w2 := (hW k (by omega)).2 1 (by decide) (by decide)
    have w1 : W (k : Int) 1 = m.2 11 (4 * (48 + (k : Int))) := by rw [show (4 * (48 + (k : Int))) = 4 * (48 + (k : Int)) + 0 by omega]; exact w1
    have w2 : W (k : Int) 2 = m.2 11 (4 * (48 + (k : Int)) + 1) := w2
    rcases h with ⟨g1, g2, g3, g4, g5, g6, g7⟩ | ⟨g1, g2, g3, g4, g5, g6⟩ | ⟨g1, g2, g3, g4, g5⟩
    · -- a term comes
      have hp := RW_pos _ _ _ _ g2
      obtain ⟨-, ⟨n1, n2, n3⟩, -⟩ := rows_run h0 e6 e0 e7 hf hW k _ _ _ (by omega) (by omega) (by omega) (by omega) g2
      obtain ⟨sk, p1, p2, p3, p4⟩ := ih _ _ _ (by omega) (by omega) hs hd g2
      have v0 : W (k : Int) 0 = 0 := w0.trans g1
      obtain ⟨a1, a2, a3⟩ := okk.1 v0
      have hT' := termZ_wf (p := fun i => W (k : Int) (2 + i)) hz.1 a1 a2 a3
      obtain ⟨c1, c2, c3, c4, c5⟩ := closeZ_spec 24 _ hT' (gr24 hT')
      have es : runZ z0 W (k + 1) = closeZ 24 (termZ (runZ z0 W k) (W (k : Int) 1) (fun i => W (k : Int) (2 + i))) := by
        show stepZ (runZ z0 W k) (W (k : Int)) = _
        unfold stepZ
        rw [if_pos v0]
      have hsb := hsub (k + 1) hk
      rw [es] at hsb
      have hsb' : subB b (termZ (runZ z0 W k) (W (k : Int) 1) (fun i => W (k : Int) (2 + i))) := by
        unfold subB at hsb ⊢
        rw [c3.2.2, c3.1 27 (by decide)] at hsb
        exact hsb
      have hrk : RXb b sk := hrx.of (fun _ _ => by rw [p1.1.1]) (fun _ _ => by rw [p1.1.1])
      have hTk : Tr sk := p1.2.2.2.2.2.2
      obtain ⟨s', q1, q2, q3, q4⟩ := rn_comes hz.1 hT' hsb' hrk hTk p3 p2 a1
      refine ⟨s', p1.tr q2, by rw [es]; exact q3, by rw [es]; exact q4, fun X139 X227 K kc ks hX hc hs' hgo => p4 X139 X227 K kc ks hX hc hs' (fun kc' ks' hc' hs'' => hX _ _ _ _ ?_)⟩
      have e34 : sk.1.1 34 = r.1 31 + r.1 32 := by rw [p1.1.1]; exact h34
      have hxo := h44 (t - 1 + s) (by omega) (by omega)
      rw [g3] at hxo
      have e44 : sk.1.2 44 (t - 1 + s) = -1 := by rw [p1.1.1]; exact hxo.1
      unfold B_X1_text_139
      rw [e34, e44]
      refine ⟨fun q => absurd q (by rw [if_neg (by omega)]; decide), fun _ => ⟨⟨⟨by omega, by omega⟩, by unfold xok at hx4 ⊢; rw [p1.1.1]; exact hx4⟩, by decide, by decide, by decide, fun _ => ?_, fun q => absurd rfl q⟩⟩
      have hm5 := q2.2.2.2.2.2.2.1
      refine rn_use (q2 := 5) (R := fun kc ks s22 => s22.1.1 74 = sk.1.1 74 ∧ X139 (t - 1 + s + 1) kc ks s22) q1 (by omega) (by omega) hs'' (fun kc2 ks2 h1 h2 => ⟨by rw [q2.1.1], ?_⟩)
      rw [show t - 1 + s + 1 = t + s by omega]
      exact hgo kc2 ks2 (by omega) h2
    · -- a same
      have hp := RW_pos _ _ _ _ g2
      obtain ⟨-, ⟨n1, n2, n3⟩, -⟩ := rows_run h0 e6 e0 e7 hf hW k _ _ _ (by omega) (by omega) (by omega) (by omega) g2
      obtain ⟨sk, p1, p2, p3, p4⟩ := ih _ _ _ (by omega) ht (by omega) hd g2
      have v0 : W (k : Int) 0 = 1 := w0.trans g1
      have v1 : W (k : Int) 1 = r.2 40 (s - 1) := w1.trans g5
      have v2 : W (k : Int) 2 = r.2 41 (s - 1) := w2.trans g6
      obtain ⟨a1, a2, a3⟩ := okk.2.1 v0
      have hTs := sameZ_wf hz.1 a1 a2 a3
      have es : runZ z0 W (k + 1) = askZ (sameZ (runZ z0 W k) (W (k : Int) 1) (W (k : Int) 2)) (W (k : Int) 1) (W (k : Int) 2) ((runZ z0 W k).1.1 30) := by
        show stepZ (runZ z0 W k) (W (k : Int)) = _
        unfold stepZ
        rw [if_neg (by omega), if_pos v0]
        rfl
      have hsb := hsub k (by omega)
      have hrk : RXb b sk := hrx.of (fun _ _ => by rw [p1.1.1]) (fun _ _ => by rw [p1.1.1])
      have hTk : Tr sk := p1.2.2.2.2.2.2
      obtain ⟨s', q1, q2, q3, q4⟩ := rn_same (z := sameZ (runZ z0 W k) (W (k : Int) 1) (W (k : Int) 2)) (t := W (k : Int) 1) (u := W (k : Int) 2) (c := (runZ z0 W k).1.1 30) hTs hsb hrk hTk p3 p2 a2.1 a2.2 a3.1 a3.2 (by omega)
      rw [← es] at q3 q4
      refine ⟨s', p1.tr q2, q3, q4, fun X139 X227 K kc ks hX hc hs' hgo => p4 X139 X227 K kc ks hX hc hs' (fun kc' ks' hc' hs'' => hX _ _ _ _ ?_)⟩
      have e34 : sk.1.1 34 = r.1 31 + r.1 32 := by rw [p1.1.1]; exact h34
      have hxo := h44 (t + (s - 1)) (by omega) (by omega)
      rw [g3] at hxo
      have e44 : sk.1.2 44 (t + (s - 1)) = s - 1 := by rw [p1.1.1]; exact hxo.1
      have e40 := h40 (s - 1) (by omega) (by omega)
      have f40 : sk.1.2 40 (s - 1) = W (k : Int) 1 := by rw [p1.1.1, v1]; exact e40.1
      have f41 : sk.1.2 41 (s - 1) = W (k : Int) 2 := by rw [p1.1.1, v2]; exact e40.2
      have k32 : sk.1.1 32 = r.1 32 := by rw [p1.1.1]; exact e32.1
      have k42 : r.1 32 ≤ sk.1.1 42 := by rw [p1.1.1]; exact e32.2
      unfold B_X1_text_139
      rw [e34, e44]
      have hsv : 0 ≤ s - 1 ∧ s - 1 < sk.1.1 32 := ⟨by omega, by omega⟩
      have hsv2 : 0 ≤ s - 1 ∧ s - 1 < sk.1.1 42 := ⟨by omega, by omega⟩
      refine ⟨fun q => absurd q (by rw [if_neg (by omega)]; decide), fun _ => ⟨⟨⟨by omega, by omega⟩, by unfold xok at hx4 ⊢; rw [p1.1.1]; exact hx4⟩, hxo.2, by omega, hxo.2, fun q => absurd q (by omega), fun _ => ⟨⟨hsv, hrk.2.2.1.2.2.1⟩, hsv2, hsv2, ⟨hsv, hrk.2.2.1.2.2.1⟩, hsv2, hsv2, ?_⟩⟩⟩
      rw [f40, f41]
      have hm5 := q2.2.2.2.2.2.2.1
      have ec : (runZ z0 W k).1.1 30 = s - 1 := n2
      rw [ec] at q1
      refine rn_use (q2 := 5) (R := fun kc ks s22 => s22.1.1 74 = sk.1.1 74 ∧ X139 (t + (s - 1) + 1) kc ks s22) q1 (by omega) (by omega) hs'' (fun kc2 ks2 h1 h2 => ⟨by rw [q2.1.1], ?_⟩)
      rw [show t + (s - 1) + 1 = t + s by omega]
      exact hgo kc2 ks2 (by omega) h2
    · -- a difference
      have v0 : W (k : Int) 0 = 2 := w0.trans g1
      obtain ⟨sk, p1, p2, p3, p4⟩ := ih _ _ _ (by omega) ht hs (by omega) g2
      have es : runZ z0 W (k + 1) = diffZ (runZ z0 W k) (W (k : Int) 1) (W (k : Int) 2) := by
        show stepZ (runZ z0 W k) (W (k : Int)) = _
        unfold stepZ
        rw [if_neg (by omega), if_neg (by omega)]
      exact ⟨sk, p1, by rw [es]; exact p2, by rw [es]; exact p3, p4⟩
/-- the bare sheet's loop behind -/
theorem text_bare {b : PB} {X139 X227 : Int → Nat → Nat → XS → Prop} {K : Int → XS → Prop} {kc ks : Nat} {s : XS} (hX : ∀ (x2 : Int) (kc ks : Nat) (s0 : XS), B_X1_text_227 X139 X227 K x2 kc ks s0 → X227 x2 kc ks s0) (hb : b.ok) (hr : RXb b s) (h1 : (s.2 2).1 1 = 0) (hK : ∀ s', bareX s s' → (s'.2 2).1 1 = b.nt → good b b.nt E0 ((s'.2 2).2 0) → K b.nt (xfin (xs s' 12 0))) : X227 0 kc ks s := by
  have h24 := hb.nt
  have L : ∀ k, 0 ≤ k → k ≤ b.nt → ∀ s1, bareX s s1 → (s1.2 2).1 1 = k → good b k E0 ((s1.2 2).2 0) → X227 k kc ks s1 := by
    refine upto (fun k k0 k1 ih s1 q1 q2 q3 => hX _ _ _ _ ?_)
    have e31 : s1.1.1 31 = b.nt := (q1.rxb hr).1.2.1
    unfold B_X1_text_227
    rw [e31]
    refine ⟨fun e => ?_, fun e => ?_⟩
    · have : k = b.nt := by omega
      rw [this] at q2 q3
      rintro _ rfl
      have e : (xs s1 12 0).1.1 31 = b.nt := e31
      rw [e]
      exact x_fine (hK s1 q1 q2 q3)
    · exact x_comesP hb (q1.rxb hr) ⟨k0, by omega⟩ q2 q3.lr q3.sound (fun s2 p1 p2 p3 => ⟨inI_s (by omega), ih (by omega) s2 (q1.tr p1) p2 p3⟩)
  exact L 0 (by omega) h24.1 s ⟨rfl, fun j hj => rfl⟩ h1 ⟨fun t t0 t1 => by omega, fun Q hQ t u t0 t1 => by omega, fun t u e => e.elim, fun t u t0 t1 => by omega⟩
