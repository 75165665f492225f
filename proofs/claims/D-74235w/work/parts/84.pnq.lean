/-! THE PURE PART, 25: next -/
set_option maxRecDepth 100000
theorem backX_1 {s : XS} {k : Nat} : (backX s k).1 = s.1 := rfl
theorem back_eqW {s s1 : XS} (hT : Tr s) (h : Pt s s1) (e1 : (s1.2 4).1 1 = (s.2 4).1 1) (h7 : ∀ k, 0 ≤ k → k < (s.2 4).1 10 → (s1.2 4).2 7 k = (s.2 4).2 7 k ∧ (s1.2 4).2 8 k = (s.2 4).2 8 k ∧ (s1.2 4).2 9 k = (s.2 4).2 9 k) : ∃ p : Nat, trl s1 = trl s + 3 * p ∧ eqW s (ys (backX s1 p) 4 10 ((s.2 4).1 10)) := by
  obtain ⟨⟨a1, a2⟩, a3, a4, ⟨a0, p, a5, a6⟩, a7, a8, a9⟩ := h
  refine ⟨p, a5, ?_⟩
  have e3 : trl (ys (backX s1 p) 4 10 ((s.2 4).1 10)) = trl s := by
    show trl s1 - 3 * (p : Int) = trl s
    omega
  have eq : xq (ys (backX s1 p) 4 10 ((s.2 4).1 10)) = xq s1 := rfl
  have eT : trT (ys (backX s1 p) 4 10 ((s.2 4).1 10)) = trT s1 := rbR_o p (trl s1) (s1.2 4).2 (100 + xq s1) (by omega)
  refine ⟨fun k h0 h1 => ?_, fun k _ _ _ _ _ => ?_, ?_, ⟨e1, rfl, e3⟩, fun j hj => a6 j hj, fun k k0 k1 => ?_, ?_, fun i i0 i1 => ?_⟩
  · show s1.1.1 k = s.1.1 k
    rw [a1]
  · show s1.1.2 k = s.1.2 k
    rw [a1]
  · show s1.2 2 = s.2 2
    exact a2 2 (by decide)
  · have := h7 k k0 k1
    have r7 : ((ys (backX s1 p) 4 10 ((s.2 4).1 10)).2 4).2 7 = (s1.2 4).2 7 := rbR_o p (trl s1) (s1.2 4).2 7 (by decide)
    have r8 : ((ys (backX s1 p) 4 10 ((s.2 4).1 10)).2 4).2 8 = (s1.2 4).2 8 := rbR_o p (trl s1) (s1.2 4).2 8 (by decide)
    have r9 : ((ys (backX s1 p) 4 10 ((s.2 4).1 10)).2 4).2 9 = (s1.2 4).2 9 := rbR_o p (trl s1) (s1.2 4).2 9 (by decide)
    rw [r7, r8, r9]
    exact this
  · obtain ⟨t1, t2, t3, t4⟩ := a9
    obtain ⟨-, ⟨n, u2⟩, -, u4⟩ := hT
    refine ⟨t1, ⟨n, by rw [e3]; exact u2⟩, by rw [e3, eq]; omega, fun k hk => ?_⟩
    rw [e3] at hk
    rw [eT]
    exact t4 k (by omega)
  · rw [eT]; exact a7 i i0 i1
theorem eqW.xy {s s1 s2 : XS} (h : eqW s s1) (g : eqX s1 s2) : eqW s s2 := by
  obtain ⟨g1, g2, g3, ⟨g4, g5, g6⟩, g7, g8, g9, g10⟩ := g.w h.2.2.2.2.2.2.1
  obtain ⟨h1, h2, h3, ⟨h4, h5, h6⟩, h7, h8, h9, h10⟩ := h
  exact ⟨fun k a b => (g1 k a b).trans (h1 k a b), fun k a b c d e => (g2 k a b c d e).trans (h2 k a b c d e), g3.trans h3, ⟨g4.trans h4, g5.trans h5, g6.trans h6⟩, fun j hj => (g7 j hj).trans (h7 j hj), fun k k0 k1 => ⟨(g8 k k0 (by omega)).1.trans (h8 k k0 k1).1, (g8 k k0 (by omega)).2.1.trans (h8 k k0 k1).2.1, (g8 k k0 (by omega)).2.2.trans (h8 k k0 k1).2.2⟩, g9, fun i i0 i1 => (g10 i i0 (by omega)).trans (h10 i i0 i1)⟩
theorem askZ_wf {z : ZS} {a b c : Int} (hw : wfZ z) (a0 : 0 ≤ a) (a1 : a < z.1.1 27) (b0 : 0 ≤ b) (b1 : b < z.1.1 27) (hc : 0 ≤ c ∧ c ≤ 12) : wfZ (askZ z a b c) ∧ jfr z (askZ z a b c) ∧ z.1.1 39 ≤ (askZ z a b c).1.1 39 ∧ (∀ k, 0 ≤ k → k < z.1.1 39 → (askZ z a b c).1.2 40 k = z.1.2 40 k ∧ (askZ z a b c).1.2 41 k = z.1.2 41 k ∧ (askZ z a b c).1.2 42 k = z.1.2 42 k) ∧ ∀ k, z.1.1 39 ≤ k → k < (askZ z a b c).1.1 39 → (askZ z a b c).1.2 42 k = if k = z.1.1 39 then c else -2 := by
  unfold askZ
  by_cases e : z.1.2 36 a = z.1.2 36 b
  · rw [if_pos e]
    exact ⟨hw, jfr.rf, Int.le_refl _, fun _ _ _ => ⟨rfl, rfl, rfl⟩, fun k h1 h2 => by omega⟩
  · rw [if_neg e]
    have hJ := joinZ_wf (c := c) hw a0 a1 b0 b1 e (Or.inr hc)
    obtain ⟨g1, g2, g3, g4, g5⟩ := closeZ_spec 24 _ hJ (gr24 hJ)
    obtain ⟨j1, j2, j3⟩ := closeZ_joins 24 (joinZ z a b c)
    have j3 : z.1.1 39 + 1 ≤ (closeZ 24 (joinZ z a b c)).1.1 39 := j3
    have hj := hw.nj
    refine ⟨g1, joinZ_fr.tr g3, by omega, fun k k0 k1 => ?_, fun k k0 k1 => ?_⟩
    · obtain ⟨a1, a2, a3⟩ := j1 k k0 (show k < z.1.1 39 + 1 by omega)
      rw [a1, a2, a3]
      exact ⟨iup_ne (by omega), iup_ne (by omega), iup_ne (by omega)⟩
    · by_cases e2 : k = z.1.1 39
      · obtain ⟨a1, a2, a3⟩ := j1 k (by omega) (show k < z.1.1 39 + 1 by omega)
        rw [a3, if_pos e2, e2]
        exact iup_at
      · rw [if_neg e2]
        exact j2 k (show z.1.1 39 + 1 ≤ k by omega) k1
/-- what the parts of the relation say of what stands -/
def JZ (s : XS) (m : MS) (z : ZS) : Prop := fullZ z ∧ agB m z.1 ∧ agN m z.1 ∧ RXb (bkM m) s ∧ RN s z ∧ Tr s ∧ TB s z
theorem JZ.sub {s : XS} {m : MS} {z : ZS} (h : JZ s m z) : subB (bkM m) z := by
  obtain ⟨h1, h2, -⟩ := h
  have hb := h1.1.ok
  refine ⟨h2.ok hb, Int.le_of_eq h2.1.2.1.symm, fun t t0 t1 => ⟨h2.fn t0 t1, h2.tkf hb t0 t1, fun k k0 k1 => h2.pt t0 t1 k0 k1⟩⟩
theorem JZ.b {s : XS} {m : MS} {z : ZS} (h : JZ s m z) : JB s m := ⟨h.2.1.ok h.1.1.ok, h.2.2.2.1⟩
theorem JZ.n {s : XS} {m : MS} {z : ZS} (h : JZ s m z) : JN s m := by
  obtain ⟨h1, h2, ⟨n1, n2, n3⟩, h4, ⟨r1, ⟨r2, r3⟩, r4, r5⟩, -⟩ := h
  have e27 : m.1 27 = z.1.1 27 := h2.1.2.1
  refine ⟨r1.trans e27.symm, fun t t0 t1 => ?_, r4.trans n1.symm, fun k k0 k1 => ?_⟩
  · obtain ⟨a1, a2, a3⟩ := n2 t t0 (by omega)
    obtain ⟨b1, b2, b3⟩ := r2 t t0 (by omega)
    rw [a1, a2, b1, b2]
    refine ⟨rfl, rfl, fun q => ?_⟩
    rw [a3 q, b3 q]
  · obtain ⟨a1, a2, a3, a4⟩ := n3 k k0 (by omega)
    obtain ⟨b1, b2, b3⟩ := r5 k k0 (by omega)
    rw [a1, a2, a3, b1, b2, b3]
    exact ⟨rfl, rfl, rfl⟩
theorem xtl_6 {q q' : Nat} (h : q' ≤ 5) : xtl (q' + 1) - xtl (q + 1) ≤ 19200 := by
  have := xtl_mono (show q' + 1 ≤ 6 by omega)
  have : xtl 6 = 19200 := by decide
  omega
theorem jwrap_id {x : Int} (h : inI x) : jwrap x = x := e_ti h
theorem p_next {a : Int → Int} {s : XS} {m : MS} {z : ZS} {KN : XS → MS → Prop} (hi : ∀ k, inI (a k)) (hJ : JZ s m z) (hK : keepsW s m KN) : C_law_28 a s m KN := by
  obtain ⟨hb, hr⟩ := hJ.b
  have hsub := hJ.sub
  obtain ⟨h1, h2, h3, h4, h5, h6, h7⟩ := hJ
  have h24 := hb.nt
  have hnt : (bkM m).nt = m.1 27 := rfl
  have e27 : m.1 27 = z.1.1 27 := h2.1.2.1
  have ex : s.1.1 31 = m.1 27 := hr.1.2.1
  have hKJ := hK.x h6
  by_cases hv : ((0 ≤ a 1 ∧ a 1 < m.1 27) ∧ 0 ≤ a 2 ∧ a 2 < m.1 27) ∧ 0 ≤ a 3 ∧ 0 ≤ a 4 ∧ a 4 ≤ 2
  · obtain ⟨⟨v1, v2⟩, v3, v4⟩ := hv
    obtain ⟨s1, q1, p1, w1, w2⟩ := rn_same (c := 12) h1.1 hsub hr h6 h5 h7 v1.1 (by omega) v2.1 (by omega) (by decide)
    obtain ⟨z1, z2, z3, z4, z5⟩ := askZ_wf (c := 12) h1.1 v1.1 (show a 1 < z.1.1 27 by omega) v2.1 (show a 2 < z.1.1 27 by omega) (by decide)
    have i1 : (s1.2 4).1 1 = (s.2 4).1 1 := by rw [w2.1, h5.1, z2.1 27 (by decide)]
    obtain ⟨p, e3, hE⟩ := back_eqW h6 p1 i1 (fun k k0 k1 => by
      have k1 : k < z.1.1 39 := by rw [← h5.2.2.1]; exact k1
      obtain ⟨a1, a2, a3⟩ := h5.2.2.2 k k0 k1
      obtain ⟨b1, b2, b3⟩ := w2.2.2.2 k k0 (by omega)
      obtain ⟨c1, c2, c3⟩ := z4 k k0 k1
      rw [a1, a2, a3, b1, b2, b3]
      exact ⟨c1, c2, c3⟩)
    have hq5 := p1.2.2.2.2.2.2.1
    have hn := h1.1.nj
    have hz24 : (askZ z (a 1) (a 2) 12).1.1 39 < 24 := by
      have := z1.njn (by rw [z2.1 27 (by decide)]; omega)
      rw [z2.1 27 (by decide)] at this
      omega
    have h0t : 0 ≤ trl s := by obtain ⟨-, ⟨n, e⟩, -⟩ := h6; omega
    have e10 : (s.2 4).1 10 = z.1.1 39 := h5.2.2.1
    have e10' : (s1.2 4).1 10 = (askZ z (a 1) (a 2) 12).1.1 39 := w2.2.2.1
    -- the end of both
    have fin : ∀ r : Int, (∀ m', NX (z.1.1 39) m' (askZ z (a 1) (a 2) 12) → (a 3 < m'.1 55 → (a 4 = 0 → m'.2 53 (a 3) = r) ∧ (a 4 = 1 → m'.2 54 (a 3) = r) ∧ (a 4 = 2 → (a 3 = 0 → 1 = r) ∧ (a 3 ≠ 0 → 0 = r))) ∧ (¬ a 3 < m'.1 55 → -2 = r)) → C_X3_goesBack_N (trl s) s1 (fun s33 => ∀ s36 : XS, s36 = ys s33 4 10 ((s.2 4).1 10) → C_X1_fine r s36 (fun r39 s40 => C_next (a 1) (a 2) (a 3) (a 4) m (fun r' m' => r39 = r' ∧ KN s40 m'))) := by
      intro r hres
      refine x_goesBack h0t p s1 p1.2.2.2.2.2.2 e3 ?_
      rintro _ rfl
      refine x_fine ?_
      refine c_isTerm h24 (fun _ => ⟨fun q => absurd q (by decide), fun _ => c_isTerm h24 (fun _ => ⟨fun q => absurd q (by decide), fun _ => ⟨fun q => absurd q (by omega), fun _ => c_in (fun _ => ⟨fun q => absurd q (by decide), fun _ => r_yes ?_⟩) (fun q => absurd v4 q)⟩⟩) (fun q => absurd v2 q)⟩) (fun q => absurd v1 q)
      refine c_laysNext (m := mref m 0) h1.1 h2 h3 v1.1 (by omega) v2.1 (by omega) (fun m' hx hm => ?_)
      obtain ⟨ha, hb'⟩ := hres m' hx
      have hx3 := hx.2.2.1
      have hkn : ∀ x, x = r → r = x ∧ KN (xfin (ys (backX s1 p) 4 10 ((s.2 4).1 10))) m' := fun x e => ⟨e.symm, hK _ _ (hE.xy eqX_o) (eqM_ref.tr hm.m) (by
        have f1 : m'.1 1 = 0 := (hm.1 1 (by decide)).trans rfl
        exact ⟨f1.symm, by rw [f1]; rfl⟩)⟩
      refine ⟨fun q => ?_, fun q => hkn _ (hb' q)⟩
      obtain ⟨c0, c1, c2⟩ := ha q
      refine ⟨fun e => ⟨⟨v3, by omega⟩, hkn _ (c0 e)⟩, fun e0 => ⟨fun e => ⟨⟨v3, by omega⟩, hkn _ (c1 e)⟩, fun e1 => ⟨fun e => hkn _ ((c2 (by omega)).1 e), fun e => hkn _ ((c2 (by omega)).2 e)⟩⟩⟩
    have hx5 := xtl_6 (q := xq s) hq5
    refine ⟨xq s1 - xq s + 1, xtl (xq s1 + 1) - xtl (xq s + 1) + 2, ⟨by show _ ≤ 40000; omega, by show _ ≤ 200000; omega⟩, ⟨by omega, by omega⟩, ?_⟩
    refine x_isTerm2 (by omega) (fun _ => ⟨fun q => absurd q (by decide), fun _ => ⟨fun q => absurd q (by omega), fun _ => x_isIn (fun _ => ⟨fun q => absurd q (by decide), fun _ => ?_⟩) (fun q => absurd v4 q)⟩⟩) (fun q => absurd (by rw [ex]; exact ⟨v1, v2⟩) q)
    refine ⟨xq s1 - xq s, xtl (xq s1 + 1) - xtl (xq s + 1), by omega, by omega, q1.2 _ _ _ (Nat.le_refl _) (Nat.le_refl _) ?_⟩
    have hj := hn.1
    rw [e10, e10']
    rw [e10] at fin
    refine ⟨inI_s (by omega), fun q => ?_, fun q => ?_⟩
    · refine fin (-2) (fun m' hx => ⟨fun q2 => absurd q2 (by have := hx.2.2.1; omega), fun _ => rfl⟩)
    · have hjw : jwrap (z.1.1 39 + a 3) = z.1.1 39 + a 3 := jwrap_id (inI_s (by omega))
      rw [hjw]
      have hk24 : 0 ≤ z.1.1 39 + a 3 ∧ z.1.1 39 + a 3 < 24 := by omega
      obtain ⟨b1, b2, b3⟩ := w2.2.2.2 (z.1.1 39 + a 3) hk24.1 (by omega)
      have c3 := z5 (z.1.1 39 + a 3) (by omega) (by omega)
      rw [b1, b2, b3]
      refine ⟨fun e => ⟨hk24, fin _ (fun m' hx => ⟨fun q2 => ⟨fun _ => (hx.2.2.2 (a 3) v3 (by omega)).1, fun q => by omega, fun q => by omega⟩, fun q2 => absurd (by have := hx.2.2.1; omega) q2⟩)⟩, fun e0 => ⟨fun e => ⟨hk24, fin _ (fun m' hx => ⟨fun q2 => ⟨fun q => by omega, fun _ => (hx.2.2.2 (a 3) v3 (by omega)).2, fun q => by omega⟩, fun q2 => absurd (by have := hx.2.2.1; omega) q2⟩)⟩, fun e1 => ⟨hk24, fun e => fin 1 (fun m' hx => ⟨fun q2 => ⟨fun q => by omega, fun q => by omega, fun _ => ⟨fun _ => rfl, fun q3 => ?_⟩⟩, fun q2 => absurd (by have := hx.2.2.1; omega) q2⟩), fun e => fin 0 (fun m' hx => ⟨fun q2 => ⟨fun q => by omega, fun q => by omega, fun _ => ⟨fun q3 => ?_, fun _ => rfl⟩⟩, fun q2 => absurd (by have := hx.2.2.1; omega) q2⟩)⟩⟩⟩
      · rw [c3, if_neg (by omega)] at e
        omega
      · rw [c3, if_pos (by omega)] at e
        exact absurd rfl e
  · refine ⟨1, 2, ⟨by decide, by decide⟩, ⟨by decide, by decide⟩, ?_⟩
    refine x_isTerm2 (by omega) (fun h => ⟨fun q => absurd q (by decide), fun _ => ⟨fun hc => x_refused ?_, fun hc => x_isIn (fun he => absurd ⟨⟨⟨h.1.1, by omega⟩, h.2.1, by omega⟩, by omega, he.1, he.2⟩ hv) (fun he => ⟨fun _ => x_refused ?_, fun q => absurd rfl q⟩)⟩⟩) (fun h => ⟨fun _ => x_refused ?_, fun q => absurd rfl q⟩)
    · exact c_isTerm h24 (fun _ => ⟨fun q => absurd q (by decide), fun _ => c_isTerm h24 (fun _ => ⟨fun q => absurd q (by decide), fun _ => ⟨fun _ => r_no (p_no hKJ (by decide)), fun q => absurd hc q⟩⟩) (fun q => absurd ⟨h.2.1, by omega⟩ q)⟩) (fun q => absurd ⟨h.1.1, by omega⟩ q)
    · exact c_isTerm h24 (fun _ => ⟨fun q => absurd q (by decide), fun _ => c_isTerm h24 (fun _ => ⟨fun q => absurd q (by decide), fun _ => ⟨fun q => absurd q hc, fun _ => c_in (fun q => absurd q he) (fun _ => ⟨fun _ => r_no (p_no hKJ (by decide)), fun q => absurd rfl q⟩)⟩⟩) (fun q => absurd ⟨h.2.1, by omega⟩ q)⟩) (fun q => absurd ⟨h.1.1, by omega⟩ q)
    · exact c_isTerm h24 (fun h1 => ⟨fun q => absurd q (by decide), fun _ => c_isTerm h24 (fun h2 => absurd ⟨⟨h1.1, by omega⟩, h2.1, by omega⟩ h) (fun _ => ⟨fun _ => r_no (p_no hKJ (by decide)), fun q => absurd rfl q⟩)⟩) (fun _ => ⟨fun _ => r_no (p_no hKJ (by decide)), fun q => absurd rfl q⟩)
