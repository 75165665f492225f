/-! THE PURE PART, 32: the plain sheet anew; make -/
set_option maxRecDepth 100000
theorem lr_s {n : Int} {r : Int → Int} (h0 : 0 ≤ n) (h : lr n r) : lr (n + 1) (iup r n n) := by
  intro t t0 t1
  by_cases e : t = n
  · rw [e, iup_at, iup_at]; exact ⟨h0, Int.le_refl _, rfl⟩
  · have := h t t0 (by omega)
    rw [iup_ne e, iup_ne (by omega)]
    exact this
theorem sound_s {b : PB} {n : Int} {r : Int → Int} (hb : b.ok) (hn : n < b.nt) (h : lr n r) (hs : sound b n E0 r) : sound b (n + 1) E0 (iup r n n) := by
  intro Q hQ t u t0 t1 u0 u1 e
  have hQ' : cg b n E0 Q := ⟨hQ.1, hQ.2.1, hQ.2.2.1, hQ.2.2.2.1, fun t u t0 t1 u0 u1 ha => hQ.2.2.2.2 t u t0 (by omega) u0 (by omega) ha⟩
  by_cases n1 : t = n <;> by_cases n2 : u = n
  · rw [n1, n2]; exact hQ.1 _
  · rw [n1, iup_at, iup_ne n2] at e
    have := h u u0 (by omega)
    omega
  · rw [n2, iup_at, iup_ne n1] at e
    have := h t t0 (by omega)
    omega
  · rw [iup_ne n1, iup_ne n2] at e
    exact hs Q hQ' t u t0 (by omega) u0 (by omega) e
/-- only the plain sheet differs -/
def bareX (s s' : XS) : Prop := s'.1 = s.1 ∧ ∀ j, j ≠ 2 → s'.2 j = s.2 j
theorem x_comesP {b : PB} {s : XS} {k : Int} {K : XS → Prop} (hb : b.ok) (hr : RXb b s) (hk : 0 ≤ k ∧ k < b.nt) (h1 : (s.2 2).1 1 = k) (hl : lr k ((s.2 2).2 0)) (hs : sound b k E0 ((s.2 2).2 0)) (hK : ∀ s', bareX s s' → (s'.2 2).1 1 = k + 1 → good b (k + 1) E0 ((s'.2 2).2 0) → K s') : C_X4_comes_P 2 s K := by
  have h24 := hb.nt
  unfold C_X4_comes_P B_X4_comes_P_E C_X3_puts_Q B_X3_puts_Q_E
  rw [h1]
  refine ⟨⟨by omega, by omega⟩, ?_⟩
  rintro _ rfl
  refine ⟨inI_s (show -1000000 ≤ (s.2 2).1 1 + 1 ∧ (s.2 2).1 1 + 1 ≤ 1000000 by omega), ?_⟩
  rintro _ rfl
  have e1 : ((ys (ya s 2 0 k k) 2 1 (((ya s 2 0 k k).2 2).1 1 + 1)).2 2).1 1 = k + 1 := by
    show (s.2 2).1 1 + 1 = k + 1
    omega
  have e2 : ((ys (ya s 2 0 k k) 2 1 (((ya s 2 0 k k).2 2).1 1 + 1)).2 2).2 0 = iup ((s.2 2).2 0) k k := rfl
  refine x_closes (E := E0) hb (hr.of (fun _ _ => rfl) (fun _ _ => rfl)) (by rw [e1]; omega) (by rw [e1, e2]; exact lr_s hk.1 hl) (by rw [e1, e2]; exact sound_s hb hk.2 hl hs) (fun r' hr' => ?_)
  rw [e1] at hr'
  obtain ⟨q1, q2, q3, q4, q5⟩ := hr'
  refine hK _ ⟨rfl, fun j hj => ?_⟩ e1 ⟨q1, q2, fun t u e => e.elim, q3⟩
  show (if j = 2 then _ else if j = 2 then _ else if j = 2 then _ else s.2 j) = s.2 j
  rw [if_neg hj, if_neg hj, if_neg hj]
theorem bareX.tr {s s1 s2 : XS} (h : bareX s s1) (g : bareX s1 s2) : bareX s s2 := ⟨g.1.trans h.1, fun j hj => (g.2 j hj).trans (h.2 j hj)⟩
theorem bareX.rxb {b : PB} {s s' : XS} (h : bareX s s') (hr : RXb b s) : RXb b s' := hr.of (fun _ _ => by rw [h.1]) (fun _ _ => by rw [h.1])
theorem x_lays {b : PB} {s : XS} {K : XS → Prop} (hb : b.ok) (hr : RXb b s) (hK : ∀ s', bareX s s' → (s'.2 2).1 1 = b.nt → good b b.nt E0 ((s'.2 2).2 0) → K s') : C_X1_lays s K := by
  intro X hX
  have h24 := hb.nt
  unfold B_X1_lays_E
  rintro _ rfl
  have L : ∀ k, 0 ≤ k → k ≤ b.nt → ∀ s1, bareX s s1 → (s1.2 2).1 1 = k → good b k E0 ((s1.2 2).2 0) → X k s1 := by
    refine upto (fun k k0 k1 ih s1 q1 q2 q3 => hX _ _ (x_terms ?_))
    have e31 : s1.1.1 31 = b.nt := (q1.rxb hr).1.2.1
    rw [e31]
    refine ⟨fun e => ?_, fun e => ?_⟩
    · have : k = b.nt := by omega
      rw [this] at q2 q3
      exact hK s1 q1 q2 q3
    · exact x_comesP hb (q1.rxb hr) ⟨k0, by omega⟩ q2 q3.lr q3.sound (fun s2 p1 p2 p3 => ⟨inI_s (by omega), ih (by omega) s2 (q1.tr p1) p2 p3⟩)
  refine L 0 (by omega) h24.1 _ ⟨rfl, fun j hj => if_neg hj⟩ rfl ⟨fun t t0 t1 => by omega, fun Q hQ t u t0 t1 => by omega, fun t u e => e.elim, fun t u t0 t1 => by omega⟩
