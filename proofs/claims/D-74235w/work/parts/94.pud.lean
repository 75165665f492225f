/-! THE PURE PART, 35: undo -/
set_option maxRecDepth 100000
/-- a book within another one -/
def bkSub (b b' : PB) : Prop := (b.nf = b'.nf ∧ b.nt ≤ b'.nt ∧ b.ns ≤ b'.ns ∧ b.nd ≤ b'.nd) ∧ (∀ f, b.tk f = b'.tk f) ∧ (∀ t, 0 ≤ t → t < b.nt → b.fn t = b'.fn t ∧ ∀ k, 0 ≤ k → k < 3 → b.pt t k = b'.pt t k) ∧ (∀ k, 0 ≤ k → k < b.ns → b.sa k = b'.sa k ∧ b.sb k = b'.sb k) ∧ ∀ k, 0 ≤ k → k < b.nd → b.da k = b'.da k ∧ b.db k = b'.db k
theorem bkSub_step {z : ZS} {w : Int → Int} (h : fullZ z) (hw : okW z w) : bkSub (bkM z.1) (bkM (stepZ z w).1) := by
  obtain ⟨h1, h2, h3⟩ := h
  have h12 : 0 ≤ z.1.1 30 ∧ z.1.1 30 ≤ 12 := h1.ok.ns
  have h24 : 0 ≤ z.1.1 27 ∧ z.1.1 27 ≤ 24 := h1.ok.nt
  have h8 : 0 ≤ z.1.1 33 ∧ z.1.1 33 ≤ 8 := h1.ok.nd
  unfold stepZ
  by_cases e0 : w 0 = 0
  · rw [if_pos e0]
    obtain ⟨a1, a2, a3⟩ := hw.1 e0
    have hT := termZ_wf (p := fun k => w (2 + k)) h1 a1 a2 a3
    have hc := (closeZ_spec 24 _ hT (gr24 hT)).2.2.1.2.2
    rw [hc]
    refine ⟨⟨rfl, ?_, Int.le_refl _, Int.le_refl _⟩, fun _ => rfl, fun t t0 t1 => ⟨(termZ_fn t1).symm, fun k k0 k1 => (termZ_pt t1 k1).symm⟩, fun _ _ _ => ⟨rfl, rfl⟩, fun _ _ _ => ⟨rfl, rfl⟩⟩
    show z.1.1 27 ≤ z.1.1 27 + 1
    omega
  · rw [if_neg e0]
    by_cases e1 : w 0 = 1
    · rw [if_pos e1]
      obtain ⟨a1, a2, a3⟩ := hw.2.1 e1
      have hT := sameZ_wf h1 a1 a2 a3
      have hA := (askZ_wf (c := z.1.1 30) hT a2.1 a2.2 a3.1 a3.2 h12).2.1.2.2
      have e : (if z.1.2 36 (w 1) = z.1.2 36 (w 2) then sameZ z (w 1) (w 2) else closeZ 24 (joinZ (sameZ z (w 1) (w 2)) (w 1) (w 2) (z.1.1 30))) = askZ (sameZ z (w 1) (w 2)) (w 1) (w 2) (z.1.1 30) := rfl
      rw [e, hA]
      refine ⟨⟨rfl, Int.le_refl _, ?_, Int.le_refl _⟩, fun _ => rfl, fun _ _ _ => ⟨rfl, fun _ _ _ => rfl⟩, fun k k0 k1 => ?_, fun _ _ _ => ⟨rfl, rfl⟩⟩
      · show z.1.1 30 ≤ z.1.1 30 + 1
        omega
      · have k1 : k < z.1.1 30 := k1
        show z.1.2 31 k = iup (z.1.2 31) (z.1.1 30) (w 1) k ∧ z.1.2 32 k = iup (z.1.2 32) (z.1.1 30) (w 2) k
        rw [iup_ne (by omega), iup_ne (by omega)]
        exact ⟨rfl, rfl⟩
    · rw [if_neg e1]
      refine ⟨⟨rfl, Int.le_refl _, Int.le_refl _, ?_⟩, fun _ => rfl, fun _ _ _ => ⟨rfl, fun _ _ _ => rfl⟩, fun _ _ _ => ⟨rfl, rfl⟩, fun k k0 k1 => ?_⟩
      · show z.1.1 33 ≤ z.1.1 33 + 1
        omega
      · have k1 : k < z.1.1 33 := k1
        show z.1.2 34 k = iup (z.1.2 34) (z.1.1 33) (w 1) k ∧ z.1.2 35 k = iup (z.1.2 35) (z.1.1 33) (w 2) k
        rw [iup_ne (by omega), iup_ne (by omega)]
        exact ⟨rfl, rfl⟩
theorem RXb_sub {b b' : PB} {s s' : XS} (hok : b.ok) (hb : bkSub b b') (h : RXb b' s) (hn : s'.1.1 30 = b.nf ∧ s'.1.1 31 = b.nt ∧ s'.1.1 32 = b.ns ∧ s'.1.1 33 = b.nd) (hm : b.nf ≤ s'.1.1 40 ∧ b.nt ≤ s'.1.1 41 ∧ b.ns ≤ s'.1.1 42 ∧ b.nd ≤ s'.1.1 43) (hx : xok s' 0 ∧ xok s' 1 ∧ xok s' 2 ∧ xok s' 3) (ha : s'.1.2 = s.1.2) : RXb b s' := by
  obtain ⟨-, -, -, d, e, f, g⟩ := h
  obtain ⟨⟨b1, b2, b3, b4⟩, t1, t2, t3, t4⟩ := hb
  refine ⟨hn, hm, hx, fun x x0 x1 => ?_, fun t t0 tn => ?_, fun k k0 k1 => ?_, fun k k0 k1 => ?_⟩
  · rw [ha, t1]; exact d x x0 (by omega)
  · obtain ⟨q1, q2, q3⟩ := e t t0 (by omega)
    obtain ⟨p1, p2⟩ := t2 t t0 tn
    have f1 := hok.fn t t0 tn
    have f2 := hok.tk _ f1.1 f1.2
    rw [ha, t1, p1]
    rw [t1, p1] at f2
    exact ⟨q1, q2, fun k k0 k1 => by rw [p2 k k0 (by omega)]; exact q3 k k0 k1⟩
  · rw [ha, (t3 k k0 k1).1, (t3 k k0 k1).2]; exact f k k0 (by omega)
  · rw [ha, (t4 k k0 k1).1, (t4 k k0 k1).2]; exact g k k0 (by omega)
theorem good_sub {b b' : PB} {n : Int} {E : Int → Int → Prop} {r : Int → Int} (hok : b.ok) (hok' : b'.ok) (hn : n ≤ b.nt) (hb : bkSub b b') (hg : good b' n E r) : good b n E r := by
  obtain ⟨⟨b1, b2, b3, b4⟩, t1, t2, -⟩ := hb
  refine good_bk hok' (by omega) (fun t t0 t1' => ?_) hg
  obtain ⟨p1, p2⟩ := t2 t t0 (by omega)
  have f1 := hok'.fn t t0 (by omega)
  have f2 := hok'.tk _ f1.1 f1.2
  exact ⟨p1, by rw [t1, p1], fun k k0 k1 => p2 k k0 (by omega)⟩
/-- an undo's frame in the reference -/
def mfu (m m' : MS) : Prop := (∀ k, k ≠ 0 → k ≠ 8 → k ≠ 27 → k ≠ 30 → k ≠ 33 → k ≠ 39 → m'.1 k = m.1 k) ∧ ∀ k, (k < 28 ∨ k = 30 ∨ k = 33 ∨ 43 < k) → m'.2 k = m.2 k
/-- the relation behind an undo -/
theorem J_undo {n : Nat} {s s' : XS} {m m' : MS} {i : Int} {kk : Nat} (hJ : J (n + 1) s m) (hi : i = s.1.1 12 - 1) (h0 : 0 ≤ i)
    (hk : s.1.2 10 i + 3 * kk = trl s) (hrz : rowsZ (rbR (trT s) kk (trl s) (s.2 4).2) (zM m (m.1 8 - 1)))
    (hM : mfu m m') (h8 : m'.1 8 = m.1 8 - 1) (hB : agB m' (zM m (m.1 8 - 1)).1) (hN : agN m' (zM m (m.1 8 - 1)).1)
    (hi1 : ∀ j, j ≠ 12 → (j < 31 ∨ 33 < j) → (j < 71 ∨ 73 < j) → s'.1.1 j = s.1.1 j) (h12 : s'.1.1 12 = i) (ha : s'.1.2 = s.1.2) (hmod : ∀ j : Nat, j = 1 ∨ j = 2 ∨ j = 3 → s.1.1 (70 + j) ≤ s'.1.1 (70 + j) ∧ s'.1.1 (70 + j) ≤ s.1.1 (70 + j) + 1)
    (hsz : s'.1.1 31 = (zM m (m.1 8 - 1)).1.1 27 ∧ s'.1.1 32 = (zM m (m.1 8 - 1)).1.1 30 ∧ s'.1.1 33 = (zM m (m.1 8 - 1)).1.1 33)
    (h4 : (s'.2 4).1 1 = (zM m (m.1 8 - 1)).1.1 27 ∧ (s'.2 4).1 10 = (zM m (m.1 8 - 1)).1.1 39 ∧ trl s' = s.1.2 10 i ∧ xq s' = xq s ∧ (s'.2 4).2 = rbR (trT s) kk (trl s) (s.2 4).2)
    (h2 : (s'.2 2).1 1 = (zM m (m.1 8 - 1)).1.1 27 ∧ good (bkM (zM m (m.1 8 - 1)).1) ((zM m (m.1 8 - 1)).1.1 27) E0 ((s'.2 2).2 0)) : gck s'.1 ∧ J n (gcs s') m' := by
  have hrows := J_rows hJ
  have hnil := JR.nil hJ.2.2.1
  obtain ⟨j1, j2, ⟨⟨a1, a2⟩, a3, a4, a5⟩, ⟨b1, b2⟩, -, j6, ⟨d1, d2, d3⟩, ⟨e1, e2, e3⟩⟩ := hJ
  obtain ⟨z1, z2, z3, z4, z5, z6, z7⟩ := a5
  have hr := (RXb_ag z2 z1.1.ok).mp z4
  have ek : (m.1 8 - 1).toNat + 1 = (m.1 8).toNat := by omega
  have hfz : fullZ (zM m (m.1 8 - 1)) := runZ_full hnil _ (fun j hj => a4 j (by omega))
  have hokw : okW (zM m (m.1 8 - 1)) (WM m (m.1 8 - 1)) := by
    have := a4 (m.1 8 - 1).toNat (by omega)
    rw [show (((m.1 8 - 1).toNat : Nat) : Int) = m.1 8 - 1 by omega] at this
    exact this
  have hZ : zM m (m.1 8) = stepZ (zM m (m.1 8 - 1)) (WM m (m.1 8 - 1)) := by
    unfold zM
    rw [← ek]
    show stepZ _ (WM m ((m.1 8 - 1).toNat : Int)) = _
    rw [show (((m.1 8 - 1).toNat : Nat) : Int) = m.1 8 - 1 by omega]
  have hst := stepZ_n hfz hokw
  rw [← hZ] at hst
  obtain ⟨s6, s7, s39, s40, s27, s30, s33⟩ := hst
  have hbs := bkSub_step hfz hokw
  rw [← hZ] at hbs
  have i6 : m'.1 6 = m.1 6 := hM.1 6 (by decide) (by decide) (by decide) (by decide) (by decide) (by decide)
  have i9 : m'.1 9 = m.1 9 := hM.1 9 (by decide) (by decide) (by decide) (by decide) (by decide) (by decide)
  have i26 : m'.1 26 = m.1 26 := hM.1 26 (by decide) (by decide) (by decide) (by decide) (by decide) (by decide)
  have i5 : m'.1 5 = m.1 5 := hM.1 5 (by decide) (by decide) (by decide) (by decide) (by decide) (by decide)
  have ar7 : m'.2 7 = m.2 7 := hM.2 7 (by decide)
  have ar10 : m'.2 10 = m.2 10 := hM.2 10 (by decide)
  have ar11 : m'.2 11 = m.2 11 := hM.2 11 (by decide)
  have ar12 : m'.2 12 = m.2 12 := hM.2 12 (by decide)
  have ar4 : m'.2 4 = m.2 4 := hM.2 4 (by decide)
  have ez : ∀ x, zM m' x = zM m x := fun x => zM_congr i6 (fun f _ _ => by rw [ar7]) (fun r _ _ => by rw [ar10]) (fun r _ _ => by rw [ar11])
  have etk : tkM m' = tkM m := by
    funext f
    unfold tkM
    rw [i6, ar7]
  have eW : WM m' = WM m := by
    funext r x
    unfold WM
    rw [ar10, ar11]
  have m27 : m'.1 27 = (zM m (m.1 8 - 1)).1.1 27 := hB.1.2.1
  have m30 : m'.1 30 = (zM m (m.1 8 - 1)).1.1 30 := hB.1.2.2.1
  have m33 : m'.1 33 = (zM m (m.1 8 - 1)).1.1 33 := hB.1.2.2.2
  have o27 : m.1 27 = (zM m (m.1 8)).1.1 27 := z2.1.2.1
  have o30 : m.1 30 = (zM m (m.1 8)).1.1 30 := z2.1.2.2.1
  have o33 : m.1 33 = (zM m (m.1 8)).1.1 33 := z2.1.2.2.2
  have hsum : m'.1 27 + m'.1 30 + m'.1 33 + 1 = m.1 27 + m.1 30 + m.1 33 := by
    rw [m27, m30, m33, o27, o30, o33, s27, s30, s33]
    by_cases q0 : WM m (m.1 8 - 1) 0 = 0
    · rw [if_pos q0, if_neg (by omega), if_neg (fun q => q.1 q0)]; omega
    · rw [if_neg q0]
      by_cases q1 : WM m (m.1 8 - 1) 0 = 1
      · rw [if_pos q1, if_neg (fun q => q.2 q1)]; omega
      · rw [if_neg q1, if_pos ⟨q0, q1⟩]; omega
  have x31 : s.1.1 31 = (zM m (m.1 8)).1.1 27 := hr.1.2.1
  have x32 : s.1.1 32 = (zM m (m.1 8)).1.1 30 := hr.1.2.2.1
  have x33 : s.1.1 33 = (zM m (m.1 8)).1.1 33 := hr.1.2.2.2
  have le27 : (zM m (m.1 8 - 1)).1.1 27 ≤ (zM m (m.1 8)).1.1 27 := hbs.1.2.1
  have le30 : (zM m (m.1 8 - 1)).1.1 30 ≤ (zM m (m.1 8)).1.1 30 := hbs.1.2.2.1
  have le33 : (zM m (m.1 8 - 1)).1.1 33 ≤ (zM m (m.1 8)).1.1 33 := hbs.1.2.2.2
  obtain ⟨p1, p2, p3, p4, p5⟩ := j6 1 (by decide)
  obtain ⟨q1, q2, q3, q4, q5⟩ := j6 2 (by decide)
  obtain ⟨r1, r2, r3, r4, r5⟩ := j6 3 (by decide)
  have p1 : s.1.1 41 = s.1.1 31 := p1
  have q1 : s.1.1 42 = s.1.1 32 := q1
  have r1 : s.1.1 43 = s.1.1 33 := r1
  have g41 : s'.1.1 41 = s.1.1 41 := hi1 41 (by decide) (by decide) (by decide)
  have g42 : s'.1.1 42 = s.1.1 42 := hi1 42 (by decide) (by decide) (by decide)
  have g43 : s'.1.1 43 = s.1.1 43 := hi1 43 (by decide) (by decide) (by decide)
  have g51 : s'.1.1 51 = s.1.1 51 := hi1 51 (by decide) (by decide) (by decide)
  have g52 : s'.1.1 52 = s.1.1 52 := hi1 52 (by decide) (by decide) (by decide)
  have g53 : s'.1.1 53 = s.1.1 53 := hi1 53 (by decide) (by decide) (by decide)
  have g61 : s'.1.1 61 = s.1.1 61 := hi1 61 (by decide) (by decide) (by decide)
  have g62 : s'.1.1 62 = s.1.1 62 := hi1 62 (by decide) (by decide) (by decide)
  have g63 : s'.1.1 63 = s.1.1 63 := hi1 63 (by decide) (by decide) (by decide)
  have hg : ∀ j, (j < 41 ∨ 43 < j) → (j < 61 ∨ 63 < j) → (gcs s').1.1 j = s'.1.1 j := fun j h1 h2 => by
    show (if j = 41 then _ else if j = 42 then _ else if j = 43 then _ else if j = 61 then _ else if j = 62 then _ else if j = 63 then _ else s'.1.1 j) = s'.1.1 j
    rw [if_neg (by omega), if_neg (by omega), if_neg (by omega), if_neg (by omega), if_neg (by omega), if_neg (by omega)]
  have eT : trT s' = trT s := by
    show (s'.2 4).2 (100 + xq s') = _
    rw [h4.2.2.2.1, h4.2.2.2.2, rbR_o _ _ _ _ (by omega)]
  obtain ⟨hc1, hc2, hc3, -, -⟩ := b2 i h0 (by omega)
  have e8 : m.1 9 + i = m.1 8 - 1 := by omega
  rw [e8] at hc1 hc2 hc3
  have hTr : Tr s' := by
    obtain ⟨t1, ⟨nn, t2⟩, t3, t4⟩ := z6
    refine ⟨by rw [h4.2.2.2.1]; exact t1, ⟨nn - kk, by rw [h4.2.2.1]; omega⟩, by rw [h4.2.2.1, h4.2.2.2.1]; omega, fun k hk => ?_⟩
    rw [h4.2.2.1] at hk
    rw [eT]
    exact t4 k (by omega)
  have hok' := hfz.1.ok
  have hx : xok (gcs s') 0 ∧ xok (gcs s') 1 ∧ xok (gcs s') 2 ∧ xok (gcs s') 3 := by
    obtain ⟨c0, c1, c2, c3⟩ := hr.2.2.1
    have u1 : s.1.1 31 ≤ (xcap 1 (s.1.1 51).toNat : Int) := c1.1
    have u2 : s.1.1 32 ≤ (xcap 2 (s.1.1 52).toNat : Int) := c2.1
    have u3 : s.1.1 33 ≤ (xcap 3 (s.1.1 53).toNat : Int) := c3.1
    have v1 : xcap 1 (s.1.1 51).toNat ≤ 5000 := c1.2.2
    have v2 : xcap 2 (s.1.1 52).toNat ≤ 5000 := c2.2.2
    have v3 : xcap 3 (s.1.1 53).toNat ≤ 5000 := c3.2.2
    refine ⟨?_, ⟨?_, ?_, ?_⟩, ⟨?_, ?_, ?_⟩, ⟨?_, ?_, ?_⟩⟩
    · unfold xok at c0 ⊢
      rw [hg (30 + 0) (by omega) (by omega), hg (50 + 0) (by omega) (by omega), hg (60 + 0) (by omega) (by omega), hi1 (30 + 0) (by omega) (by omega) (by omega), hi1 (50 + 0) (by omega) (by omega) (by omega), hi1 (60 + 0) (by omega) (by omega) (by omega)]
      exact c0
    · show s'.1.1 31 ≤ (xcap 1 (s'.1.1 51).toNat : Int)
      rw [g51]; omega
    · exact Nat.le_refl _
    · show xcap 1 (s'.1.1 51).toNat ≤ 5000
      rw [g51]; exact v1
    · show s'.1.1 32 ≤ (xcap 2 (s'.1.1 52).toNat : Int)
      rw [g52]; omega
    · exact Nat.le_refl _
    · show xcap 2 (s'.1.1 52).toNat ≤ 5000
      rw [g52]; exact v2
    · show s'.1.1 33 ≤ (xcap 3 (s'.1.1 53).toNat : Int)
      rw [g53]; omega
    · exact Nat.le_refl _
    · show xcap 3 (s'.1.1 53).toNat ≤ 5000
      rw [g53]; exact v3
  have hRX : RXb (bkM m') (gcs s') := (RXb_ag hB hok').mpr (RXb_sub (s := s) hok' hbs hr ⟨?_, ?_, ?_, ?_⟩ ⟨?_, ?_, ?_, ?_⟩ hx ha)
  · refine ⟨⟨⟨by omega, by omega, by omega⟩, ?_, ?_, ?_⟩, ⟨?_, ?_⟩, ?_, ⟨⟨?_, ?_⟩, ?_, ?_, ?_⟩, ⟨?_, fun j j0 jn => ?_⟩, ⟨?_, ?_⟩, fun j hj => ?_, ⟨?_, fun t t0 t1 => ?_, fun t t0 t1 => ?_⟩, ⟨?_, ?_, fun x x0 x1 => ?_⟩⟩
    · show s'.1.1 61 ≤ s'.1.1 51
      have p3 : s.1.1 61 ≤ s.1.1 51 := p3
      omega
    · show s'.1.1 62 ≤ s'.1.1 52
      have q3 : s.1.1 62 ≤ s.1.1 52 := q3
      omega
    · show s'.1.1 63 ≤ s'.1.1 53
      have r3 : s.1.1 63 ≤ s.1.1 53 := r3
      omega
    · show s'.1.1 0 = m'.1 1
      rw [hi1 0 (by decide) (by decide) (by decide), hM.1 1 (by decide) (by decide) (by decide) (by decide) (by decide) (by decide)]; exact j1.1
    · show s'.1.1 1 = _
      rw [hi1 1 (by decide) (by decide) (by decide), hM.1 1 (by decide) (by decide) (by decide) (by decide) (by decide) (by decide), hM.1 3 (by decide) (by decide) (by decide) (by decide) (by decide) (by decide)]; exact j1.2
    · show s'.1.1 4 = m'.1 2
      rw [hi1 4 (by decide) (by decide) (by decide), hM.1 2 (by decide) (by decide) (by decide) (by decide) (by decide) (by decide)]; exact j2
    · rw [h8, i9]; omega
    · rw [h8]; omega
    · rw [i6, ar7]; exact a3
    · rw [i6, etk, eW, h8]; exact fun j hj => a4 j (by omega)
    · rw [ez, h8]
      refine ⟨hfz, hB, hN, hRX, ⟨h4.1, ?_, h4.2.1, fun k k0 k1 => ?_⟩, hTr, ?_⟩
      · show rowsZ (s'.2 4).2 _
        rw [h4.2.2.2.2]; exact hrz
      · show (s'.2 4).2 7 k = _ ∧ (s'.2 4).2 8 k = _ ∧ (s'.2 4).2 9 k = _
        rw [h4.2.2.2.2, rbR_o _ _ _ _ (by decide), rbR_o _ _ _ _ (by decide), rbR_o _ _ _ _ (by decide)]
        obtain ⟨w1, w2, w3⟩ := z5.2.2.2 k k0 (by omega)
        obtain ⟨y1, y2, y3⟩ := s40 k k0 k1
        rw [w1, w2, w3]
        exact ⟨y1, y2, y3⟩
      · show trl s' ≤ _
        rw [h4.2.2.1]; exact hc3.2
    · show s'.1.1 12 = _
      rw [h12, h8, i9]; omega
    · have jn : j < s'.1.1 12 := jn
      show s'.1.2 9 j = _ ∧ s'.1.2 11 j = _ ∧ (0 ≤ s'.1.2 10 j ∧ s'.1.2 10 j ≤ _) ∧ (∀ x, j ≤ x → x < s'.1.1 12 → s'.1.2 10 j ≤ s'.1.2 10 x) ∧ ∃ k : Nat, s'.1.2 10 j + 3 * k = trl s' ∧ rowsZ (rbR (trT s') k (trl s') (s'.2 4).2) _
      rw [ha, i9, ez, ar10]
      obtain ⟨v1, v2, v3, v4, kj, v5, v6⟩ := b2 j j0 (by omega)
      have hmon := v4 i (by omega) (by omega)
      refine ⟨v1, v2, v3, fun x hx1 hx2 => v4 x hx1 (by omega), kj - kk, by rw [h4.2.2.1]; omega, ?_⟩
      rw [eT, h4.2.2.2.2, h4.2.2.1]
      have := rbR_add (T := trT s) (k := kj - kk) kk (trl s) (s.2 4).2
      rw [show kk + (kj - kk) = kj by omega, show trl s - 3 * (kk : Int) = s.1.2 10 i by omega] at this
      rw [← this]
      exact v6
    · rw [m27]; exact h2.1
    · have e5 : (bkM m').nt = (zM m (m.1 8 - 1)).1.1 27 := m27
      rw [e5]
      exact good_ag hB hok' (Int.le_refl _) h2.2
    · have hm := hmod j hj
      have hj6 := j6 j hj
      rw [hg (30 + j) (by omega) (by omega), hg (50 + j) (by omega) (by omega), hg (70 + j) (by omega) (by omega), hi1 (50 + j) (by omega) (by omega) (by omega)]
      obtain ⟨v1, v2, v3, v4, v5⟩ := hj6
      refine ⟨?_, v2, ?_, by omega, by omega⟩
      · rcases hj with rfl | rfl | rfl <;> rfl
      · rcases hj with rfl | rfl | rfl
        · show s'.1.1 51 ≤ _; rw [g51]; exact Int.le_refl _
        · show s'.1.1 52 ≤ _; rw [g52]; exact Int.le_refl _
        · show s'.1.1 53 ≤ _; rw [g53]; exact Int.le_refl _
    · rw [i26, i9, ez]; exact d1
    · show nameL (s'.1.2 32 t) _
      rw [i26] at t1
      rw [ha, ar12]; exact d2 t t0 t1
    · show s'.1.2 32 t = 0
      rw [i26] at t0
      rw [ha]; exact d3 t t0 (by omega)
    · show s'.1.1 3 = m'.1 5
      rw [hi1 3 (by decide) (by decide) (by decide), i5]; exact e1
    · rw [i5]; exact e2
    · show (-128 ≤ s'.1.2 2 x ∧ s'.1.2 2 x < 128) ∧ m'.2 4 x = if s'.1.2 2 x < 0 then s'.1.2 2 x + 256 else s'.1.2 2 x
      rw [ha, ar4]; exact e3 x x0 x1
  · show s'.1.1 30 = _
    rw [hi1 30 (by decide) (by decide) (by decide), hr.1.1]; exact hbs.1.1.symm
  · exact hsz.1
  · exact hsz.2.1
  · exact hsz.2.2
  · show _ ≤ s'.1.1 40
    rw [hi1 40 (by decide) (by decide) (by decide), hbs.1.1]; exact hr.2.1.1
  · show (zM m (m.1 8 - 1)).1.1 27 ≤ s'.1.1 31
    rw [hsz.1]; exact Int.le_refl _
  · show (zM m (m.1 8 - 1)).1.1 30 ≤ s'.1.1 32
    rw [hsz.2.1]; exact Int.le_refl _
  · show (zM m (m.1 8 - 1)).1.1 33 ≤ s'.1.1 33
    rw [hsz.2.2]; exact Int.le_refl _
