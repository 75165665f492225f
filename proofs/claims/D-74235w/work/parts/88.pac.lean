/-! THE PURE PART, 29: acts: what the reference and the relation do -/
set_option maxRecDepth 100000
def rowW (k a b c d : Int) : Int → Int := fun i => if i = 0 then k else if i = 1 then a else if i = 2 then b else if i = 3 then c else if i = 4 then d else 0
/-- an act's frame in the reference -/
def macts (m m' : MS) (w : Int → Int) : Prop :=
  (∀ k, k ≠ 0 → k ≠ 8 → k ≠ 27 → k ≠ 30 → k ≠ 33 → k ≠ 39 → m'.1 k = m.1 k) ∧ m'.1 8 = m.1 8 + 1 ∧ (∀ k, (k < 28 ∨ k = 30 ∨ k = 33 ∨ 43 < k) → k ≠ 10 → k ≠ 11 → m'.2 k = m.2 k) ∧
  m'.2 10 = iup (m.2 10) (m.1 8) (w 0) ∧ (∀ r, r < 4 * m.1 8 → m'.2 11 r = m.2 11 r) ∧ ∀ i, 0 ≤ i → i < 4 → m'.2 11 (4 * m.1 8 + i) = w (1 + i)
theorem c_acts {z : ZS} {m : MS} {k a b c d : Int} {K : MS → Prop} (h : fullZ z) (hB : agB m z.1) (hN : agN m z.1) (hr : 0 ≤ m.1 8 ∧ m.1 8 < 96) (hok : okW z (rowW k a b c d)) (hK : ∀ m', agB m' (stepZ z (rowW k a b c d)).1 → agN m' (stepZ z (rowW k a b c d)).1 → macts m m' (rowW k a b c d) → K m') : C_acts k a b c d m K := by
  unfold C_acts B_acts_E
  refine ⟨hr, ?_⟩
  rintro _ rfl
  refine ⟨inI_s (show -1000000 ≤ 4 * m.1 8 ∧ 4 * m.1 8 ≤ 1000000 by omega), ⟨show 0 ≤ 4 * m.1 8 by omega, show 4 * m.1 8 < 384 by omega⟩, ?_⟩
  rintro _ rfl
  refine ⟨inI_s (show -1000000 ≤ 4 * m.1 8 ∧ 4 * m.1 8 ≤ 1000000 by omega), inI_s (show -1000000 ≤ 4 * m.1 8 + 1 ∧ 4 * m.1 8 + 1 ≤ 1000000 by omega), ⟨show 0 ≤ 4 * m.1 8 + 1 by omega, show 4 * m.1 8 + 1 < 384 by omega⟩, ?_⟩
  rintro _ rfl
  refine ⟨inI_s (show -1000000 ≤ 4 * m.1 8 ∧ 4 * m.1 8 ≤ 1000000 by omega), inI_s (show -1000000 ≤ 4 * m.1 8 + 2 ∧ 4 * m.1 8 + 2 ≤ 1000000 by omega), ⟨show 0 ≤ 4 * m.1 8 + 2 by omega, show 4 * m.1 8 + 2 < 384 by omega⟩, ?_⟩
  rintro _ rfl
  refine ⟨inI_s (show -1000000 ≤ 4 * m.1 8 ∧ 4 * m.1 8 ≤ 1000000 by omega), inI_s (show -1000000 ≤ 4 * m.1 8 + 3 ∧ 4 * m.1 8 + 3 ≤ 1000000 by omega), ⟨show 0 ≤ 4 * m.1 8 + 3 by omega, show 4 * m.1 8 + 3 < 384 by omega⟩, ?_⟩
  rintro _ rfl
  have e11 : ∀ i, iup (iup (iup (iup (m.2 11) (4 * m.1 8) a) (4 * m.1 8 + 1) b) (4 * m.1 8 + 2) c) (4 * m.1 8 + 3) d i = if i = 4 * m.1 8 + 3 then d else if i = 4 * m.1 8 + 2 then c else if i = 4 * m.1 8 + 1 then b else if i = 4 * m.1 8 then a else m.2 11 i := fun i => rfl
  have e11' : ∀ i, 0 ≤ i → i < 4 → iup (iup (iup (iup (m.2 11) (4 * m.1 8) a) (4 * m.1 8 + 1) b) (4 * m.1 8 + 2) c) (4 * m.1 8 + 3) d (4 * m.1 8 + i) = rowW k a b c d (1 + i) := by
    intro i i0 i1
    rw [e11]
    rcases (show i = 0 ∨ i = 1 ∨ i = 2 ∨ i = 3 by omega) with rfl | rfl | rfl | rfl
    · rw [if_neg (by omega), if_neg (by omega), if_neg (by omega), if_pos (by omega)]; rfl
    · rw [if_neg (by omega), if_neg (by omega), if_pos (by omega)]; rfl
    · rw [if_neg (by omega), if_pos (by omega)]; rfl
    · rw [if_pos (by omega)]; rfl
  refine c_comes (r := m.1 8) (w := rowW k a b c d) h hB hN hr ⟨iup_at, e11'⟩ hok (fun m1 q1 q2 q3 => ?_)
  have e8 : m1.1 8 = m.1 8 := q3.1 8 (by decide) (by decide) (by decide) (by decide) (by decide)
  refine ⟨inI_s (by omega), ?_⟩
  rintro _ rfl
  refine hK _ q1 q2 ⟨fun j j0 j8 j27 j30 j33 j39 => ?_, ?_, fun j hj j10 j11 => ?_, ?_, fun r hr2 => ?_, fun i i0 i1 => ?_⟩
  · show (if j = 8 then _ else m1.1 j) = m.1 j
    rw [if_neg j8, q3.1 j j0 j27 j30 j33 j39]
    rfl
  · show m1.1 8 + 1 = m.1 8 + 1
    rw [e8]
  · show m1.2 j = m.2 j
    rw [q3.2 j hj]
    show (ma (ma (ma (ma (ma m 10 _ _) 11 _ _) 11 _ _) 11 _ _) 11 _ _).2 j = _
    rw [ma_o j11, ma_o j11, ma_o j11, ma_o j11, ma_o j10]
  · show m1.2 10 = _
    rw [q3.2 10 (by decide)]
    rfl
  · show m1.2 11 r = _
    rw [q3.2 11 (by decide)]
    show iup (iup (iup (iup (m.2 11) (4 * m.1 8) a) (4 * m.1 8 + 1) b) (4 * m.1 8 + 2) c) (4 * m.1 8 + 3) d r = _
    rw [e11, if_neg (by omega), if_neg (by omega), if_neg (by omega), if_neg (by omega)]
  · show m1.2 11 _ = _
    rw [q3.2 11 (by decide)]
    exact e11' i i0 i1
/-- the row behind an act -/
theorem WM_act {m m' : MS} {k a b c d : Int} (h : macts m m' (rowW k a b c d)) : WM m' (m.1 8) = rowW k a b c d := by
  obtain ⟨-, -, -, h10, h11, h11'⟩ := h
  funext i
  unfold WM
  by_cases e0 : i = 0
  · rw [if_pos e0, h10, iup_at, e0]
  · rw [if_neg e0]
    by_cases e1 : 1 ≤ i ∧ i ≤ 4
    · rw [if_pos e1, h11' (i - 1) (by omega) (by omega), show 1 + (i - 1) = i by omega]
    · rw [if_neg e1]
      unfold rowW
      rw [if_neg e0, if_neg (by omega), if_neg (by omega), if_neg (by omega), if_neg (by omega)]
theorem zM_act {m m' : MS} {w : Int → Int} (h : macts m m' w) {n : Int} (hn : n ≤ m.1 8) : zM m' n = zM m n := by
  obtain ⟨h1, h8, h2, h10, h11, h11'⟩ := h
  refine zM_congr (h1 6 (by decide) (by decide) (by decide) (by decide) (by decide) (by decide)) (fun f _ _ => by rw [h2 7 (by decide) (by decide) (by decide)]) (fun r r0 r1 => ?_) (fun r r0 r1 => h11 r (by omega))
  rw [h10, iup_ne (by omega)]
theorem zM_next {m m' : MS} {k a b c d : Int} (h : macts m m' (rowW k a b c d)) (h0 : 0 ≤ m.1 8) : zM m' (m'.1 8) = stepZ (zM m (m.1 8)) (rowW k a b c d) := by
  have e := zM_act h (n := m.1 8) (Int.le_refl _)
  have ew := WM_act h
  rw [h.2.1, ← e, ← ew]
  unfold zM
  rw [show (m.1 8 + 1).toNat = (m.1 8).toNat + 1 by omega]
  show stepZ _ (WM m' ((m.1 8).toNat : Int)) = _
  rw [show (((m.1 8).toNat : Nat) : Int) = m.1 8 by omega]
theorem okRun_act {m m' : MS} {k a b c d : Int} (h : macts m m' (rowW k a b c d)) (h0 : 0 ≤ m.1 8) (ho : okRun (nilZ (m.1 6) (tkM m)) (WM m) (m.1 8).toNat) (hw : okW (zM m (m.1 8)) (rowW k a b c d)) : okRun (nilZ (m'.1 6) (tkM m')) (WM m') (m'.1 8).toNat := by
  have ew := WM_act h
  have e := zM_act h (n := m.1 8) (Int.le_refl _)
  obtain ⟨h1, h8, h2, h10, h11, h11'⟩ := h
  have e6 : m'.1 6 = m.1 6 := h1 6 (by decide) (by decide) (by decide) (by decide) (by decide) (by decide)
  have et : tkM m' = tkM m := by
    funext f
    unfold tkM
    rw [e6, h2 7 (by decide) (by decide) (by decide)]
  have eW : ∀ r, 0 ≤ r → r < m.1 8 → WM m r = WM m' r := by
    intro r r0 r1
    funext i
    unfold WM
    by_cases q : i = 0
    · rw [if_pos q, if_pos q, h10, iup_ne (by omega)]
    · rw [if_neg q, if_neg q]
      by_cases q2 : 1 ≤ i ∧ i ≤ 4
      · rw [if_pos q2, if_pos q2, h11 _ (by omega)]
      · rw [if_neg q2, if_neg q2]
  intro i hi
  rw [h8] at hi
  by_cases q : (i : Int) = m.1 8
  · rw [q, ew]
    have : runZ (nilZ (m'.1 6) (tkM m')) (WM m') i = zM m' (m.1 8) := by
      unfold zM
      rw [show (m.1 8).toNat = i by omega]
    rw [this, e]
    exact hw
  · have := okRun_congr (fun k hk => eW (k : Int) (by omega) (by omega)) ho i (by omega)
    rw [e6, et]
    exact this
/-- a way back stays -/
def hstX (s : XS) (to : Int) (z : ZS) : Prop := ∃ k : Nat, to + 3 * k = trl s ∧ rowsZ (rbR (trT s) k (trl s) (s.2 4).2) z
theorem hstX_pt {s s' : XS} {to : Int} {z : ZS} (h : Pt s s') (h0 : 0 ≤ to) (g : hstX s to z) : hstX s' to z := by
  obtain ⟨-, -, -, ⟨a0, p, a5, a6⟩, a7, -⟩ := h
  obtain ⟨k, g1, g2, g3⟩ := g
  have e : ∀ j, isR j → rbR (trT s') (p + k) (trl s') (s'.2 4).2 j = rbR (trT s) k (trl s) (s.2 4).2 j := fun j hj => by
    rw [rbR_add, show trl s' - 3 * (p : Int) = trl s by omega]
    exact rbR_congr k (trl s) _ _ a7 (by omega) a6 j hj
  refine ⟨p + k, by omega, fun t t0 t1 => ?_, fun t t0 t1 => ?_⟩
  · rw [e 0 (Or.inl rfl), e 5 (Or.inr (Or.inl rfl)), e 6 (Or.inr (Or.inr rfl))]; exact g2 t t0 t1
  · rw [e 5 (Or.inr (Or.inl rfl))]; exact g3 t t0 t1
/-- the system notes an act -/
def sAct (s : XS) (k : Int) : XS := xs (xa (xa (xa s 9 (s.1.1 12) k) 10 (s.1.1 12) (trl s)) 11 (s.1.1 12) ((s.2 4).1 10)) 12 (s.1.1 12 + 1)
theorem x_acts {s : XS} {k : Int} {K : XS → Prop} (h : 0 ≤ s.1.1 12 ∧ s.1.1 12 < 44) (hK : K (sAct s k)) : C_X1_acts k s K := by
  refine ⟨h, ?_⟩
  rintro _ rfl
  refine ⟨h, ?_⟩
  rintro _ rfl
  refine ⟨h, ?_⟩
  rintro _ rfl
  refine ⟨inI_s (show -1000000 ≤ s.1.1 12 + 1 ∧ s.1.1 12 + 1 ≤ 1000000 by omega), ?_⟩
  rintro _ rfl
  exact hK
/-- a step adds one thing -/
theorem stepZ_n {z : ZS} {w : Int → Int} (h : fullZ z) (hw : okW z w) : (stepZ z w).1.1 6 = z.1.1 6 ∧ (stepZ z w).1.2 7 = z.1.2 7 ∧ z.1.1 39 ≤ (stepZ z w).1.1 39 ∧ (∀ k, 0 ≤ k → k < z.1.1 39 → (stepZ z w).1.2 40 k = z.1.2 40 k ∧ (stepZ z w).1.2 41 k = z.1.2 41 k ∧ (stepZ z w).1.2 42 k = z.1.2 42 k) ∧ (stepZ z w).1.1 27 = z.1.1 27 + (if w 0 = 0 then 1 else 0) ∧ (stepZ z w).1.1 30 = z.1.1 30 + (if w 0 = 1 then 1 else 0) ∧ (stepZ z w).1.1 33 = z.1.1 33 + (if w 0 ≠ 0 ∧ w 0 ≠ 1 then 1 else 0) := by
  obtain ⟨h1, h2, h3⟩ := h
  have h12 : 0 ≤ z.1.1 30 ∧ z.1.1 30 ≤ 12 := h1.ok.ns
  unfold stepZ
  by_cases e0 : w 0 = 0
  · rw [if_pos e0, if_pos e0, if_neg (by omega), if_neg (fun q => q.1 e0)]
    obtain ⟨a1, a2, a3⟩ := hw.1 e0
    have hT := termZ_wf (p := fun k => w (2 + k)) h1 a1 a2 a3
    obtain ⟨g1, g2, g3, g4, g5⟩ := closeZ_spec 24 _ hT (gr24 hT)
    obtain ⟨j1, j2, j3⟩ := closeZ_joins 24 (termZ z (w 1) (fun k => w (2 + k)))
    exact ⟨g3.1 6 (by decide), g3.2.1 7 (by decide), j3, j1, g3.1 27 (by decide), (g3.1 30 (by decide)).trans (Int.add_zero _).symm, (g3.1 33 (by decide)).trans (Int.add_zero _).symm⟩
  · rw [if_neg e0, if_neg e0]
    by_cases e1 : w 0 = 1
    · obtain ⟨a1, a2, a3⟩ := hw.2.1 e1
      have hT := sameZ_wf h1 a1 a2 a3
      have hA := askZ_wf (c := z.1.1 30) hT a2.1 a2.2 a3.1 a3.2 h12
      have e : (if z.1.2 36 (w 1) = z.1.2 36 (w 2) then sameZ z (w 1) (w 2) else closeZ 24 (joinZ (sameZ z (w 1) (w 2)) (w 1) (w 2) (z.1.1 30))) = askZ (sameZ z (w 1) (w 2)) (w 1) (w 2) (z.1.1 30) := rfl
      rw [if_pos e1, e, if_pos e1, if_neg (show ¬ (w 0 ≠ 0 ∧ w 0 ≠ 1) from fun q => q.2 e1)]
      obtain ⟨g1, g2, g3, g4, g5⟩ := hA
      exact ⟨g2.1 6 (by decide), g2.2.1 7 (by decide), g3, g4, (g2.1 27 (by decide)).trans (Int.add_zero _).symm, g2.1 30 (by decide), (g2.1 33 (by decide)).trans (Int.add_zero _).symm⟩
    · rw [if_neg e1, if_neg e1, if_pos ⟨e0, e1⟩]
      exact ⟨rfl, rfl, Int.le_refl _, fun _ _ _ => ⟨rfl, rfl, rfl⟩, (Int.add_zero _).symm, (Int.add_zero _).symm, rfl⟩
theorem runZ_mono {z0 : ZS} {W : Int → Int → Int} (h0 : fullZ z0) : ∀ (n k : Nat), k ≤ n → okRun z0 W n → (runZ z0 W k).1.1 27 ≤ (runZ z0 W n).1.1 27 ∧ (runZ z0 W k).1.1 39 ≤ (runZ z0 W n).1.1 39 ∧ (∀ i, 0 ≤ i → i < (runZ z0 W k).1.1 39 → (runZ z0 W n).1.2 40 i = (runZ z0 W k).1.2 40 i ∧ (runZ z0 W n).1.2 41 i = (runZ z0 W k).1.2 41 i ∧ (runZ z0 W n).1.2 42 i = (runZ z0 W k).1.2 42 i) := by
  intro n
  induction n with
  | zero => exact fun k hk _ => by rw [show k = 0 by omega]; exact ⟨Int.le_refl _, Int.le_refl _, fun _ _ _ => ⟨rfl, rfl, rfl⟩⟩
  | succ n ih =>
    intro k hk ho
    by_cases e : k = n + 1
    · rw [e]; exact ⟨Int.le_refl _, Int.le_refl _, fun _ _ _ => ⟨rfl, rfl, rfl⟩⟩
    · have ho' : okRun z0 W n := fun i hi => ho i (by omega)
      obtain ⟨a1, a2, a3⟩ := ih k (by omega) ho'
      obtain ⟨b1, b2, b3, b4, b5, b6, b7⟩ := stepZ_n (runZ_full h0 n ho') (ho n (by omega))
      have b5' : (runZ z0 W n).1.1 27 ≤ (runZ z0 W (n + 1)).1.1 27 := by
        show _ ≤ (stepZ (runZ z0 W n) (W (n : Int))).1.1 27
        rw [b5]
        split <;> omega
      have b3 : (runZ z0 W n).1.1 39 ≤ (runZ z0 W (n + 1)).1.1 39 := b3
      refine ⟨by omega, by omega, fun i i0 i1 => ?_⟩
      obtain ⟨c1, c2, c3⟩ := a3 i i0 i1
      obtain ⟨d1, d2, d3⟩ := b4 i i0 (by omega)
      exact ⟨d1.trans c1, d2.trans c2, d3.trans c3⟩
/-- the plain sheet's book matters by terms alone -/
theorem good_bk {b b' : PB} {n : Int} {E : Int → Int → Prop} {r : Int → Int} (hb : b.ok) (hn : n ≤ b.nt) (h : ∀ t, 0 ≤ t → t < n → b'.fn t = b.fn t ∧ b'.tk (b'.fn t) = b.tk (b.fn t) ∧ ∀ k, 0 ≤ k → k < b.tk (b.fn t) → b'.pt t k = b.pt t k) (hg : good b n E r) : good b' n E r := by
  have ea : ∀ (Q : Int → Int → Prop) t u, 0 ≤ t → t < n → 0 ≤ u → u < n → (alQ b' Q t u ↔ alQ b Q t u) := by
    intro Q t u t0 t1 u0 u1
    obtain ⟨e1, e2, e3⟩ := h t t0 t1
    obtain ⟨g1, g2, g3⟩ := h u u0 u1
    unfold alQ
    rw [e2, e1, g1]
    constructor <;> rintro ⟨p, q⟩ <;> refine ⟨p, fun k k0 k1 => ?_⟩ <;> have := q k k0 k1
    · rw [e3 k k0 k1, g3 k k0 (by rw [← p]; exact k1)] at this; exact this
    · rw [e3 k k0 k1, g3 k k0 (by rw [← p]; exact k1)]; exact this
  exact ⟨hg.lr, fun Q hQ => hg.sound Q ⟨hQ.1, hQ.2.1, hQ.2.2.1, hQ.2.2.2.1, fun t u t0 t1 u0 u1 ha => hQ.2.2.2.2 t u t0 t1 u0 u1 ((ea Q t u t0 t1 u0 u1).mpr ha)⟩, hg.has, fun t u t0 t1 u0 u1 ha => hg.closed t u t0 t1 u0 u1 ((ea _ t u t0 t1 u0 u1).mp ha)⟩
/-- the relation behind an act -/
theorem J_act {n : Nat} {s s' : XS} {m m' : MS} {k a b c d : Int} (hJ : J (n + 1) s m) (hM : macts m m' (rowW k a b c d)) (hokw : okW (zM m (m.1 8)) (rowW k a b c d)) (hB : agB m' (stepZ (zM m (m.1 8)) (rowW k a b c d)).1) (hN : agN m' (stepZ (zM m (m.1 8)) (rowW k a b c d)).1)
    (hT : JT s' m') (h4 : s'.1.1 4 = s.1.1 4) (hRX : RXb (bkM m') s') (hRN : RN s' (stepZ (zM m (m.1 8)) (rowW k a b c d))) (hTr : Tr s') (hTB : TB s' (stepZ (zM m (m.1 8)) (rowW k a b c d)))
    (h12 : s'.1.1 12 = s.1.1 12 + 1) (h9 : s'.1.2 9 = iup (s.1.2 9) (s.1.1 12) (kindX k)) (h10 : s'.1.2 10 = iup (s.1.2 10) (s.1.1 12) (trl s)) (h11 : s'.1.2 11 = iup (s.1.2 11) (s.1.1 12) ((s.2 4).1 10)) (hh : ∀ to z, 0 ≤ to → hstX s to z → hstX s' to z)
    (hE : JE s' m') (hL : JL n s') (h32 : ∀ t, 0 ≤ t → t < m.1 27 → s'.1.2 32 t = s.1.2 32 t) (h32' : ∀ t, m.1 27 ≤ t → t < m'.1 27 → s'.1.2 32 t = 0) (h3 : s'.1.1 3 = s.1.1 3) (h2 : s'.1.2 2 = s.1.2 2) : J n s' m' := by
  have hJ0 := hJ
  obtain ⟨j1, j2, ⟨⟨a1, a2⟩, a3, a4, a5⟩, ⟨b1, b2⟩, ⟨c1, c2⟩, j6, ⟨d1, d2, d3⟩, ⟨e1, e2, e3⟩⟩ := hJ
  have hM' := hM
  obtain ⟨f1, f8, f2, f10, f11, f12⟩ := hM'
  have i6 : m'.1 6 = m.1 6 := f1 6 (by decide) (by decide) (by decide) (by decide) (by decide) (by decide)
  have i9 : m'.1 9 = m.1 9 := f1 9 (by decide) (by decide) (by decide) (by decide) (by decide) (by decide)
  have i26 : m'.1 26 = m.1 26 := f1 26 (by decide) (by decide) (by decide) (by decide) (by decide) (by decide)
  have i5 : m'.1 5 = m.1 5 := f1 5 (by decide) (by decide) (by decide) (by decide) (by decide) (by decide)
  have i2 : m'.1 2 = m.1 2 := f1 2 (by decide) (by decide) (by decide) (by decide) (by decide) (by decide)
  have hz := zM_next hM (by omega)
  have hfull := a5.1
  have hst := stepZ_n hfull hokw
  obtain ⟨s6, s7, s39, s40, s27, s30, s33⟩ := hst
  have ent : m'.1 27 = (stepZ (zM m (m.1 8)) (rowW k a b c d)).1.1 27 := hB.1.2.1
  have ens : m'.1 30 = (stepZ (zM m (m.1 8)) (rowW k a b c d)).1.1 30 := hB.1.2.2.1
  have end' : m'.1 33 = (stepZ (zM m (m.1 8)) (rowW k a b c d)).1.1 33 := hB.1.2.2.2
  have ent0 : m.1 27 = (zM m (m.1 8)).1.1 27 := a5.2.1.1.2.1
  have ens0 : m.1 30 = (zM m (m.1 8)).1.1 30 := a5.2.1.1.2.2.1
  have end0 : m.1 33 = (zM m (m.1 8)).1.1 33 := a5.2.1.1.2.2.2
  have e39 : (s.2 4).1 10 = (zM m (m.1 8)).1.1 39 := a5.2.2.2.2.1.2.2.1
  have hsum : m'.1 27 + m'.1 30 + m'.1 33 = m.1 27 + m.1 30 + m.1 33 + 1 := by
    rw [ent, ens, end', s27, s30, s33, ent0, ens0, end0]
    by_cases q0 : rowW k a b c d 0 = 0
    · rw [if_pos q0, if_neg (by omega), if_neg (fun q => q.1 q0)]; omega
    · rw [if_neg q0]
      by_cases q1 : rowW k a b c d 0 = 1
      · rw [if_pos q1, if_neg (fun q => q.2 q1)]; omega
      · rw [if_neg q1, if_pos ⟨q0, q1⟩]; omega
  have hfm : fullZ (zM m' (m'.1 8)) := by rw [hz]; exact stepZ_full hfull hokw
  refine ⟨hT, ?_, ⟨⟨by rw [i9, f8]; omega, by rw [f8]; omega⟩, ?_, okRun_act hM (by omega) a4 hokw, ?_⟩, ⟨by rw [h12, f8, i9]; omega, fun i i0 i1 => ?_⟩, hE, hL, ⟨?_, fun t t0 t1 => ?_, fun t t0 t1 => ?_⟩, ⟨?_, ?_, fun x x0 x1 => ?_⟩⟩
  · rw [h4, i2]; exact j2
  · rw [i6, f2 7 (by decide) (by decide) (by decide)]; exact a3
  · rw [hz] at hfm ⊢
    exact ⟨hfm, hB, hN, hRX, hRN, hTr, hTB⟩
  · rw [h12] at i1
    rw [h9, h10, h11, i9, zM_act hM (n := m.1 9 + i) (by omega), f10, h12]
    by_cases q : i = s.1.1 12
    · have e8 : m.1 9 + s.1.1 12 = m.1 8 := by omega
      rw [q, iup_at, iup_at, iup_at, e8, iup_at]
      have hz0 := a5.2.2.2.2.2
      have htb := hz0.2
      refine ⟨rfl, e39, ⟨?_, htb⟩, fun j hj hj2 => ?_, ?_⟩
      · obtain ⟨-, ⟨nn, e⟩, -⟩ := hz0.1; omega
      · rw [show j = s.1.1 12 by omega, iup_at]; exact Int.le_refl _
      · refine hh (trl s) (zM m (m.1 8)) ?_ ⟨0, by omega, a5.2.2.2.2.1.2.1⟩
        obtain ⟨-, ⟨nn, e⟩, -⟩ := hz0.1; omega
    · rw [iup_ne q, iup_ne q, iup_ne q, iup_ne (by omega)]
      obtain ⟨g1, g2, g3, g4, g5⟩ := b2 i i0 (by omega)
      refine ⟨g1, g2, g3, fun j hj hj2 => ?_, hh _ _ g3.1 g5⟩
      by_cases q2 : j = s.1.1 12
      · rw [q2, iup_at]
        obtain ⟨kk, g6, -⟩ := g5
        omega
      · rw [iup_ne q2]; exact g4 j hj (by omega)
  · rw [i26, i9, zM_act hM (n := m.1 9) (by omega)]; exact d1
  · rw [i26] at t1
    have t2 : t < m.1 27 := by
      have := (runZ_mono (JR.nil ⟨⟨a1, a2⟩, a3, a4, a5⟩) (m.1 8).toNat (m.1 9).toNat (by omega) a4).1
      have h5 : (zM m (m.1 9)).1.1 27 ≤ (zM m (m.1 8)).1.1 27 := this
      omega
    rw [h32 t t0 t2, f2 12 (by decide) (by decide) (by decide)]
    exact d2 t t0 t1
  · rw [i26] at t0
    by_cases q : t < m.1 27
    · have h0 : 0 ≤ t := by
        have := (runZ_full (JR.nil ⟨⟨a1, a2⟩, a3, a4, a5⟩) (m.1 9).toNat (fun i hi => a4 i (by omega))).1.nt.1
        have h5 : 0 ≤ (zM m (m.1 9)).1.1 27 := this
        omega
      rw [h32 t h0 q]; exact d3 t t0 q
    · exact h32' t (by omega) t1
  · rw [h3, i5]; exact e1
  · rw [i5]; exact e2
  · rw [h2, f2 4 (by decide) (by decide) (by decide)]; exact e3 x x0 x1
