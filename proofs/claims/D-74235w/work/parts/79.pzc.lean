/-! THE PURE PART, 20: the reference takes a row, and all rows -/
set_option maxRecDepth 100000
/-- what rows change in the reference -/
def mfs (m m' : MS) : Prop := (∀ k, k ≠ 0 → k ≠ 27 → k ≠ 30 → k ≠ 33 → k ≠ 39 → m'.1 k = m.1 k) ∧ ∀ k, (k < 28 ∨ k = 30 ∨ k = 33 ∨ 43 < k) → m'.2 k = m.2 k
theorem mfs.rf {m : MS} : mfs m m := ⟨fun _ _ _ _ _ _ => rfl, fun _ _ => rfl⟩
theorem mfs.tr {m m1 m2 : MS} (h : mfs m m1) (g : mfs m1 m2) : mfs m m2 := ⟨fun k a b c d e => (g.1 k a b c d e).trans (h.1 k a b c d e), fun k q => (g.2 k q).trans (h.2 k q)⟩
theorem mfr.mfs {m m' : MS} (h : mfr m m') : mfs m m' := ⟨fun k a _ _ _ e => h.1 k a e, fun k q => h.2 k (by omega)⟩
/-- the reference's row is a row -/
def isRow (m : MS) (r : Int) (w : Int → Int) : Prop := m.2 10 r = w 0 ∧ ∀ i, 0 ≤ i → i < 4 → m.2 11 (4 * r + i) = w (1 + i)
theorem c_comesTerm {z : ZS} {m : MS} {r : Int} {w : Int → Int} {K : MS → Prop} (h : fullZ z) (hB : agB m z.1) (hN : agN m z.1) (hr : 0 ≤ r ∧ r < 96) (hw : isRow m r w) (h0 : w 0 = 0) (hok : okW z w) (hK : ∀ m', agB m' (stepZ z w).1 → agN m' (stepZ z w).1 → mfs m m' → K m') : C_comesTerm (4 * r) m K := by
  intro X hX
  have hb := h.1.ok
  obtain ⟨a1, a2, a3⟩ := hok.1 h0
  have h24 : 0 ≤ z.1.1 27 ∧ z.1.1 27 ≤ 24 := hb.nt
  have ent : m.1 27 = z.1.1 27 := hB.1.2.1
  have enf : m.1 6 = z.1.1 6 := hB.1.1
  have h8 : 0 ≤ z.1.1 6 ∧ z.1.1 6 ≤ 8 := hb.nf
  have hT := termZ_wf (p := fun k => w (2 + k)) h.1 a1 a2 a3
  have htk := hb.tk (w 1) a2.1 a2.2
  have etk : m.2 7 (w 1) = z.1.2 7 (w 1) := hB.2.1 _ a2.1 a2.2
  have htk2 : 0 ≤ z.1.2 7 (w 1) ∧ z.1.2 7 (w 1) ≤ 3 := htk
  have ew : m.2 11 (4 * r) = w 1 := by have := hw.2 0 (by omega) (by omega); rw [show 4 * r + 0 = 4 * r by omega] at this; exact this
  have jb : 0 ≤ m.1 27 ∧ m.1 27 < 24 := by omega
  -- the row of parts below a place
  have L : ∀ k, 0 ≤ k → k ≤ 3 → ∀ P : Int → Int, (∀ i, ¬ (3 * m.1 27 ≤ i ∧ i < 3 * m.1 27 + k) → P i = m.2 29 i) → (∀ i, 0 ≤ i → i < k → i < z.1.2 7 (w 1) → P (3 * m.1 27 + i) = w (2 + i)) → X (4 * r) k (maR (maR m 28 (iup (m.2 28) (m.1 27) (w 1))) 29 P) := by
    refine upto (fun k k0 k1 ih P p1 p2 => hX _ _ _ ⟨fun e => ?_, fun e => ?_⟩)
    · have hk : k = 3 := by omega
      refine ⟨jb, ?_⟩
      rintro _ rfl
      refine ⟨jb, ?_⟩
      rintro _ rfl
      refine ⟨jb, ?_⟩
      rintro _ rfl
      refine ⟨inI_s (show -1000000 ≤ m.1 27 + 1 ∧ m.1 27 + 1 ≤ 1000000 by omega), ?_⟩
      rintro _ rfl
      have hg := (cn_b (P := fun t => (termZ z (w 1) (fun k => w (2 + k))).1.2 36 t = t) (n := (termZ z (w 1) (fun k => w (2 + k))).1.1 27) hT.nt.1).2
      refine c_closes 24 (termZ z (w 1) (fun k => w (2 + k))) _ hT ?_ ?_ (Int.le_trans hg hT.nt.2) (fun m' q1 q2 q3 => hK m' ?_ ?_ ?_)
      · refine ⟨⟨enf, show m.1 27 + 1 = z.1.1 27 + 1 by omega, hB.1.2.2.1, hB.1.2.2.2⟩, hB.2.1, fun t t0 t1 => ?_, hB.2.2.2.1, hB.2.2.2.2⟩
        have t1 : t < z.1.1 27 + 1 := t1
        show iup (m.2 28) (m.1 27) (w 1) t = iup (z.1.2 28) (z.1.1 27) (w 1) t ∧ ∀ k, 0 ≤ k → k < z.1.2 7 (iup (z.1.2 28) (z.1.1 27) (w 1) t) → P (3 * t + k) = if 3 * z.1.1 27 ≤ 3 * t + k ∧ 3 * t + k < 3 * z.1.1 27 + 3 then w (2 + (3 * t + k - 3 * z.1.1 27)) else z.1.2 29 (3 * t + k)
        rw [ent]
        by_cases e2 : t = z.1.1 27
        · rw [e2, iup_at, iup_at]
          refine ⟨rfl, fun i i0 i1 => ?_⟩
          rw [if_pos (by omega), show 3 * z.1.1 27 + i - 3 * z.1.1 27 = i by omega]
          have := p2 i i0 (by omega) i1
          rw [ent] at this
          exact this
        · rw [iup_ne e2, iup_ne e2]
          have t2 : t < z.1.1 27 := by omega
          have g := hB.2.2.1 t t0 t2
          refine ⟨g.1, fun i i0 i1 => ?_⟩
          have f1 := hb.fn t t0 t2
          have f2 := hb.tk _ f1.1 f1.2
          have f3 : z.1.2 7 (z.1.2 28 t) ≤ 3 := f2.2
          rw [if_neg (by omega), p1 _ (by omega)]
          exact g.2 i i0 i1
      · refine ⟨hN.1, fun t t0 t1 => ?_, hN.2.2⟩
        have t1 : t < z.1.1 27 + 1 := t1
        show iup (m.2 36) (m.1 27) (m.1 27) t = iup (z.1.2 36) (z.1.1 27) (z.1.1 27) t ∧ iup (m.2 37) (m.1 27) (-2) t = iup (z.1.2 37) (z.1.1 27) (-2) t ∧ (iup (z.1.2 37) (z.1.1 27) (-2) t ≠ -2 → iup (m.2 38) (m.1 27) (-1) t = iup (z.1.2 38) (z.1.1 27) (-1) t)
        rw [ent]
        by_cases e2 : t = z.1.1 27
        · rw [e2, iup_at, iup_at, iup_at, iup_at, iup_at, iup_at]
          exact ⟨rfl, rfl, fun _ => rfl⟩
        · rw [iup_ne e2, iup_ne e2, iup_ne e2, iup_ne e2, iup_ne e2, iup_ne e2]
          exact hN.2.1 t t0 (by omega)
      · unfold stepZ; rw [if_pos h0]; exact q1
      · unfold stepZ; rw [if_pos h0]; exact q2
      · refine mfs.tr ⟨fun k b1 b2 b3 b4 b5 => if_neg b2, fun k q => ?_⟩ q3.mfs
        show (maR (maR (maR (maR (maR m 28 _) 29 _) 36 _) 37 _) 38 _).2 k = m.2 k
        rw [maR_ne (by omega), maR_ne (by omega), maR_ne (by omega), maR_ne (by omega), maR_ne (by omega)]
    · refine ⟨inI_s (show -1000000 ≤ 3 * m.1 27 ∧ 3 * m.1 27 ≤ 1000000 by omega), inI_s (show -1000000 ≤ 3 * m.1 27 + k ∧ 3 * m.1 27 + k ≤ 1000000 by omega), ⟨by omega, by omega⟩, ?_⟩
      show (0 ≤ m.2 11 (4 * r) ∧ m.2 11 (4 * r) < 16) ∧ ((m.2 7 (m.2 11 (4 * r)) ≤ k → _) ∧ (¬ m.2 7 (m.2 11 (4 * r)) ≤ k → _))
      rw [ew, etk]
      refine ⟨⟨a2.1, by omega⟩, fun e2 => ⟨⟨by show 0 ≤ 3 * m.1 27 + k; omega, by show 3 * m.1 27 + k < 72; omega⟩, ?_⟩, fun e2 => ⟨inI_s (by omega), inI_s (by omega), ⟨by omega, by omega⟩, ⟨by show 0 ≤ 3 * m.1 27 + k; omega, by show 3 * m.1 27 + k < 72; omega⟩, ?_⟩⟩
      · rintro _ rfl
        rw [ma_maR]
        refine ⟨inI_s (by omega), ih (by omega) _ (fun i hi => ?_) (fun i i0 i1 i2 => ?_)⟩
        · show iup P (3 * m.1 27 + k) 0 i = _
          rw [iup_ne (by omega)]; exact p1 i (by omega)
        · show iup P (3 * m.1 27 + k) 0 _ = _
          rw [iup_ne (by omega)]; exact p2 i i0 (by omega) i2
      · rintro _ rfl
        rw [ma_maR]
        refine ⟨inI_s (by omega), ih (by omega) _ (fun i hi => ?_) (fun i i0 i1 i2 => ?_)⟩
        · show iup P (3 * m.1 27 + k) _ i = _
          rw [iup_ne (by omega)]; exact p1 i (by omega)
        · show iup P (3 * m.1 27 + k) (m.2 11 (4 * r + 1 + k)) _ = _
          by_cases e3 : i = k
          · rw [e3, iup_at]
            have := hw.2 (1 + k) (by omega) (by omega)
            rw [show 4 * r + (1 + k) = 4 * r + 1 + k by omega, show 1 + (1 + k) = 2 + k by omega] at this
            exact this
          · rw [iup_ne (by omega)]; exact p2 i i0 (by omega) i2
  refine ⟨⟨by omega, by omega⟩, jb, ?_⟩
  rintro _ rfl
  rw [ew]
  have e3 : ma m 28 (m.1 27) (w 1) = maR (maR m 28 (iup (m.2 28) (m.1 27) (w 1))) 29 (m.2 29) := (maR_id (m := maR m 28 (iup (m.2 28) (m.1 27) (w 1))) (j := 29)).symm
  rw [e3]
  exact L 0 (by omega) (by omega) _ (fun i _ => rfl) (fun i i0 i1 => by omega)
theorem c_comesSame {z : ZS} {m : MS} {w : Int → Int} {K : MS → Prop} (h : fullZ z) (hB : agB m z.1) (hN : agN m z.1) (h0 : w 0 = 1) (hok : okW z w) (hK : ∀ m', agB m' (stepZ z w).1 → agN m' (stepZ z w).1 → mfs m m' → K m') : C_comesSame (w 1) (w 2) m K := by
  have hb := h.1.ok
  obtain ⟨a1, a2, a3⟩ := hok.2.1 h0
  have h24 : 0 ≤ z.1.1 27 ∧ z.1.1 27 ≤ 24 := hb.nt
  have h12 : 0 ≤ z.1.1 30 ∧ z.1.1 30 ≤ 12 := hb.ns
  have ent : m.1 27 = z.1.1 27 := hB.1.2.1
  have ens : m.1 30 = z.1.1 30 := hB.1.2.2.1
  have jb : 0 ≤ m.1 30 ∧ m.1 30 < 13 := by omega
  have e3 : stepZ z w = if z.1.2 36 (w 1) = z.1.2 36 (w 2) then sameZ z (w 1) (w 2) else closeZ 24 (joinZ (sameZ z (w 1) (w 2)) (w 1) (w 2) (z.1.1 30)) := by
    unfold stepZ
    rw [if_neg (by omega), if_pos h0]
  rw [e3] at hK
  have hT := sameZ_wf h.1 a1 a2 a3
  have hB1 : agB (ms (ma (ma m 31 (m.1 30) (w 1)) 32 (m.1 30) (w 2)) 30 (m.1 30 + 1)) (sameZ z (w 1) (w 2)).1 := by
    refine ⟨⟨hB.1.1, ent, show m.1 30 + 1 = z.1.1 30 + 1 by omega, hB.1.2.2.2⟩, hB.2.1, hB.2.2.1, fun k k0 k1 => ?_, hB.2.2.2.2⟩
    have k1 : k < z.1.1 30 + 1 := k1
    show iup (m.2 31) (m.1 30) (w 1) k = iup (z.1.2 31) (z.1.1 30) (w 1) k ∧ iup (m.2 32) (m.1 30) (w 2) k = iup (z.1.2 32) (z.1.1 30) (w 2) k
    rw [ens]
    by_cases e2 : k = z.1.1 30
    · rw [e2, iup_at, iup_at, iup_at, iup_at]; exact ⟨rfl, rfl⟩
    · rw [iup_ne e2, iup_ne e2, iup_ne e2, iup_ne e2]; exact hB.2.2.2.1 k k0 (by omega)
  have hN1 : agN (ms (ma (ma m 31 (m.1 30) (w 1)) 32 (m.1 30) (w 2)) 30 (m.1 30 + 1)) (sameZ z (w 1) (w 2)).1 := hN
  have hf1 : mfs m (ms (ma (ma m 31 (m.1 30) (w 1)) 32 (m.1 30) (w 2)) 30 (m.1 30 + 1)) := by
    refine ⟨fun k b1 b2 b3 b4 b5 => if_neg b3, fun k q => ?_⟩
    show (maR (maR m 31 _) 32 _).2 k = m.2 k
    rw [maR_ne (by omega), maR_ne (by omega)]
  refine ⟨jb, ?_⟩
  rintro _ rfl
  refine ⟨jb, ?_⟩
  rintro _ rfl
  refine ⟨inI_s (show -1000000 ≤ m.1 30 + 1 ∧ m.1 30 + 1 ≤ 1000000 by omega), ?_⟩
  rintro _ rfl
  refine ⟨⟨a2.1, by omega⟩, ⟨a3.1, by omega⟩, ?_⟩
  show (m.2 36 (w 1) = m.2 36 (w 2) → _) ∧ (¬ m.2 36 (w 1) = m.2 36 (w 2) → _)
  rw [(hN.2.1 _ a2.1 a2.2).1, (hN.2.1 _ a3.1 a3.2).1]
  refine ⟨fun e => ?_, fun e => ⟨inI_s (show -1000000 ≤ m.1 30 + 1 - 1 ∧ m.1 30 + 1 - 1 ≤ 1000000 by omega), ?_⟩⟩
  · rw [if_pos e] at hK
    exact hK _ hB1 hN1 hf1
  · rw [if_neg e] at hK
    show C_joinsTwo (w 1) (w 2) (m.1 30 + 1 - 1) _ _
    rw [show m.1 30 + 1 - 1 = z.1.1 30 by omega]
    have hc : (z.1.1 30 = -2 ∧ alk (bkM (sameZ z (w 1) (w 2)).1) ((sameZ z (w 1) (w 2)).1.2 36) (w 1) (w 2)) ∨ (0 ≤ z.1.1 30 ∧ z.1.1 30 ≤ 12) := Or.inr h12
    have hJ := joinZ_wf (c := z.1.1 30) hT a2.1 a2.2 a3.1 a3.2 e hc
    have hg := (cn_b (P := fun t => (joinZ (sameZ z (w 1) (w 2)) (w 1) (w 2) (z.1.1 30)).1.2 36 t = t) (n := (joinZ (sameZ z (w 1) (w 2)) (w 1) (w 2) (z.1.1 30)).1.1 27) hJ.nt.1).2
    refine c_joinsTwo hT hB1 hN1 a2.1 a2.2 a3.1 a3.2 e hc (fun m1 q1 q2 q3 => c_closes 24 _ _ hJ q1 q2 (Int.le_trans hg hJ.nt.2) (fun m2 p1 p2 p3 => hK _ p1 p2 (hf1.tr (q3.mfs.tr p3.mfs))))
theorem c_comes {z : ZS} {m : MS} {r : Int} {w : Int → Int} {K : MS → Prop} (h : fullZ z) (hB : agB m z.1) (hN : agN m z.1) (hr : 0 ≤ r ∧ r < 96) (hw : isRow m r w) (hok : okW z w) (hK : ∀ m', agB m' (stepZ z w).1 → agN m' (stepZ z w).1 → mfs m m' → K m') : C_comes r m K := by
  have ew : m.2 11 (4 * r) = w 1 := by have := hw.2 0 (by omega) (by omega); rw [show 4 * r + 0 = 4 * r by omega] at this; exact this
  have ew2 : m.2 11 (4 * r + 1) = w 2 := hw.2 1 (by omega) (by omega)
  unfold C_comes B_comes_E
  rw [hw.1, ew, ew2]
  refine ⟨inI_s (by omega), hr, fun e => c_comesTerm h hB hN hr hw e hok hK, fun e => ⟨hr, fun e1 => ⟨⟨by omega, by omega⟩, inI_s (by omega), ⟨by omega, by omega⟩, c_comesSame h hB hN e1 hok hK⟩, fun e1 => ⟨⟨by omega, by omega⟩, ?_⟩⟩⟩
  have hb := h.1.ok
  obtain ⟨a1, a2, a3⟩ := hok.2.2 e e1
  have h8 : 0 ≤ z.1.1 33 ∧ z.1.1 33 ≤ 8 := hb.nd
  have end_ : m.1 33 = z.1.1 33 := hB.1.2.2.2
  have jb : 0 ≤ m.1 33 ∧ m.1 33 < 8 := by omega
  refine ⟨jb, ?_⟩
  rintro _ rfl
  refine ⟨inI_s (by omega), ⟨by omega, by omega⟩, jb, ?_⟩
  show ∀ s12, s12 = ma (ma m 34 (m.1 33) (w 1)) 35 (m.1 33) (m.2 11 (4 * r + 1)) → _
  rw [ew2]
  rintro _ rfl
  refine ⟨inI_s (show -1000000 ≤ m.1 33 + 1 ∧ m.1 33 + 1 ≤ 1000000 by omega), ?_⟩
  rintro _ rfl
  have e3 : stepZ z w = diffZ z (w 1) (w 2) := by
    unfold stepZ
    rw [if_neg e, if_neg e1]
  rw [e3] at hK
  refine hK _ ?_ hN ?_
  · refine ⟨⟨hB.1.1, hB.1.2.1, hB.1.2.2.1, show m.1 33 + 1 = z.1.1 33 + 1 by omega⟩, hB.2.1, hB.2.2.1, hB.2.2.2.1, fun k k0 k1 => ?_⟩
    have k1 : k < z.1.1 33 + 1 := k1
    show iup (m.2 34) (m.1 33) (w 1) k = iup (z.1.2 34) (z.1.1 33) (w 1) k ∧ iup (m.2 35) (m.1 33) (w 2) k = iup (z.1.2 35) (z.1.1 33) (w 2) k
    rw [end_]
    by_cases e2 : k = z.1.1 33
    · rw [e2, iup_at, iup_at, iup_at, iup_at]; exact ⟨rfl, rfl⟩
    · rw [iup_ne e2, iup_ne e2, iup_ne e2, iup_ne e2]; exact hB.2.2.2.2 k k0 (by omega)
  · refine ⟨fun k b1 b2 b3 b4 b5 => if_neg b4, fun k q => ?_⟩
    show (maR (maR m 34 _) 35 _).2 k = m.2 k
    rw [maR_ne (by omega), maR_ne (by omega)]
/-- all rows from nothing -/
noncomputable def runZ (z0 : ZS) (W : Int → Int → Int) : Nat → ZS
  | 0 => z0
  | n + 1 => stepZ (runZ z0 W n) (W (n : Int))
def okRun (z0 : ZS) (W : Int → Int → Int) (n : Nat) : Prop := ∀ k, k < n → okW (runZ z0 W k) (W (k : Int))
theorem runZ_full {z0 : ZS} {W : Int → Int → Int} (h : fullZ z0) : ∀ n, okRun z0 W n → fullZ (runZ z0 W n) := by
  intro n
  induction n with
  | zero => exact fun _ => h
  | succ n ih => exact fun q => stepZ_full (ih (fun k hk => q k (by omega))) (q n (by omega))
/-- nothing stands but functions -/
def nilZ (nf : Int) (tk : Int → Int) : ZS := ((fun k => if k = 6 then nf else 0, fun k => if k = 7 then tk else fun _ => 0), fun _ _ => false)
theorem nilZ_full {nf : Int} {tk : Int → Int} (h : (0 ≤ nf ∧ nf ≤ 8) ∧ ∀ f, 0 ≤ f → f < nf → 0 ≤ tk f ∧ tk f ≤ 3) : fullZ (nilZ nf tk) := by
  refine ⟨⟨⟨h.1, h.2, ⟨Int.le_refl 0, show (0 : Int) ≤ 24 by omega⟩, ?_, ?_, ⟨Int.le_refl 0, show (0 : Int) ≤ 12 by omega⟩, ?_, ?_, ⟨Int.le_refl 0, show (0 : Int) ≤ 8 by omega⟩, ?_, ?_⟩, ?_, ⟨⟨fun _ => 0, ?_⟩, ?_, ?_, ?_, ?_⟩, ⟨Int.le_refl 0, rfl⟩, ?_⟩, ?_, ?_, ?_⟩
  · intro t t0 t1; have t1 : t < 0 := t1; omega
  · intro t t0 t1; have t1 : t < 0 := t1; omega
  · intro t t0 t1; have t1 : t < 0 := t1; omega
  · intro t t0 t1; have t1 : t < 0 := t1; omega
  · intro t t0 t1; have t1 : t < 0 := t1; omega
  · intro t t0 t1; have t1 : t < 0 := t1; omega
  · intro t t0 t1; have t1 : t < 0 := t1; omega
  · intro t t0 t1; have t1 : t < 0 := t1; omega
  · intro t t0 t1; have t1 : t < 0 := t1; omega
  · intro t t' t0 t1; have t1 : t < 0 := t1; omega
  · intro t t' t0 t1; have t1 : t < 0 := t1; omega
  · intro t i t0 t1; have t1 : t < 0 := t1; omega
  · intro t t0 t1; have t1 : t < 0 := t1; omega
  · intro i j i0 ij jn; have jn : j < 0 := jn; omega
  · intro Q hQ t u t0 t1; have t1 : t < 0 := t1; omega
  · rintro x y ⟨k, k0, k1, _⟩; have k1 : k < 0 := k1; omega
theorem c_makes {z0 : ZS} {m : MS} {W : Int → Int → Int} {K : MS → Prop} (h0 : fullZ z0) (e0 : z0.1.1 6 = m.1 6 ∧ z0.1.1 27 = 0 ∧ z0.1.1 30 = 0 ∧ z0.1.1 33 = 0 ∧ z0.1.1 39 = 0) (e7 : ∀ f, 0 ≤ f → f < m.1 6 → m.2 7 f = z0.1.2 7 f) (hr : 0 ≤ m.1 8 ∧ m.1 8 ≤ 96) (hW : ∀ r, 0 ≤ r → r < m.1 8 → isRow m r (W r)) (hok : okRun z0 W (m.1 8).toNat) (hK : ∀ m', agB m' (runZ z0 W (m.1 8).toNat).1 → agN m' (runZ z0 W (m.1 8).toNat).1 → mfs m m' → K m') : C_makes m K := by
  intro X hX
  unfold B_makes_E
  rintro _ rfl _ rfl _ rfl _ rfl
  have L : ∀ k, 0 ≤ k → k ≤ m.1 8 → ∀ m', agB m' (runZ z0 W k.toNat).1 → agN m' (runZ z0 W k.toNat).1 → mfs m m' → X k m' := by
    refine upto (fun k k0 k1 ih m' q1 q2 q3 => hX _ _ ?_)
    unfold B_makes_22
    rw [show m'.1 8 = m.1 8 from q3.1 8 (by decide) (by decide) (by decide) (by decide) (by decide)]
    refine ⟨fun e => ?_, fun e => ?_⟩
    · rw [show k = m.1 8 by omega] at q1 q2
      exact hK m' q1 q2 q3
    · have hrow := hW k k0 (by omega)
      have hok1 := hok k.toNat (by omega)
      rw [show ((k.toNat : Nat) : Int) = k by omega] at hok1
      refine c_comes (runZ_full h0 _ (fun i hi => hok i (by omega))) q1 q2 ⟨k0, by omega⟩ (w := W k) ⟨?_, fun i i0 i1 => ?_⟩ hok1 (fun m2 p1 p2 p3 => ⟨inI_s (by omega), ih (by omega) m2 ?_ ?_ (q3.tr p3)⟩)
      · rw [q3.2 10 (by decide)]; exact hrow.1
      · rw [q3.2 11 (by decide)]; exact hrow.2 i i0 i1
      · rw [show (k + 1).toNat = k.toNat + 1 by omega]
        show agB m2 (stepZ (runZ z0 W k.toNat) (W (k.toNat : Int))).1
        rw [show ((k.toNat : Nat) : Int) = k by omega]; exact p1
      · rw [show (k + 1).toNat = k.toNat + 1 by omega]
        show agN m2 (stepZ (runZ z0 W k.toNat) (W (k.toNat : Int))).1
        rw [show ((k.toNat : Nat) : Int) = k by omega]; exact p2
  refine L 0 (by omega) hr.1 _ ⟨⟨e0.1.symm, e0.2.1.symm, e0.2.2.1.symm, e0.2.2.2.1.symm⟩, fun f f0 f1 => e7 f f0 ?_, fun t t0 t1 => ?_, fun t t0 t1 => ?_, fun t t0 t1 => ?_⟩ ⟨e0.2.2.2.2.symm, fun t t0 t1 => ?_, fun t t0 t1 => ?_⟩ ⟨fun k b1 b2 b3 b4 b5 => ?_, fun _ _ => rfl⟩
  · have f1 : f < z0.1.1 6 := f1
    rw [e0.1] at f1; exact f1
  · have t1 : t < z0.1.1 27 := t1
    rw [e0.2.1] at t1; omega
  · have t1 : t < z0.1.1 30 := t1
    rw [e0.2.2.1] at t1; omega
  · have t1 : t < z0.1.1 33 := t1
    rw [e0.2.2.2.1] at t1; omega
  · have t1 : t < z0.1.1 27 := t1
    rw [e0.2.1] at t1; omega
  · have t1 : t < z0.1.1 39 := t1
    rw [e0.2.2.2.2] at t1; omega
  · show (if k = 39 then 0 else if k = 33 then 0 else if k = 30 then 0 else if k = 27 then 0 else m.1 k) = m.1 k
    rw [if_neg b5, if_neg b4, if_neg b3, if_neg b2]
