/-! THE PURE PART, 42: texts: a same, a difference -/
set_option maxRecDepth 100000
theorem BR_same {r m : MS} {a b : Int} (h : BR r m) (hn : r.1 32 < 12) (ha : 0 ≤ a ∧ a < r.1 31) (hb : 0 ≤ b ∧ b < r.1 31) (e1 : m.2 11 (4 * (48 + m.1 24)) = a) (e2 : m.2 11 (4 * (48 + m.1 24) + 1) = b) : BR (yf4 (yf2 r a b) (r.1 32)) (ms (ms (ma m 10 (48 + m.1 24) 1) 24 (m.1 24 + 1)) 22 (m.1 22 + 1)) := by
  have hf := h.fun
  have ht := h.term
  have hs := h.same
  have hd := h.diff
  have hrows := h.rows
  have hb0 := h
  obtain ⟨⟨c1, c2, c3, c4, c5, c6⟩, h2, h3, h4, h5, h6⟩ := h
  have l1 := lsR_add (r' := yf2 r a b) (j := 2) (by decide) rfl hn h2
  have l4 : ∀ i, i < 5 → lsR (yf4 (yf2 r a b) (r.1 32)) i := lsR_add (r := yf2 r a b) (j := 4) (by decide) rfl (show r.1 34 < 36 by omega) l1
  have v3 : bkv (yf2 r a b) := bkv_o h3 rfl rfl rfl
  have e34 : (yf2 r a b).1 34 = r.1 34 := rfl
  refine ⟨⟨c1, c2, show r.1 32 + 1 = m.1 22 + 1 by omega, c4, show r.1 34 + 1 = r.1 31 + (r.1 32 + 1) by omega, show m.1 24 + 1 = r.1 31 + (r.1 32 + 1) + r.1 33 by omega⟩, l4, bkv_4 v3 (l1 4 (by decide)) (show r.1 34 < 36 by omega) ⟨by omega, by omega⟩, h4, h5, ?_⟩
  show RW _ _ (m.1 24 + 1).toNat (r.1 31) (r.1 32 + 1) (r.1 33)
  rw [show (m.1 24 + 1).toNat = (m.1 24).toNat + 1 by omega]
  have ek : (((m.1 24).toNat : Nat) : Int) = m.1 24 := by omega
  refine Or.inr (Or.inl ⟨?_, ?_, ?_, ?_, ?_, ?_⟩)
  · show iup (m.2 10) (48 + m.1 24) 1 (48 + (((m.1 24).toNat : Nat) : Int)) = 1
    rw [ek, iup_at]
  · rw [show r.1 32 + 1 - 1 = r.1 32 by omega]
    refine RW_congr (r := r) (m := m) (r' := yf4 (yf2 r a b) (r.1 32)) (m' := ms (ms (ma m 10 (48 + m.1 24) 1) 24 (m.1 24 + 1)) 22 (m.1 22 + 1)) (N := r.1 31) (S := r.1 32) (D := r.1 33) (R := (m.1 24).toNat) (Int.le_refl _) (fun f _ _ => rfl) (fun t t0 t1 => ⟨rfl, rfl, ?_⟩) (fun t t0 t1 => ⟨?_, ?_⟩) (fun t _ _ => ⟨rfl, rfl⟩) (fun t t0 t1 => ?_) (fun k k0 k1 => ?_) (fun _ _ _ => rfl) (fun f f0 f1 => (h4 f f0 f1).2.2.2) _ _ _ _ (Nat.le_refl _) (Int.le_refl _) (Int.le_refl _) (Int.le_refl _) h6
    · show (if 100 + t.toNat = 44 then _ else (yf2 r a b).2 (100 + t.toNat)) = r.2 (100 + t.toNat)
      rw [if_neg (by omega), yf2_o (by omega) (by omega)]
    · show iup (r.2 40) (r.1 32) a t = r.2 40 t
      rw [iup_ne (by omega)]
    · show iup (r.2 41) (r.1 32) b t = r.2 41 t
      rw [iup_ne (by omega)]
    · show iup (r.2 44) (r.1 34) (r.1 32) t = r.2 44 t
      rw [iup_ne (by omega)]
    · show iup (m.2 10) (48 + m.1 24) 1 k = m.2 10 k
      rw [iup_ne (by omega)]
  · show iup (r.2 44) (r.1 34) (r.1 32) (r.1 31 + (r.1 32 + 1 - 1)) = r.1 32 + 1 - 1
    rw [show r.1 31 + (r.1 32 + 1 - 1) = r.1 34 by omega, iup_at]; omega
  · show (0 ≤ iup (r.2 40) (r.1 32) a (r.1 32 + 1 - 1) ∧ iup (r.2 40) (r.1 32) a (r.1 32 + 1 - 1) < r.1 31) ∧ 0 ≤ iup (r.2 41) (r.1 32) b (r.1 32 + 1 - 1) ∧ iup (r.2 41) (r.1 32) b (r.1 32 + 1 - 1) < r.1 31
    rw [show r.1 32 + 1 - 1 = r.1 32 by omega, iup_at, iup_at]; exact ⟨ha, hb⟩
  · show m.2 11 (4 * (48 + (((m.1 24).toNat : Nat) : Int))) = iup (r.2 40) (r.1 32) a (r.1 32 + 1 - 1)
    rw [ek, show r.1 32 + 1 - 1 = r.1 32 by omega, iup_at]; exact e1
  · show m.2 11 (4 * (48 + (((m.1 24).toNat : Nat) : Int)) + 1) = iup (r.2 41) (r.1 32) b (r.1 32 + 1 - 1)
    rw [ek, show r.1 32 + 1 - 1 = r.1 32 by omega, iup_at]; exact e2
theorem BR_diff {r m : MS} {a b : Int} (h : BR r m) (hn : r.1 33 < 8) (ha : 0 ≤ a ∧ a < r.1 31) (hb : 0 ≤ b ∧ b < r.1 31) (e1 : m.2 11 (4 * (48 + m.1 24)) = a) (e2 : m.2 11 (4 * (48 + m.1 24) + 1) = b) : BR (yf3 r a b) (ms (ms (ma m 10 (48 + m.1 24) 2) 24 (m.1 24 + 1)) 23 (m.1 23 + 1)) := by
  have hf := h.fun
  have ht := h.term
  have hs := h.same
  have hd := h.diff
  have hrows := h.rows
  have hb0 := h
  obtain ⟨⟨c1, c2, c3, c4, c5, c6⟩, h2, h3, h4, h5, h6⟩ := h
  have l1 := lsR_add (r' := yf3 r a b) (j := 3) (by decide) rfl hn h2
  refine ⟨⟨c1, c2, c3, show r.1 33 + 1 = m.1 23 + 1 by omega, c5, show m.1 24 + 1 = r.1 31 + r.1 32 + (r.1 33 + 1) by omega⟩, l1, bkv_o h3 rfl rfl rfl, h4, h5, ?_⟩
  show RW _ _ (m.1 24 + 1).toNat (r.1 31) (r.1 32) (r.1 33 + 1)
  rw [show (m.1 24 + 1).toNat = (m.1 24).toNat + 1 by omega]
  have ek : (((m.1 24).toNat : Nat) : Int) = m.1 24 := by omega
  refine Or.inr (Or.inr ⟨?_, ?_, ?_, ?_, ?_⟩)
  · show iup (m.2 10) (48 + m.1 24) 2 (48 + (((m.1 24).toNat : Nat) : Int)) = 2
    rw [ek, iup_at]
  · rw [show r.1 33 + 1 - 1 = r.1 33 by omega]
    refine RW_congr (r := r) (m := m) (r' := yf3 r a b) (m' := ms (ms (ma m 10 (48 + m.1 24) 2) 24 (m.1 24 + 1)) 23 (m.1 23 + 1)) (N := r.1 31) (S := r.1 32) (D := r.1 33) (R := (m.1 24).toNat) (Int.le_refl _) (fun f _ _ => rfl) (fun t t0 t1 => ⟨rfl, rfl, ?_⟩) (fun t _ _ => ⟨rfl, rfl⟩) (fun t t0 t1 => ⟨?_, ?_⟩) (fun t t0 t1 => rfl) (fun k k0 k1 => ?_) (fun _ _ _ => rfl) (fun f f0 f1 => (h4 f f0 f1).2.2.2) _ _ _ _ (Nat.le_refl _) (Int.le_refl _) (Int.le_refl _) (Int.le_refl _) h6
    · rw [yf3_o (by omega) (by omega)]
    · show iup (r.2 42) (r.1 33) a t = r.2 42 t
      rw [iup_ne (by omega)]
    · show iup (r.2 43) (r.1 33) b t = r.2 43 t
      rw [iup_ne (by omega)]
    · show iup (m.2 10) (48 + m.1 24) 2 k = m.2 10 k
      rw [iup_ne (by omega)]
  · show (0 ≤ iup (r.2 42) (r.1 33) a (r.1 33 + 1 - 1) ∧ iup (r.2 42) (r.1 33) a (r.1 33 + 1 - 1) < r.1 31) ∧ 0 ≤ iup (r.2 43) (r.1 33) b (r.1 33 + 1 - 1) ∧ iup (r.2 43) (r.1 33) b (r.1 33 + 1 - 1) < r.1 31
    rw [show r.1 33 + 1 - 1 = r.1 33 by omega, iup_at, iup_at]; exact ⟨ha, hb⟩
  · show m.2 11 (4 * (48 + (((m.1 24).toNat : Nat) : Int))) = iup (r.2 42) (r.1 33) a (r.1 33 + 1 - 1)
    rw [ek, show r.1 33 + 1 - 1 = r.1 33 by omega, iup_at]; exact e1
  · show m.2 11 (4 * (48 + (((m.1 24).toNat : Nat) : Int)) + 1) = iup (r.2 43) (r.1 33) b (r.1 33 + 1 - 1)
    rw [ek, show r.1 33 + 1 - 1 = r.1 33 by omega, iup_at]; exact e2
/-- a row's part kept beyond -/
theorem RD_11 {tp : Int → Int} {r m : MS} {x v : Int} (h : RD tp r m) (hx : 4 * (48 + m.1 24) ≤ x) : RD tp r (ma m 11 x v) ∧ frR m (ma m 11 x v) := by
  have hr := h.2.2.2.rows
  refine ⟨⟨h.1, h.2.1, lxR_o h.2.2.1 (fun _ _ => rfl) (fun _ _ _ => rfl), h.2.2.2.m (fun _ _ _ => rfl) (fun _ _ _ => rfl) (fun _ _ _ => rfl) (fun _ _ _ => rfl) (fun _ _ _ => rfl) (fun k k0 k1 => ?_)⟩, ⟨fun _ _ => rfl, fun k a b c d e => if_neg c, fun _ _ => rfl, fun _ _ => rfl, fun k hk => ?_, fun _ _ => rfl⟩⟩
  · show iup (m.2 11) x v k = m.2 11 k
    rw [iup_ne (by omega)]
  · show iup (m.2 11) x v k = m.2 11 k
    rw [iup_ne (by omega)]
theorem line_same {tp : Int → Int} {r m : MS} {kc ks : Nat} (h : RD tp r m) (hc : 20 ≤ kc) (hs : 300 ≤ ks) : OutL m (fun K KX => (C_X8_begin_2 12 tp r (fun s112 => ((2 ≤ ((kc - 1) - 1) ∧ 16 ≤ ((ks - 8) - 8)) ∧ (C_X8_term tp s112 (fun r116 s117 => ((s117.1 42 = s117.1 32 ∧ 1 ≤ (((kc - 1) - 1) - 2) ∧ 2 ≤ (((ks - 8) - 8) - 16)) ∧ ((2 ≤ ((((kc - 1) - 1) - 2) - 1) ∧ 16 ≤ ((((ks - 8) - 8) - 16) - 2)) ∧ (C_X8_term tp s117 (fun r122 s123 => ((s123.1 32 = s117.1 32 ∧ s123.1 42 = s123.1 32) ∧ (((bkc 2 s123 ∧ bkm 2 s123) ∧ 1 ≤ (((((kc - 1) - 1) - 2) - 1) - 2) ∧ al_N (xcap 2 (s123.1 52).toNat) ≤ (((((ks - 8) - 8) - 16) - 2) - 16)) ∧ ∀ s129 : MS, s129 = yf2 s123 r116 r122 → (((1 : Int) = 0 → K s129) ∧ (¬ (1 : Int) = 0 → ((inI ((s129.1 32) - 1)) ∧ (C_J15_valueOf ((s129.1 32) - 1) (fun r133 => (((bkc 4 s129 ∧ bkv s129 ∧ (-128 ≤ r133 ∧ r133 < 128)) ∧ 1 ≤ ((((((kc - 1) - 1) - 2) - 1) - 2) - 1) ∧ al_N (xcap 4 (s129.1 54).toNat) ≤ ((((((ks - 8) - 8) - 16) - 2) - 16) - al_N (xcap 2 (s123.1 52).toNat))) ∧ ∀ s137 : MS, s137 = yf4 s129 r133 → K s137))))))))) KX)))) KX))) KX)) (fun K => C_readPair 1 m K) (QL tp r) := by
  have hf := h.2.2.2.same
  have hb0 := h.2.2.2
  have eN : r.1 32 = m.1 22 := hb0.1.2.2.1
  have hrw := hb0.rows
  by_cases hfull : r.1 32 = 12
  · exact OutL.bad frR.rf h.pm (by decide) (fun K KX hk => ⟨fun _ => hk, fun q => absurd (by omega) q⟩) (fun K hk => fun X hX => ⟨fun q => absurd q (by decide), fun _ => ⟨fun _ => c_errs ⟨Or.inl rfl, hk⟩, fun q => absurd (show m.1 22 = 12 by omega) q⟩⟩)
  obtain ⟨r1, m1, u1, v1, f1, g1, h1⟩ := h.go
  have x24 : m1.1 24 = m.1 24 := g1.1 24 (by decide) (by decide) (by decide) (by decide)
  have x31 : r1.1 31 = r.1 31 := f1.1 31 (by decide) (by decide) (by decide) (by decide) (by decide)
  by_cases hn1 : isNm (m1.2 4) r1
  · obtain ⟨v, hv1, hv2⟩ := h1.tv hn1.1
    obtain ⟨h1', fk1⟩ := RD_11 (x := 4 * (48 + m.1 24) + 0) (v := v) h1 (by omega)
    by_cases ev : v = -1
    · refine OutL.bad (g1.r.tr fk1) h1'.pm (by decide) (fun K KX hk => ⟨fun q => absurd q (by omega), fun _ => u1 _ ⟨⟨by omega, by omega⟩, x8_term h1 hn1 hv1 (fun _ => hk) (fun q => absurd ev q)⟩⟩) (fun K hk => fun X hX => ⟨fun q => absurd q (by decide), fun _ => ⟨fun q => absurd (show m.1 22 = 12 from q) (by omega), fun _ => ⟨inI_s (by omega), inI_s (by omega), (hX _ _ _ _ ⟨fun q => absurd q (by decide), fun _ => v1 _ (c_isName h1.2.1.2.2 h1.2.2.1 (fun _ => ⟨fun q => absurd q (by decide), fun _ => ⟨inI_s (by omega), c_t h1 hv2 ⟨⟨by omega, by omega⟩, ?_⟩⟩⟩) (fun q => absurd hn1 q))⟩)⟩⟩⟩)
      rintro _ rfl
      refine ⟨inI_s (by omega), ⟨by omega, by omega⟩, fun _ => c_errs ⟨Or.inl rfl, hk⟩, fun q => absurd ?_ q⟩
      show iup (m1.2 11) _ v _ = -1
      rw [iup_at]; exact ev
    · have hvr := isFirst_n hv1 ev
      obtain ⟨r2, m2, u2, v2, f2, g2, h2⟩ := h1'.go
      have y24 : m2.1 24 = m1.1 24 := g2.1 24 (by decide) (by decide) (by decide) (by decide)
      have y31 : r2.1 31 = r1.1 31 := f2.1 31 (by decide) (by decide) (by decide) (by decide) (by decide)
      have y11 : m2.2 11 = iup (m1.2 11) (4 * (48 + m.1 24) + 0) v := by rw [g2.2]; rfl
      -- the first one read, by the reference
      have first : ∀ (X : Int → Int → Int → MS → Prop) (K : Int → MS → Prop), (∀ x1 x2 x3 s0, B_readPair_43 X K x1 x2 x3 s0 → X x1 x2 x3 s0) → X 1 (4 * (48 + m.1 24)) 1 (ma m1 11 (4 * (48 + m.1 24) + 0) v) → X 1 (4 * (48 + m.1 24)) 0 m := by
        intro X K hX hk
        refine hX _ _ _ _ ⟨fun q => absurd q (by decide), fun _ => v1 _ (c_isName h1.2.1.2.2 h1.2.2.1 (fun _ => ⟨fun q => absurd q (by decide), fun _ => ⟨inI_s (by omega), c_t h1 hv2 ⟨⟨by omega, by omega⟩, ?_⟩⟩⟩) (fun q => absurd hn1 q))⟩
        rintro _ rfl
        refine ⟨inI_s (by omega), ⟨by omega, by omega⟩, fun q => absurd ?_ ev, fun _ => ⟨inI_s (by omega), hk⟩⟩
        have q : iup (m1.2 11) (4 * (48 + m.1 24) + 0) v (4 * (48 + m.1 24) + 0) = -1 := q
        rw [iup_at] at q; exact q
      have e1 : r1.1 42 = r1.1 32 := (h1.2.2.2.2.1 2 (by decide)).1
      have e2 : r2.1 42 = r2.1 32 := (h2.2.2.2.2.1 2 (by decide)).1
      by_cases hn2 : isNm (m2.2 4) r2
      · obtain ⟨w, hw1, hw2⟩ := h2.tv hn2.1
        obtain ⟨h2', fk2⟩ := RD_11 (x := 4 * (48 + m.1 24) + 1) (v := w) h2 (by omega)
        by_cases ew : w = -1
        · refine OutL.bad (((g1.r.tr fk1).tr g2.r).tr fk2) h2'.pm (by decide) (fun K KX hk => ⟨fun q => absurd q (by omega), fun _ => u1 _ ⟨⟨by omega, by omega⟩, x8_term h1 hn1 hv1 (fun q => absurd q ev) (fun _ => u2 _ ⟨⟨e2, by omega, by omega⟩, ⟨by omega, by omega⟩, x8_term h2 hn2 hw1 (fun _ => hk) (fun q => absurd ew q)⟩)⟩⟩) (fun K hk => fun X hX => ⟨fun q => absurd q (by decide), fun _ => ⟨fun q => absurd (show m.1 22 = 12 from q) (by omega), fun _ => ⟨inI_s (by omega), inI_s (by omega), (first X K hX (hX _ _ _ _ ⟨fun q => absurd q (by decide), fun _ => v2 _ (c_isName h2.2.1.2.2 h2.2.2.1 (fun _ => ⟨fun q => absurd q (by decide), fun _ => ⟨inI_s (by omega), c_t h2 hw2 ⟨⟨by omega, by omega⟩, ?_⟩⟩⟩) (fun q => absurd hn2 q))⟩))⟩⟩⟩)
          rintro _ rfl
          refine ⟨inI_s (by omega), ⟨by omega, by omega⟩, fun _ => c_errs ⟨Or.inl rfl, hk⟩, fun q => absurd ?_ q⟩
          show iup (m2.2 11) _ w _ = -1
          rw [iup_at]; exact ew
        · have hwr := isFirst_n hw1 ew
          obtain ⟨r3, m3, u3, v3, f3, g3, h3⟩ := h2'.go
          have z24 : m3.1 24 = m.1 24 := (g3.1 24 (by decide) (by decide) (by decide) (by decide)).trans (y24.trans x24)
          have z31 : r3.1 31 = r.1 31 := (f3.1 31 (by decide) (by decide) (by decide) (by decide) (by decide)).trans (y31.trans x31)
          have z3 : ∀ k, 30 ≤ k → r3.1 k = r2.1 k := fun k hk => f3.1 k (by omega) (by omega) (by omega) (by omega) (by omega)
          have z2 : ∀ k, 30 ≤ k → r2.1 k = r1.1 k := fun k hk => f2.1 k (by omega) (by omega) (by omega) (by omega) (by omega)
          have z1 : ∀ k, 30 ≤ k → r1.1 k = r.1 k := fun k hk => f1.1 k (by omega) (by omega) (by omega) (by omega) (by omega)
          have z11 : m3.2 11 = iup (iup (m1.2 11) (4 * (48 + m.1 24) + 0) v) (4 * (48 + m.1 24) + 1) w := by
            rw [g3.2]
            show iup (m2.2 11) _ w = _
            rw [y11]
          have zn : r3.1 32 = r.1 32 := (z3 _ (by decide)).trans ((z2 _ (by decide)).trans (z1 _ (by decide)))
          have hB3 := BR_same (a := v) (b := w) h3.2.2.2 (by omega) ⟨hvr.1, by omega⟩ ⟨hwr.1, by omega⟩ (by
            rw [z24, z11, iup_ne (by omega)]
            exact if_pos (by omega)) (by rw [z24, z11, iup_at])
          have h4 : RD tp (yf4 (yf2 r3 v w) (r3.1 32)) (ms (ms (ma m3 10 (48 + m3.1 24) 1) 24 (m3.1 24 + 1)) 22 (m3.1 22 + 1)) := ⟨h3.1, h3.2.1, lxR_o h3.2.2.1 (fun k hk => ?_) (fun k k0 k1 => ?_), hB3⟩
          · have hls := (h3.2.2.2.2.1 2 (by decide)).bkc (by decide) (show r3.1 32 < 12 by omega)
            have hal : al_N (xcap 2 (r3.1 52).toNat) ≤ 100 := hls.2.2
            have l1 := lsR_add (r' := yf2 r3 v w) (j := 2) (by decide) rfl (show r3.1 32 < 12 by omega) h3.2.2.2.2.1
            have e34 : r3.1 34 = r3.1 31 + r3.1 32 := h3.2.2.2.1.2.2.2.2.1
            have ht3 := h3.2.2.2.term
            have hls4 := (l1 4 (by decide)).bkc (by decide) (show r3.1 34 < 36 by omega)
            have hal4 : al_N (xcap 4 ((yf2 r3 v w).1 54).toNat) ≤ 100 := hls4.2.2
            have hv3 : bkv (yf2 r3 v w) := bkv_o h3.2.2.2.2.2.1 rfl rfl rfl
            have hs3 := h3.2.2.2.same
            refine OutL.good (r := yf4 (yf2 r3 v w) (r3.1 32)) (m := ms (ms (ma m3 10 (48 + m3.1 24) 1) 24 (m3.1 24 + 1)) 22 (m3.1 22 + 1)) (fun K KX q => ⟨fun q2 => absurd q2 (by omega), fun _ => u1 _ ⟨⟨by omega, by omega⟩, x8_term h1 hn1 hv1 (fun q2 => absurd q2 ev) (fun _ => u2 _ ⟨⟨e2, by omega, by omega⟩, ⟨by omega, by omega⟩, x8_term h2 hn2 hw1 (fun q2 => absurd q2 ew) (fun _ => u3 _ ⟨⟨z3 32 (by decide), hls.2.1⟩, ⟨⟨hls.1, hls.2.1⟩, by omega, by omega⟩, ?_⟩)⟩)⟩⟩) (fun K q => fun X hX => ⟨fun q => absurd q (by decide), fun _ => ⟨fun q => absurd (show m.1 22 = 12 from q) (by omega), fun _ => ⟨inI_s (by omega), inI_s (by omega), (first X K hX (hX _ _ _ _ ⟨fun q2 => absurd q2 (by decide), fun _ => v2 _ (c_isName h2.2.1.2.2 h2.2.2.1 (fun _ => ⟨fun q2 => absurd q2 (by decide), fun _ => ⟨inI_s (by omega), c_t h2 hw2 ⟨⟨by omega, by omega⟩, ?_⟩⟩⟩) (fun q2 => absurd hn2 q2))⟩))⟩⟩⟩) ⟨h4, ?_⟩ ((((g1.r.tr fk1).tr g2.r).tr fk2).tr (g3.r.tr ⟨fun k hk => ?_, fun k a b c d e => ?_, fun _ _ => rfl, fun k hk => ?_, fun _ _ => rfl, fun _ _ => rfl⟩))
            · rintro _ rfl
              refine ⟨fun q2 => absurd q2 (by decide), fun _ => ⟨inI_s (by show -1000000 ≤ r3.1 32 + 1 - 1 ∧ r3.1 32 + 1 - 1 ≤ 1000000; omega), ?_⟩⟩
              show C_J15_valueOf (r3.1 32 + 1 - 1) _
              rw [show r3.1 32 + 1 - 1 = r3.1 32 by omega]
              refine ⟨fun q2 => by omega, fun _ => ⟨fun q2 => by omega, fun _ => ⟨inI_s (by omega), ⟨by omega, by omega⟩, ?_⟩⟩⟩
              rw [show r3.1 32 + 128 - 128 = r3.1 32 by omega]
              refine ⟨⟨⟨hls4.1, hv3, by omega, by omega⟩, by omega, by omega⟩, ?_⟩
              rintro _ rfl
              exact q
            · rintro _ rfl
              refine ⟨inI_s (by omega), ⟨by omega, by omega⟩, fun q2 => absurd ?_ ew, fun _ => ⟨inI_s (by omega), hX _ _ _ _ ⟨fun _ => v3 _ ⟨inI_s (by omega), fun q2 => absurd q2 (by decide), fun _ => ⟨⟨by omega, by omega⟩, ?_⟩⟩, fun q2 => absurd (by decide) q2⟩⟩⟩
              · have q2 : iup (m2.2 11) (4 * (48 + m.1 24) + 1) w (4 * (48 + m.1 24) + 1) = -1 := q2
                rw [iup_at] at q2; exact q2
              · rintro _ rfl
                refine ⟨inI_s (by show -1000000 ≤ m3.1 24 + 1 ∧ m3.1 24 + 1 ≤ 1000000; omega), ?_⟩
                rintro _ rfl
                have e22 : r3.1 32 = m3.1 22 := h3.2.2.2.1.2.2.1
                refine ⟨fun q2 => absurd q2 (by decide), fun _ => ⟨inI_s (by show -1000000 ≤ m3.1 22 + 1 ∧ m3.1 22 + 1 ≤ 1000000; omega), ?_⟩⟩
                rintro _ rfl
                have hd3 := h3.2.2.2.diff
                have e23 : r3.1 33 = m3.1 23 := h3.2.2.2.1.2.2.2.1
                refine ⟨fun q2 => absurd q2 (by decide), fun _ => ⟨inI_s (by show -1000000 ≤ m3.1 23 + 0 ∧ m3.1 23 + 0 ≤ 1000000; omega), ?_⟩⟩
                rintro _ rfl
                have e9 : ms (ms (ms (ma m3 10 (48 + m3.1 24) 1) 24 (m3.1 24 + 1)) 22 (m3.1 22 + 1)) 23 (m3.1 23 + 0) = ms (ms (ma m3 10 (48 + m3.1 24) 1) 24 (m3.1 24 + 1)) 22 (m3.1 22 + 1) := by
                  refine Prod.ext (funext fun k => ?_) rfl
                  show (if k = 23 then m3.1 23 + 0 else if k = 22 then m3.1 22 + 1 else if k = 24 then m3.1 24 + 1 else m3.1 k) = (if k = 22 then m3.1 22 + 1 else if k = 24 then m3.1 24 + 1 else m3.1 k)
                  by_cases k23 : k = 23
                  · rw [if_pos k23, if_neg (by omega), if_neg (by omega), k23]; omega
                  · rw [if_neg k23]
                show K 1 (ms (ms (ms (ma m3 10 (48 + m3.1 24) 1) 24 (m3.1 24 + 1)) 22 (m3.1 22 + 1)) 23 (m3.1 23 + 0))
                rw [e9]
                exact q
            · unfold sumR
              show r3.1 30 + r3.1 31 + (r3.1 32 + 1) + r3.1 33 = _
              rw [z3 30 (by decide), z3 31 (by decide), z3 32 (by decide), z3 33 (by decide), z2 30 (by decide), z2 31 (by decide), z2 32 (by decide), z2 33 (by decide), z1 30 (by decide), z1 31 (by decide), z1 32 (by decide), z1 33 (by decide)]
              omega
            · show (if k = 22 then _ else if k = 24 then _ else m3.1 k) = m3.1 k
              rw [if_neg (by omega), if_neg (by omega)]
            · show (if k = 10 then _ else m3.2 k) = m3.2 k
              rw [if_neg b]
            · show iup (m3.2 10) (48 + m3.1 24) 1 k = m3.2 10 k
              rw [iup_ne (by omega)]
          · show (yi 4 (yf2 r3 v w)) k = r3.1 k
            rw [yi_o (by omega)]
            exact yi_o (r := r3) (j := 2) (by omega)
          · show (if k = 22 then _ else if k = 24 then _ else m3.1 k) = m3.1 k
            rw [if_neg (by omega), if_neg (by omega)]
      · exact OutL.bad ((g1.r.tr fk1).tr g2.r) h2.pm (by decide) (fun K KX hk => ⟨fun q => absurd q (by omega), fun _ => u1 _ ⟨⟨by omega, by omega⟩, x8_term h1 hn1 hv1 (fun q => absurd q ev) (fun _ => u2 _ ⟨⟨e2, by omega, by omega⟩, ⟨by omega, by omega⟩, x8_term_no h2 hn2 hk⟩)⟩⟩) (fun K hk => fun X hX => ⟨fun q => absurd q (by decide), fun _ => ⟨fun q => absurd (show m.1 22 = 12 from q) (by omega), fun _ => ⟨inI_s (by omega), inI_s (by omega), (first X K hX (hX _ _ _ _ ⟨fun q => absurd q (by decide), fun _ => v2 _ (c_isName h2.2.1.2.2 h2.2.2.1 (fun q => absurd q hn2) (fun _ => ⟨fun _ => c_errs ⟨Or.inl rfl, hk⟩, fun q => absurd rfl q⟩))⟩))⟩⟩⟩)
  · exact OutL.bad g1.r h1.pm (by decide) (fun K KX hk => ⟨fun q => absurd q (by omega), fun _ => u1 _ ⟨⟨by omega, by omega⟩, x8_term_no h1 hn1 hk⟩⟩) (fun K hk => fun X hX => ⟨fun q => absurd q (by decide), fun _ => ⟨fun q => absurd (show m.1 22 = 12 from q) (by omega), fun _ => ⟨inI_s (by omega), inI_s (by omega), (hX _ _ _ _ ⟨fun q => absurd q (by decide), fun _ => v1 _ (c_isName h1.2.1.2.2 h1.2.2.1 (fun q => absurd q hn1) (fun _ => ⟨fun _ => c_errs ⟨Or.inl rfl, hk⟩, fun q => absurd rfl q⟩))⟩)⟩⟩⟩)
theorem line_diff {tp : Int → Int} {r m : MS} {kc ks : Nat} (h : RD tp r m) (hc : 20 ≤ kc) (hs : 300 ≤ ks) : OutL m (fun K KX => (C_X8_begin_3 8 tp r (fun s27 => ((2 ≤ ((kc - 1) - 1) ∧ 16 ≤ ((ks - 8) - 8)) ∧ (C_X8_term tp s27 (fun r31 s32 => ((s32.1 43 = s32.1 33 ∧ 1 ≤ (((kc - 1) - 1) - 2) ∧ 2 ≤ (((ks - 8) - 8) - 16)) ∧ ((2 ≤ ((((kc - 1) - 1) - 2) - 1) ∧ 16 ≤ ((((ks - 8) - 8) - 16) - 2)) ∧ (C_X8_term tp s32 (fun r37 s38 => ((s38.1 33 = s32.1 33 ∧ s38.1 43 = s38.1 33) ∧ (((bkc 3 s38 ∧ bkm 3 s38) ∧ 1 ≤ (((((kc - 1) - 1) - 2) - 1) - 2) ∧ al_N (xcap 3 (s38.1 53).toNat) ≤ (((((ks - 8) - 8) - 16) - 2) - 16)) ∧ ∀ s44 : MS, s44 = yf3 s38 r31 r37 → (((0 : Int) = 0 → K s44) ∧ (¬ (0 : Int) = 0 → ((inI ((s44.1 33) - 1)) ∧ (C_J15_valueOf ((s44.1 33) - 1) (fun r48 => (((bkc 4 s44 ∧ bkv s44 ∧ (-128 ≤ r48 ∧ r48 < 128)) ∧ 1 ≤ ((((((kc - 1) - 1) - 2) - 1) - 2) - 1) ∧ al_N (xcap 4 (s44.1 54).toNat) ≤ ((((((ks - 8) - 8) - 16) - 2) - 16) - al_N (xcap 3 (s38.1 53).toNat))) ∧ ∀ s52 : MS, s52 = yf4 s44 r48 → K s52))))))))) KX)))) KX))) KX)) (fun K => C_readPair 0 m K) (QL tp r) := by
  have hf := h.2.2.2.diff
  have hb0 := h.2.2.2
  have eN : r.1 33 = m.1 23 := hb0.1.2.2.2.1
  have hrw := hb0.rows
  by_cases hfull : r.1 33 = 8
  · exact OutL.bad frR.rf h.pm (by decide) (fun K KX hk => ⟨fun _ => hk, fun q => absurd (by omega) q⟩) (fun K hk => fun X hX => ⟨fun _ => ⟨fun _ => c_errs ⟨Or.inl rfl, hk⟩, fun q => absurd (show m.1 23 = 8 by omega) q⟩, fun q => absurd rfl q⟩)
  obtain ⟨r1, m1, u1, v1, f1, g1, h1⟩ := h.go
  have x24 : m1.1 24 = m.1 24 := g1.1 24 (by decide) (by decide) (by decide) (by decide)
  have x31 : r1.1 31 = r.1 31 := f1.1 31 (by decide) (by decide) (by decide) (by decide) (by decide)
  by_cases hn1 : isNm (m1.2 4) r1
  · obtain ⟨v, hv1, hv2⟩ := h1.tv hn1.1
    obtain ⟨h1', fk1⟩ := RD_11 (x := 4 * (48 + m.1 24) + 0) (v := v) h1 (by omega)
    by_cases ev : v = -1
    · refine OutL.bad (g1.r.tr fk1) h1'.pm (by decide) (fun K KX hk => ⟨fun q => absurd q (by omega), fun _ => u1 _ ⟨⟨by omega, by omega⟩, x8_term h1 hn1 hv1 (fun _ => hk) (fun q => absurd ev q)⟩⟩) (fun K hk => fun X hX => ⟨fun _ => ⟨fun q => absurd (show m.1 23 = 8 from q) (by omega), fun _ => ⟨inI_s (by omega), inI_s (by omega), (hX _ _ _ _ ⟨fun q => absurd q (by decide), fun _ => v1 _ (c_isName h1.2.1.2.2 h1.2.2.1 (fun _ => ⟨fun q => absurd q (by decide), fun _ => ⟨inI_s (by omega), c_t h1 hv2 ⟨⟨by omega, by omega⟩, ?_⟩⟩⟩) (fun q => absurd hn1 q))⟩)⟩⟩, fun q => absurd rfl q⟩)
      rintro _ rfl
      refine ⟨inI_s (by omega), ⟨by omega, by omega⟩, fun _ => c_errs ⟨Or.inl rfl, hk⟩, fun q => absurd ?_ q⟩
      show iup (m1.2 11) _ v _ = -1
      rw [iup_at]; exact ev
    · have hvr := isFirst_n hv1 ev
      obtain ⟨r2, m2, u2, v2, f2, g2, h2⟩ := h1'.go
      have y24 : m2.1 24 = m1.1 24 := g2.1 24 (by decide) (by decide) (by decide) (by decide)
      have y31 : r2.1 31 = r1.1 31 := f2.1 31 (by decide) (by decide) (by decide) (by decide) (by decide)
      have y11 : m2.2 11 = iup (m1.2 11) (4 * (48 + m.1 24) + 0) v := by rw [g2.2]; rfl
      -- the first one read, by the reference
      have first : ∀ (X : Int → Int → Int → MS → Prop) (K : Int → MS → Prop), (∀ x1 x2 x3 s0, B_readPair_43 X K x1 x2 x3 s0 → X x1 x2 x3 s0) → X 0 (4 * (48 + m.1 24)) 1 (ma m1 11 (4 * (48 + m.1 24) + 0) v) → X 0 (4 * (48 + m.1 24)) 0 m := by
        intro X K hX hk
        refine hX _ _ _ _ ⟨fun q => absurd q (by decide), fun _ => v1 _ (c_isName h1.2.1.2.2 h1.2.2.1 (fun _ => ⟨fun q => absurd q (by decide), fun _ => ⟨inI_s (by omega), c_t h1 hv2 ⟨⟨by omega, by omega⟩, ?_⟩⟩⟩) (fun q => absurd hn1 q))⟩
        rintro _ rfl
        refine ⟨inI_s (by omega), ⟨by omega, by omega⟩, fun q => absurd ?_ ev, fun _ => ⟨inI_s (by omega), hk⟩⟩
        have q : iup (m1.2 11) (4 * (48 + m.1 24) + 0) v (4 * (48 + m.1 24) + 0) = -1 := q
        rw [iup_at] at q; exact q
      have e1 : r1.1 43 = r1.1 33 := (h1.2.2.2.2.1 3 (by decide)).1
      have e2 : r2.1 43 = r2.1 33 := (h2.2.2.2.2.1 3 (by decide)).1
      by_cases hn2 : isNm (m2.2 4) r2
      · obtain ⟨w, hw1, hw2⟩ := h2.tv hn2.1
        obtain ⟨h2', fk2⟩ := RD_11 (x := 4 * (48 + m.1 24) + 1) (v := w) h2 (by omega)
        by_cases ew : w = -1
        · refine OutL.bad (((g1.r.tr fk1).tr g2.r).tr fk2) h2'.pm (by decide) (fun K KX hk => ⟨fun q => absurd q (by omega), fun _ => u1 _ ⟨⟨by omega, by omega⟩, x8_term h1 hn1 hv1 (fun q => absurd q ev) (fun _ => u2 _ ⟨⟨e2, by omega, by omega⟩, ⟨by omega, by omega⟩, x8_term h2 hn2 hw1 (fun _ => hk) (fun q => absurd ew q)⟩)⟩⟩) (fun K hk => fun X hX => ⟨fun _ => ⟨fun q => absurd (show m.1 23 = 8 from q) (by omega), fun _ => ⟨inI_s (by omega), inI_s (by omega), (first X K hX (hX _ _ _ _ ⟨fun q => absurd q (by decide), fun _ => v2 _ (c_isName h2.2.1.2.2 h2.2.2.1 (fun _ => ⟨fun q => absurd q (by decide), fun _ => ⟨inI_s (by omega), c_t h2 hw2 ⟨⟨by omega, by omega⟩, ?_⟩⟩⟩) (fun q => absurd hn2 q))⟩))⟩⟩, fun q => absurd rfl q⟩)
          rintro _ rfl
          refine ⟨inI_s (by omega), ⟨by omega, by omega⟩, fun _ => c_errs ⟨Or.inl rfl, hk⟩, fun q => absurd ?_ q⟩
          show iup (m2.2 11) _ w _ = -1
          rw [iup_at]; exact ew
        · have hwr := isFirst_n hw1 ew
          obtain ⟨r3, m3, u3, v3, f3, g3, h3⟩ := h2'.go
          have z24 : m3.1 24 = m.1 24 := (g3.1 24 (by decide) (by decide) (by decide) (by decide)).trans (y24.trans x24)
          have z31 : r3.1 31 = r.1 31 := (f3.1 31 (by decide) (by decide) (by decide) (by decide) (by decide)).trans (y31.trans x31)
          have z3 : ∀ k, 30 ≤ k → r3.1 k = r2.1 k := fun k hk => f3.1 k (by omega) (by omega) (by omega) (by omega) (by omega)
          have z2 : ∀ k, 30 ≤ k → r2.1 k = r1.1 k := fun k hk => f2.1 k (by omega) (by omega) (by omega) (by omega) (by omega)
          have z1 : ∀ k, 30 ≤ k → r1.1 k = r.1 k := fun k hk => f1.1 k (by omega) (by omega) (by omega) (by omega) (by omega)
          have z11 : m3.2 11 = iup (iup (m1.2 11) (4 * (48 + m.1 24) + 0) v) (4 * (48 + m.1 24) + 1) w := by
            rw [g3.2]
            show iup (m2.2 11) _ w = _
            rw [y11]
          have zn : r3.1 33 = r.1 33 := (z3 _ (by decide)).trans ((z2 _ (by decide)).trans (z1 _ (by decide)))
          have hB3 := BR_diff (a := v) (b := w) h3.2.2.2 (by omega) ⟨hvr.1, by omega⟩ ⟨hwr.1, by omega⟩ (by
            rw [z24, z11, iup_ne (by omega)]
            exact if_pos (by omega)) (by rw [z24, z11, iup_at])
          have h4 : RD tp (yf3 r3 v w) (ms (ms (ma m3 10 (48 + m3.1 24) 2) 24 (m3.1 24 + 1)) 23 (m3.1 23 + 1)) := ⟨h3.1, h3.2.1, lxR_o h3.2.2.1 (fun k hk => ?_) (fun k k0 k1 => ?_), hB3⟩
          · have hls := (h3.2.2.2.2.1 3 (by decide)).bkc (by decide) (show r3.1 33 < 8 by omega)
            have hal : al_N (xcap 3 (r3.1 53).toNat) ≤ 100 := hls.2.2
            refine OutL.good (r := yf3 r3 v w) (m := ms (ms (ma m3 10 (48 + m3.1 24) 2) 24 (m3.1 24 + 1)) 23 (m3.1 23 + 1)) (fun K KX q => ⟨fun q2 => absurd q2 (by omega), fun _ => u1 _ ⟨⟨by omega, by omega⟩, x8_term h1 hn1 hv1 (fun q2 => absurd q2 ev) (fun _ => u2 _ ⟨⟨e2, by omega, by omega⟩, ⟨by omega, by omega⟩, x8_term h2 hn2 hw1 (fun q2 => absurd q2 ew) (fun _ => u3 _ ⟨⟨z3 33 (by decide), hls.2.1⟩, ⟨⟨hls.1, hls.2.1⟩, by omega, by omega⟩, ?_⟩)⟩)⟩⟩) (fun K q => fun X hX => ⟨fun _ => ⟨fun q => absurd (show m.1 23 = 8 from q) (by omega), fun _ => ⟨inI_s (by omega), inI_s (by omega), (first X K hX (hX _ _ _ _ ⟨fun q2 => absurd q2 (by decide), fun _ => v2 _ (c_isName h2.2.1.2.2 h2.2.2.1 (fun _ => ⟨fun q2 => absurd q2 (by decide), fun _ => ⟨inI_s (by omega), c_t h2 hw2 ⟨⟨by omega, by omega⟩, ?_⟩⟩⟩) (fun q2 => absurd hn2 q2))⟩))⟩⟩, fun q => absurd rfl q⟩) ⟨h4, ?_⟩ ((((g1.r.tr fk1).tr g2.r).tr fk2).tr (g3.r.tr ⟨fun k hk => ?_, fun k a b c d e => ?_, fun _ _ => rfl, fun k hk => ?_, fun _ _ => rfl, fun _ _ => rfl⟩))
            · rintro _ rfl
              exact ⟨fun _ => q, fun q2 => absurd rfl q2⟩
            · rintro _ rfl
              refine ⟨inI_s (by omega), ⟨by omega, by omega⟩, fun q2 => absurd ?_ ew, fun _ => ⟨inI_s (by omega), hX _ _ _ _ ⟨fun _ => v3 _ ⟨inI_s (by omega), fun _ => ⟨⟨by omega, by omega⟩, ?_⟩, fun q2 => absurd rfl q2⟩, fun q2 => absurd (by decide) q2⟩⟩⟩
              · have q2 : iup (m2.2 11) (4 * (48 + m.1 24) + 1) w (4 * (48 + m.1 24) + 1) = -1 := q2
                rw [iup_at] at q2; exact q2
              · rintro _ rfl
                refine ⟨inI_s (by show -1000000 ≤ m3.1 24 + 1 ∧ m3.1 24 + 1 ≤ 1000000; omega), ?_⟩
                rintro _ rfl
                have hs3 := h3.2.2.2.same
                have e22 : r3.1 32 = m3.1 22 := h3.2.2.2.1.2.2.1
                refine ⟨fun _ => ⟨inI_s (by show -1000000 ≤ m3.1 22 + 0 ∧ m3.1 22 + 0 ≤ 1000000; omega), ?_⟩, fun q2 => absurd rfl q2⟩
                rintro _ rfl
                have e23 : r3.1 33 = m3.1 23 := h3.2.2.2.1.2.2.2.1
                refine ⟨fun _ => ⟨inI_s (by show -1000000 ≤ m3.1 23 + 1 ∧ m3.1 23 + 1 ≤ 1000000; omega), ?_⟩, fun q2 => absurd rfl q2⟩
                rintro _ rfl
                have e9 : ms (ms (ms (ma m3 10 (48 + m3.1 24) 2) 24 (m3.1 24 + 1)) 22 (m3.1 22 + 0)) 23 (m3.1 23 + 1) = ms (ms (ma m3 10 (48 + m3.1 24) 2) 24 (m3.1 24 + 1)) 23 (m3.1 23 + 1) := by
                  refine Prod.ext (funext fun k => ?_) rfl
                  show (if k = 23 then m3.1 23 + 1 else if k = 22 then m3.1 22 + 0 else if k = 24 then m3.1 24 + 1 else m3.1 k) = (if k = 23 then m3.1 23 + 1 else if k = 24 then m3.1 24 + 1 else m3.1 k)
                  by_cases k22 : k = 22
                  · rw [if_neg (by omega), if_pos k22, if_neg (by omega), if_neg (by omega), k22]; omega
                  · rw [if_neg k22]
                show K 1 (ms (ms (ms (ma m3 10 (48 + m3.1 24) 2) 24 (m3.1 24 + 1)) 22 (m3.1 22 + 0)) 23 (m3.1 23 + 1))
                rw [e9]
                exact q
            · unfold sumR
              show r3.1 30 + r3.1 31 + r3.1 32 + (r3.1 33 + 1) = _
              rw [z3 30 (by decide), z3 31 (by decide), z3 32 (by decide), z3 33 (by decide), z2 30 (by decide), z2 31 (by decide), z2 32 (by decide), z2 33 (by decide), z1 30 (by decide), z1 31 (by decide), z1 32 (by decide), z1 33 (by decide)]
              omega
            · show (if k = 23 then _ else if k = 24 then _ else m3.1 k) = m3.1 k
              rw [if_neg (by omega), if_neg (by omega)]
            · show (if k = 10 then _ else m3.2 k) = m3.2 k
              rw [if_neg b]
            · show iup (m3.2 10) (48 + m3.1 24) 2 k = m3.2 10 k
              rw [iup_ne (by omega)]
          · exact yi_o (r := r3) (j := 3) (by omega)
          · show (if k = 23 then _ else if k = 24 then _ else m3.1 k) = m3.1 k
            rw [if_neg (by omega), if_neg (by omega)]
      · exact OutL.bad ((g1.r.tr fk1).tr g2.r) h2.pm (by decide) (fun K KX hk => ⟨fun q => absurd q (by omega), fun _ => u1 _ ⟨⟨by omega, by omega⟩, x8_term h1 hn1 hv1 (fun q => absurd q ev) (fun _ => u2 _ ⟨⟨e2, by omega, by omega⟩, ⟨by omega, by omega⟩, x8_term_no h2 hn2 hk⟩)⟩⟩) (fun K hk => fun X hX => ⟨fun _ => ⟨fun q => absurd (show m.1 23 = 8 from q) (by omega), fun _ => ⟨inI_s (by omega), inI_s (by omega), (first X K hX (hX _ _ _ _ ⟨fun q => absurd q (by decide), fun _ => v2 _ (c_isName h2.2.1.2.2 h2.2.2.1 (fun q => absurd q hn2) (fun _ => ⟨fun _ => c_errs ⟨Or.inl rfl, hk⟩, fun q => absurd rfl q⟩))⟩))⟩⟩, fun q => absurd rfl q⟩)
  · exact OutL.bad g1.r h1.pm (by decide) (fun K KX hk => ⟨fun q => absurd q (by omega), fun _ => u1 _ ⟨⟨by omega, by omega⟩, x8_term_no h1 hn1 hk⟩⟩) (fun K hk => fun X hX => ⟨fun _ => ⟨fun q => absurd (show m.1 23 = 8 from q) (by omega), fun _ => ⟨inI_s (by omega), inI_s (by omega), (hX _ _ _ _ ⟨fun q => absurd q (by decide), fun _ => v1 _ (c_isName h1.2.1.2.2 h1.2.2.1 (fun q => absurd q hn1) (fun _ => ⟨fun _ => c_errs ⟨Or.inl rfl, hk⟩, fun q => absurd rfl q⟩))⟩)⟩⟩, fun q => absurd rfl q⟩)
