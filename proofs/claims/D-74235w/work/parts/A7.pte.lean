/-! THE PURE PART, 44: texts: a term -/
set_option maxRecDepth 100000
theorem BR_term {r m : MS} {w f n : Int} {P : Int → Int} (h : BR r m) (hn : r.1 31 < 24) (hw : nameL w (fun k => m.2 12 (6 * (24 + r.1 31) + k))) (hf : 0 ≤ f ∧ f < r.1 30) (en : n = r.2 31 f) (hP : ∀ i, 0 ≤ i → i < n → (0 ≤ P i ∧ P i < r.1 31) ∧ m.2 11 (4 * (48 + m.1 24) + 1 + i) = P i) (e0 : m.2 11 (4 * (48 + m.1 24)) = f) : BR (yf4 (yf1 r w f n P) (-1)) (ms (ms (ma m 10 (48 + m.1 24) 0) 24 (m.1 24 + 1)) 21 (m.1 21 + 1)) := by
  have hfu := h.fun
  have ht := h.term
  have hs := h.same
  have hd := h.diff
  have hrows := h.rows
  obtain ⟨⟨c1, c2, c3, c4, c5, c6⟩, h2, h3, h4, h5, h6⟩ := h
  have l1 := lsR_add (r' := yf1 r w f n P) (j := 1) (by decide) rfl hn h2
  have e34 : (yf1 r w f n P).1 34 = r.1 34 := rfl
  have l4 : ∀ i, i < 5 → lsR (yf4 (yf1 r w f n P) (-1)) i := lsR_add (r := yf1 r w f n P) (j := 4) (by decide) rfl (show r.1 34 < 36 by omega) l1
  have v3 : bkv (yf1 r w f n P) := bkv_o h3 rfl rfl rfl
  refine ⟨⟨c1, show r.1 31 + 1 = m.1 21 + 1 by omega, c3, c4, show r.1 34 + 1 = r.1 31 + 1 + r.1 32 by omega, show m.1 24 + 1 = r.1 31 + 1 + r.1 32 + r.1 33 by omega⟩, l4, bkv_4 v3 (l1 4 (by decide)) (show r.1 34 < 36 by omega) ⟨by omega, by omega⟩, h4, fun t t0 t1 => ?_, ?_⟩
  · have t1 : t < r.1 31 + 1 := t1
    show nameL (iup (r.2 32) (r.1 31) w t) (fun k => m.2 12 (6 * (24 + t) + k))
    by_cases e : t = r.1 31
    · rw [e, iup_at]; exact hw
    · rw [iup_ne e]; exact h5 t t0 (by omega)
  show RW _ _ (m.1 24 + 1).toNat (r.1 31 + 1) (r.1 32) (r.1 33)
  rw [show (m.1 24 + 1).toNat = (m.1 24).toNat + 1 by omega]
  have ek : (((m.1 24).toNat : Nat) : Int) = m.1 24 := by omega
  have x33 : iup (r.2 33) (r.1 31) f (r.1 31 + 1 - 1) = f := by rw [show r.1 31 + 1 - 1 = r.1 31 by omega, iup_at]
  refine Or.inl ⟨?_, ?_, ?_, ?_, ?_, ?_, ?_⟩
  · show iup (m.2 10) (48 + m.1 24) 0 (48 + (((m.1 24).toNat : Nat) : Int)) = 0
    rw [ek, iup_at]
  · rw [show r.1 31 + 1 - 1 = r.1 31 by omega]
    refine RW_congr (r := r) (m := m) (r' := yf4 (yf1 r w f n P) (-1)) (m' := ms (ms (ma m 10 (48 + m.1 24) 0) 24 (m.1 24 + 1)) 21 (m.1 21 + 1)) (N := r.1 31) (S := r.1 32) (D := r.1 33) (R := (m.1 24).toNat) (Int.le_refl _) (fun f _ _ => rfl) (fun t t0 t1 => ⟨?_, ?_, ?_⟩) (fun t t0 t1 => ⟨rfl, rfl⟩) (fun t _ _ => ⟨rfl, rfl⟩) (fun t t0 t1 => ?_) (fun k k0 k1 => ?_) (fun _ _ _ => rfl) (fun f f0 f1 => (h4 f f0 f1).2.2.2) _ _ _ _ (Nat.le_refl _) (Int.le_refl _) (Int.le_refl _) (Int.le_refl _) h6
    · show iup (r.2 33) (r.1 31) f t = r.2 33 t
      rw [iup_ne (by omega)]
    · show iup (r.2 34) (r.1 31) n t = r.2 34 t
      rw [iup_ne (by omega)]
    · show (if 100 + t.toNat = 44 then _ else if 100 + t.toNat = 32 then _ else if 100 + t.toNat = 33 then _ else if 100 + t.toNat = 34 then _ else if 100 + t.toNat < 100 then _ else if 100 + t.toNat = 100 + (r.1 31).toNat then _ else r.2 (100 + t.toNat)) = r.2 (100 + t.toNat)
      rw [if_neg (by omega), if_neg (by omega), if_neg (by omega), if_neg (by omega), if_neg (by omega), if_neg (by omega)]
    · show iup (r.2 44) (r.1 34) (-1) t = r.2 44 t
      rw [iup_ne (by omega)]
    · show iup (m.2 10) (48 + m.1 24) 0 k = m.2 10 k
      rw [iup_ne (by omega)]
  · show iup (r.2 44) (r.1 34) (-1) (r.1 31 + 1 - 1 + r.1 32) = -1
    rw [show r.1 31 + 1 - 1 + r.1 32 = r.1 34 by omega, iup_at]
  · show 0 ≤ iup (r.2 33) (r.1 31) f (r.1 31 + 1 - 1) ∧ iup (r.2 33) (r.1 31) f (r.1 31 + 1 - 1) < r.1 30
    rw [x33]; exact hf
  · show m.2 11 (4 * (48 + (((m.1 24).toNat : Nat) : Int))) = iup (r.2 33) (r.1 31) f (r.1 31 + 1 - 1)
    rw [ek, x33]; exact e0
  · show iup (r.2 34) (r.1 31) n (r.1 31 + 1 - 1) = r.2 31 (iup (r.2 33) (r.1 31) f (r.1 31 + 1 - 1))
    rw [x33, show r.1 31 + 1 - 1 = r.1 31 by omega, iup_at]; exact en
  · intro i i0 i1
    have i1 : i < r.2 31 (iup (r.2 33) (r.1 31) f (r.1 31 + 1 - 1)) := i1
    rw [x33, ← en] at i1
    have hp := hP i i0 i1
    have ea : (yf4 (yf1 r w f n P) (-1)).2 (100 + (r.1 31 + 1 - 1).toNat) = P := by
      show (if 100 + (r.1 31 + 1 - 1).toNat = 44 then _ else if 100 + (r.1 31 + 1 - 1).toNat = 32 then _ else if 100 + (r.1 31 + 1 - 1).toNat = 33 then _ else if 100 + (r.1 31 + 1 - 1).toNat = 34 then _ else if 100 + (r.1 31 + 1 - 1).toNat < 100 then _ else if 100 + (r.1 31 + 1 - 1).toNat = 100 + (r.1 31).toNat then P else r.2 (100 + (r.1 31 + 1 - 1).toNat)) = P
      rw [if_neg (by omega), if_neg (by omega), if_neg (by omega), if_neg (by omega), if_neg (by omega), if_pos (by omega)]
    rw [ea, show r.1 31 + 1 - 1 = r.1 31 by omega]
    refine ⟨hp.1, ?_⟩
    show m.2 11 (4 * (48 + (((m.1 24).toNat : Nat) : Int)) + 1 + i) = P i
    rw [ek]; exact hp.2
theorem x8_pass {tp : Int → Int} {r m : MS} {c : Int} {K : MS → Prop} {KX : Int → Int → Prop} (h : RD tp r m) (hc : isSg c) (h1 : m.1 16 = c → C_X8_go tp r K) (h0 : m.1 16 ≠ c → KX 1 (r.1 3)) : C_X8_pass c tp r K KX := by
  unfold C_X8_pass B_X8_pass_E
  exact h.sg hc (fun q => ⟨fun q2 => absurd q2 (by decide), fun _ => h1 q⟩) (fun q => ⟨fun _ => h0 q, fun q2 => absurd rfl q2⟩)
theorem line_term {tp : Int → Int} {r m : MS} {kc ks : Nat} (h : RD tp r m) (hc : 40 ≤ kc) (hs : 500 ≤ ks) : OutL m (fun K KX => (C_X8_begin_1 24 tp r (fun s140 => ((2 ≤ ((kc - 1) - 1) ∧ 16 ≤ ((ks - 8) - 8)) ∧ (C_X8_fresh tp s140 (fun r144 s145 => ((1 ≤ (((kc - 1) - 1) - 2) ∧ 8 ≤ (((ks - 8) - 8) - 16)) ∧ (C_X8_pass 61 tp s145 (fun s150 => ((2 ≤ ((((kc - 1) - 1) - 2) - 1) ∧ 16 ≤ ((((ks - 8) - 8) - 16) - 8)) ∧ (C_X8_function tp s150 (fun r154 s155 => ((s155.1 41 = s155.1 31 ∧ 1 ≤ (((((kc - 1) - 1) - 2) - 1) - 2) ∧ 4 ≤ (((((ks - 8) - 8) - 16) - 8) - 16)) ∧ (((0 ≤ r154 ∧ r154 < s155.1 30) ∧ rok s155 0) ∧ ((0 ≤ r154 ∧ r154 < s155.1 40) ∧ (((0 ≤ r154 ∧ r154 < s155.1 30) ∧ rok s155 0) ∧ ((0 ≤ r154 ∧ r154 < s155.1 40) ∧ ((0 ≤ r154 ∧ r154 < s155.1 40) ∧ (∃ mc170c mc170s, mc170c ≤ ((((((kc - 1) - 1) - 2) - 1) - 2) - 1) ∧ mc170s ≤ ((((((ks - 8) - 8) - 16) - 8) - 16) - 4) ∧ (C_X8_parts mc170c mc170s tp (s155.1 31) (s155.2 31 r154) s155 (fun r165 s166 => ((s166.1 31 = s155.1 31 ∧ s166.1 41 = s166.1 31) ∧ (((bkc 1 s166 ∧ bkm 1 s166) ∧ 1 ≤ (((((((kc - 1) - 1) - 2) - 1) - 2) - 1) - mc170c) ∧ al_N (xcap 1 (s166.1 51).toNat) ≤ (((((((ks - 8) - 8) - 16) - 8) - 16) - 4) - mc170s)) ∧ ∀ s174 : MS, s174 = yf1 s166 r144 r154 (s155.2 31 r154) r165 → (C_J15_valueOf (-1) (fun r176 => (((bkc 4 s174 ∧ bkv s174 ∧ (-128 ≤ r176 ∧ r176 < 128)) ∧ 1 ≤ ((((((((kc - 1) - 1) - 2) - 1) - 2) - 1) - mc170c) - 1) ∧ al_N (xcap 4 (s174.1 54).toNat) ≤ ((((((((ks - 8) - 8) - 16) - 8) - 16) - 4) - mc170s) - al_N (xcap 1 (s166.1 51).toNat))) ∧ ∀ s180 : MS, s180 = yf4 s174 r176 → K s180)))))) KX))))))))) KX))) KX))) KX))) KX)) (fun K => C_readTerm m K) (QL tp r) := by
  have hf := h.2.2.2.term
  have e21 : r.1 31 = m.1 21 := h.2.2.2.1.2.1
  by_cases hfull : r.1 31 = 24
  · exact OutL.bad frR.rf h.pm (by decide) (fun K KX hk => ⟨fun _ => hk, fun q => absurd (by omega) q⟩) (fun K hk => ⟨fun _ => c_errs ⟨Or.inl rfl, hk⟩, fun q => absurd (by omega) q⟩)
  obtain ⟨r1, m1, u1, v1, f1, g1, h1⟩ := h.go
  have x31 : r1.1 31 = r.1 31 := f1.1 31 (by decide) (by decide) (by decide) (by decide) (by decide)
  refine OutL.step (S1 := fun K KX => _) (M1 := fun K => _) (fun K KX q => ⟨fun q2 => absurd q2 (by omega), fun _ => u1 _ ⟨⟨by omega, by omega⟩, q⟩⟩) (fun K q => ⟨fun q2 => absurd q2 (by omega), fun _ => v1 _ q⟩) (OutL.fr g1.r ?_)
  by_cases hnm : isNm (m1.2 4) r1
  · obtain ⟨v, hv1, hv2⟩ := h1.fv hnm.1
    obtain ⟨w, hw1, hw2⟩ := h1.tv hnm.1
    by_cases ev : v = -1
    · by_cases ew : w = -1
      · subst ev ew
        have hnl := h1.nl hnm.1
        have hB := h1.2.2.2
        have e1 : m1.1 21 = r1.1 31 := hB.1.2.1.symm
        have h1' : RD tp r1 (maR m1 12 (fun i => if 6 * (24 + m1.1 21) ≤ i ∧ i < 6 * (24 + m1.1 21) + 6 then letA (m1.2 4) (m1.1 14) (m1.1 15) (i - 6 * (24 + m1.1 21)) else m1.2 12 i)) := ⟨h1.1, h1.2.1, lxR_o h1.2.2.1 (fun _ _ => rfl) (fun _ _ _ => rfl), hB.m (fun _ _ _ => rfl) (fun _ _ _ => rfl) (fun _ _ _ => rfl) (fun k k0 k1 => if_neg (by omega)) (fun _ _ _ => rfl) (fun _ _ _ => rfl)⟩
        have fk : frR m1 (maR m1 12 (fun i => if 6 * (24 + m1.1 21) ≤ i ∧ i < 6 * (24 + m1.1 21) + 6 then letA (m1.2 4) (m1.1 14) (m1.1 15) (i - 6 * (24 + m1.1 21)) else m1.2 12 i)) := ⟨fun _ _ => rfl, fun k a b c d e => if_neg d, fun _ _ => rfl, fun _ _ => rfl, fun _ _ => rfl, fun k hk => if_neg (by omega)⟩
        obtain ⟨r2, m2, u2, v2, f2, g2, h2⟩ := h1'.go
        have hpl := h1.pl
        refine OutL.step (S1 := fun K KX => _) (M1 := fun K => _) (fun K KX q => x8_fresh h1 hnm hv1 hw1 (fun q2 => absurd rfl q2) (fun _ q2 => absurd rfl q2) (fun _ _ => u2 _ ⟨⟨by omega, by omega⟩, q⟩)) (fun K q => c_isName h1.2.1.2.2 h1.2.2.1 (fun _ => ⟨fun q => absurd q (by decide), fun _ => c_f h1 hv2 ⟨fun _ => c_t h1 hw2 ⟨fun _ => ⟨inI_s (by omega), inI_s (by omega), c_keeps rfl ⟨by omega, by show 6 * (24 + m1.1 21) + 6 ≤ 288; omega⟩ (by omega) hpl (by decide) (v2 _ q)⟩, fun q => absurd rfl q⟩, fun q => absurd rfl q⟩⟩) (fun q => absurd hnm q)) (OutL.fr (fk.tr g2.r) ?_)
        have y31 : r2.1 31 = r1.1 31 := f2.1 31 (by decide) (by decide) (by decide) (by decide) (by decide)
        have y12 : m2.2 12 = (fun i => if 6 * (24 + m1.1 21) ≤ i ∧ i < 6 * (24 + m1.1 21) + 6 then letA (m1.2 4) (m1.1 14) (m1.1 15) (i - 6 * (24 + m1.1 21)) else m1.2 12 i) := by rw [g2.2]; rfl
        by_cases e6 : m2.1 16 = 61
        · obtain ⟨r3, m3, u3, v3, f3, g3, h3⟩ := h2.go
          refine OutL.step (S1 := fun K KX => _) (M1 := fun K => _) (fun K KX q => x8_pass h2 sg61 (fun _ => u3 _ ⟨⟨by omega, by omega⟩, q⟩) (fun q2 => absurd e6 q2)) (fun K q => ⟨fun _ => v3 _ q, fun q2 => absurd e6 q2⟩) (OutL.fr g3.r ?_)
          by_cases hn3 : isNm (m3.2 4) r3
          · obtain ⟨f, hf1, hf2⟩ := h3.fv hn3.1
            by_cases ef : f = -1
            · exact OutL.bad frR.rf h3.pm (by decide) (fun K KX hk => x8_fun h3 hn3 hf1 (fun _ => hk) (fun q => absurd ef q)) (fun K hk => c_isName h3.2.1.2.2 h3.2.2.1 (fun _ => ⟨fun q => absurd q (by decide), fun _ => c_f h3 hf2 ⟨fun _ => c_errs ⟨Or.inl rfl, hk⟩, fun q => absurd ef q⟩⟩) (fun q => absurd hn3 q))
            · have hfr3 := isFirst_n hf1 ef
              obtain ⟨r4, m4, u4, v4, f4, g4, h4⟩ := h3.go
              have hrow4 := h4.2.2.2.rows
              obtain ⟨h5, fk5⟩ := RD_11 (x := 4 * (48 + m4.1 24)) (v := f) h4 (Int.le_refl _)
              have x30 : r4.1 30 = r3.1 30 := f4.1 30 (by decide) (by decide) (by decide) (by decide) (by decide)
              have hb4 := h4.2.2.2
              have htk := hb4.2.2.2.1 f hfr3.1 (by omega)
              have hl0 := (hb4.2.1 0 (by decide)).rok (by decide)
              have hfu4 := hb4.fun
              have hl1 := hb4.2.1 1 (by decide)
              have hp := parts_all (tp := tp) (r := r4) (m := ma m4 11 (4 * (48 + m4.1 24)) f) (n := r4.2 31 f) (mm := r4.1 31) (kc := 20) (ks := 150) h5 ⟨htk.2.2.1, htk.2.2.2⟩ (by have : r4.1 41 = r4.1 31 := hl1.1; omega) (Nat.le_refl _) (Nat.le_refl _)
              rcases hp with ⟨P, r6, m6, pa, pb, pq, pf⟩ | ⟨kd, pl, m6, pa, pb, pc⟩
              · obtain ⟨h6, pP, p0, pr1, pr2, p24, p12, p21⟩ := pq
                have hb6 := h6.2.2.2
                have z6 : r6.1 31 = r.1 31 := (pr1 31 (by decide)).trans ((f4.1 31 (by decide) (by decide) (by decide) (by decide) (by decide)).trans ((f3.1 31 (by decide) (by decide) (by decide) (by decide) (by decide)).trans (y31.trans x31)))
                have z30 : r6.1 30 = r4.1 30 := pr1 30 (by decide)
                have q24 : m6.1 24 = m4.1 24 := p24
                have q12 : m6.2 12 = m2.2 12 := by
                  rw [p12]
                  show m4.2 12 = m2.2 12
                  rw [g4.2, g3.2]
                have hB6 := BR_term (w := r1.1 6) (f := f) (n := r4.2 31 f) (P := P) hb6 (by omega) (by
                  rw [q12, y12, e1, z6, x31]
                  refine nameL_congr (fun k k0 k1 => ?_) hnl
                  show (if _ then _ else _) = _
                  rw [if_pos (by omega), show 6 * (24 + r.1 31) + k - 6 * (24 + r.1 31) = k by omega]) ⟨hfr3.1, by omega⟩ (by rw [pr2]) (fun i i0 i1 => ⟨by have := (pP i i0 i1).1; have := pr1 31 (by decide); omega, by rw [q24]; exact (pP i i0 i1).2⟩) (by
                  rw [q24]
                  have := p0
                  have e : (ma m4 11 (4 * (48 + m4.1 24)) f).2 11 (4 * (48 + m4.1 24)) = f := iup_at
                  exact this.trans e)
                have hls := hl1.bkc (by decide) (show r4.1 31 < 24 by have := pr1 31 (by decide); omega)
                have hls6 := (hb6.2.1 1 (by decide)).bkc (by decide) (show r6.1 31 < 24 by omega)
                have hal6 : al_N (xcap 1 (r6.1 51).toNat) ≤ 100 := hls6.2.2
                have l1 := lsR_add (r' := yf1 r6 (r1.1 6) f (r4.2 31 f) P) (j := 1) (by decide) rfl (show r6.1 31 < 24 by omega) hb6.2.1
                have e34 : r6.1 34 = r6.1 31 + r6.1 32 := hb6.1.2.2.2.2.1
                have hs6 := hb6.same
                have hd6 := hb6.diff
                have ht6 := hb6.term
                have hr6 := hb6.rows
                have hls4 := (l1 4 (by decide)).bkc (by decide) (show r6.1 34 < 36 by omega)
                have hal4 : al_N (xcap 4 ((yf1 r6 (r1.1 6) f (r4.2 31 f) P).1 54).toNat) ≤ 100 := hls4.2.2
                have hv6 : bkv (yf1 r6 (r1.1 6) f (r4.2 31 f) P) := bkv_o hb6.2.2.1 rfl rfl rfl
                have e41 : r4.1 41 = r4.1 31 := hl1.1
                have e40 : r4.1 30 ≤ r4.1 40 := hl0.2
                have c21 : r6.1 31 = m6.1 21 := hb6.1.2.1
                refine OutL.good (r := yf4 (yf1 r6 (r1.1 6) f (r4.2 31 f) P) (-1)) (m := ms (ms (ma m6 10 (48 + m6.1 24) 0) 24 (m6.1 24 + 1)) 21 (m6.1 21 + 1)) (fun K KX q => x8_fun h3 hn3 hf1 (fun q2 => absurd q2 ef) (fun _ => u4 _ ⟨⟨e41, by omega, by omega⟩, ⟨⟨hfr3.1, by omega⟩, hl0.1⟩, ⟨hfr3.1, by omega⟩, ⟨⟨hfr3.1, by omega⟩, hl0.1⟩, ⟨hfr3.1, by omega⟩, ⟨hfr3.1, by omega⟩, 20, 150, by omega, by omega, pa _ _ ⟨⟨pr1 31 (by decide), hls6.2.1⟩, ⟨⟨hls6.1, hls6.2.1⟩, by omega, by omega⟩, ?_⟩⟩)) (fun K q => c_isName h3.2.1.2.2 h3.2.2.1 (fun _ => ⟨fun q2 => absurd q2 (by decide), fun _ => c_f h3 hf2 ⟨fun q2 => absurd q2 ef, fun _ => v4 _ ⟨inI_s (by omega), inI_s (by omega), ⟨by omega, by omega⟩, ?_⟩⟩⟩) (fun q2 => absurd hn3 q2)) ⟨⟨h6.1, h6.2.1, lxR_o h6.2.2.1 (fun k hk => ?_) (fun k k0 k1 => ?_), hB6⟩, ?_⟩ (g4.r.tr (fk5.tr (pf.tr ⟨fun k hk => ?_, fun k a b c d e => ?_, fun _ _ => rfl, fun k hk => ?_, fun _ _ => rfl, fun _ _ => rfl⟩)))
                · rintro _ rfl
                  refine ⟨fun q2 => absurd q2 (by decide), fun _ => ⟨fun q2 => absurd q2 (by decide), fun _ => ⟨inI_s (by decide), ⟨by decide, by decide⟩, ⟨⟨hls4.1, hv6, by decide, by decide⟩, by omega, by omega⟩, ?_⟩⟩⟩
                  rintro _ rfl
                  exact q
                · rintro _ rfl
                  refine ⟨inI_s (by omega), ⟨by omega, by omega⟩, ?_⟩
                  show C_readParts (4 * (48 + m4.1 24)) (m4.2 7 (8 + f)) (ma m4 11 (4 * (48 + m4.1 24)) f) _
                  rw [← htk.2.1]
                  refine pb _ ⟨fun q2 => absurd q2 (by decide), fun _ => ⟨inI_s (by omega), ⟨by omega, by omega⟩, ?_⟩⟩
                  rintro _ rfl
                  refine ⟨inI_s (by show -1000000 ≤ m6.1 24 + 1 ∧ m6.1 24 + 1 ≤ 1000000; omega), ?_⟩
                  rintro _ rfl
                  refine ⟨inI_s (by show -1000000 ≤ m6.1 21 + 1 ∧ m6.1 21 + 1 ≤ 1000000; omega), ?_⟩
                  rintro _ rfl
                  exact q
                · show (yi 4 (yf1 r6 (r1.1 6) f (r4.2 31 f) P)) k = r6.1 k
                  rw [yi_o (by omega)]
                  exact yi_o (r := r6) (j := 1) (by omega)
                · show (if k = 21 then _ else if k = 24 then _ else m6.1 k) = m6.1 k
                  rw [if_neg (by omega), if_neg (by omega)]
                · have z : ∀ k, 30 ≤ k → r6.1 k = r.1 k := fun k hk => (pr1 k hk).trans ((f4.1 k (by omega) (by omega) (by omega) (by omega) (by omega)).trans ((f3.1 k (by omega) (by omega) (by omega) (by omega) (by omega)).trans ((f2.1 k (by omega) (by omega) (by omega) (by omega) (by omega)).trans (f1.1 k (by omega) (by omega) (by omega) (by omega) (by omega)))))
                  unfold sumR
                  show r6.1 30 + (r6.1 31 + 1) + r6.1 32 + r6.1 33 = _
                  rw [z 30 (by decide), z 31 (by decide), z 32 (by decide), z 33 (by decide)]
                  omega
                · show (if k = 21 then _ else if k = 24 then _ else m6.1 k) = m6.1 k
                  rw [if_neg (by omega), if_neg (by omega)]
                · show (if k = 10 then _ else m6.2 k) = m6.2 k
                  rw [if_neg b]
                · show iup (m6.2 10) (48 + m6.1 24) 0 k = m6.2 10 k
                  rw [iup_ne (by omega)]
              · have e41 : r4.1 41 = r4.1 31 := hl1.1
                have e40 : r4.1 30 ≤ r4.1 40 := hl0.2
                refine Or.inr ⟨kd, pl, m6, fun K KX hk => x8_fun h3 hn3 hf1 (fun q2 => absurd q2 ef) (fun _ => u4 _ ⟨⟨e41, by omega, by omega⟩, ⟨⟨hfr3.1, by omega⟩, hl0.1⟩, ⟨hfr3.1, by omega⟩, ⟨⟨hfr3.1, by omega⟩, hl0.1⟩, ⟨hfr3.1, by omega⟩, ⟨hfr3.1, by omega⟩, 20, 150, by omega, by omega, pa _ _ hk⟩), fun K hk => c_isName h3.2.1.2.2 h3.2.2.1 (fun _ => ⟨fun q2 => absurd q2 (by decide), fun _ => c_f h3 hf2 ⟨fun q2 => absurd q2 ef, fun _ => v4 _ ⟨inI_s (by omega), inI_s (by omega), ⟨by omega, by omega⟩, ?_⟩⟩⟩) (fun q2 => absurd hn3 q2), pc.1, pc.2.1, pc.2.2.1, g4.r.tr (fk5.tr pc.2.2.2)⟩
                rintro _ rfl
                refine ⟨inI_s (by omega), ⟨by omega, by omega⟩, ?_⟩
                show C_readParts (4 * (48 + m4.1 24)) (m4.2 7 (8 + f)) (ma m4 11 (4 * (48 + m4.1 24)) f) _
                rw [← htk.2.1]
                exact pb _ ⟨fun _ => hk, fun q2 => absurd rfl q2⟩
          · exact OutL.bad frR.rf h3.pm (by decide) (fun K KX hk => x8_fun_no h3 hn3 hk) (fun K hk => c_isName h3.2.1.2.2 h3.2.2.1 (fun q => absurd q hn3) (fun _ => ⟨fun _ => c_errs ⟨Or.inl rfl, hk⟩, fun q => absurd rfl q⟩))
        · exact OutL.bad frR.rf h2.pm (by decide) (fun K KX hk => x8_pass h2 sg61 (fun q => absurd q e6) (fun _ => hk)) (fun K hk => ⟨fun q => absurd q e6, fun _ => c_errs ⟨Or.inl rfl, hk⟩⟩)
      · subst ev
        exact OutL.bad frR.rf h1.pm (by decide) (fun K KX hk => x8_fresh h1 hnm hv1 hw1 (fun q2 => absurd rfl q2) (fun _ _ => hk) (fun _ q => absurd q ew)) (fun K hk => c_isName h1.2.1.2.2 h1.2.2.1 (fun _ => ⟨fun q => absurd q (by decide), fun _ => c_f h1 hv2 ⟨fun _ => c_t h1 hw2 ⟨fun q => absurd q ew, fun _ => c_errs ⟨Or.inl rfl, hk⟩⟩, fun q => absurd rfl q⟩⟩) (fun q => absurd hnm q))
    · exact OutL.bad frR.rf h1.pm (by decide) (fun K KX hk => x8_fresh h1 hnm hv1 (isFirst_ex (P := fun k => r1.2 32 k = r1.1 6) h1.2.2.2.term.1).choose_spec (fun _ => hk) (fun q => absurd q ev) (fun q => absurd q ev)) (fun K hk => c_isName h1.2.1.2.2 h1.2.2.1 (fun _ => ⟨fun q => absurd q (by decide), fun _ => c_f h1 hv2 ⟨fun q => absurd q ev, fun _ => c_errs ⟨Or.inl rfl, hk⟩⟩⟩) (fun q => absurd hnm q))
  · exact OutL.bad frR.rf h1.pm (by decide) (fun K KX hk => x8_fresh_no h1 hnm hk) (fun K hk => c_isName h1.2.1.2.2 h1.2.2.1 (fun q => absurd q hnm) (fun _ => ⟨fun _ => c_errs ⟨Or.inl rfl, hk⟩, fun q => absurd rfl q⟩))
