/-! THE PURE PART, 53: feed -/
set_option maxRecDepth 100000
theorem byte_split (x : BitVec 32) : x &&& 255#32 = (x.setWidth 8).setWidth 32 := by
  ext i hi
  have h : ∀ i, i < 32 → (255#32).getLsbD i = decide (i < 8) := by decide
  rw [BitVec.getElem_and, BitVec.getElem_setWidth, BitVec.getLsbD_setWidth]
  have h2 := h i hi
  rw [← BitVec.getLsbD_eq_getElem, ← BitVec.getLsbD_eq_getElem, h2, Bool.and_comm]
theorem byte_8 : ∀ y : Nat, y < 256 → ((BitVec.ofNat 8 y).setWidth 32).toInt = (if (BitVec.ofNat 8 y).toInt < 0 then (BitVec.ofNat 8 y).toInt + 256 else (BitVec.ofNat 8 y).toInt) ∧ -128 ≤ (BitVec.ofNat 8 y).toInt ∧ (BitVec.ofNat 8 y).toInt < 128 := by decide +kernel
theorem jb_8 (v : Int) : jb v = ((Int32.ofInt v).toBitVec.setWidth 8).toInt := by
  unfold jb
  rw [Int8.toInt_toInt32]
  show ((Int32.ofInt v).toInt8.toBitVec).toInt = _
  rw [Int32.toBitVec_toInt8, BitVec.signExtend_eq_setWidth_of_le _ (by decide)]
theorem jb_fits (v : Int) : (Int32.ofInt (jb v)).toInt8.toInt32 = Int32.ofInt (jb v) := by
  unfold jb
  rw [Int32.ofInt_toInt, Int8.toInt8_toInt32]
theorem jb_byte (v : Int) : (-128 ≤ jb v ∧ jb v < 128) ∧ jand v 255 = (if jb v < 0 then jb v + 256 else jb v) := by
  have h := byte_8 ((Int32.ofInt v).toBitVec.setWidth 8).toNat (BitVec.isLt _)
  rw [BitVec.ofNat_toNat, BitVec.setWidth_eq] at h
  rw [jb_8]
  refine ⟨h.2, ?_⟩
  rw [← h.1]
  show ((Int32.ofInt v &&& Int32.ofInt 255).toBitVec).toInt = _
  rw [Int32.toBitVec_and, show (Int32.ofInt 255).toBitVec = 255#32 from by decide, byte_split]
/-- both lay bytes: so many beyond what the reference counts -/
def TPi (i : Int) (s : XS) (m : MS) : Prop := s.1.1 3 = m.1 5 + i ∧ 0 ≤ m.1 5 ∧ ∀ k, 0 ≤ k → k < 500 → (-128 ≤ s.1.2 2 k ∧ s.1.2 2 k < 128) ∧ m.2 4 k = (if s.1.2 2 k < 0 then s.1.2 2 k + 256 else s.1.2 2 k)
def fdX (s s' : XS) : Prop := (∀ k, k ≠ 3 → s'.1.1 k = s.1.1 k) ∧ (∀ k, k ≠ 2 → s'.1.2 k = s.1.2 k) ∧ s'.2 = s.2
def fdM (m m' : MS) : Prop := (∀ k, k ≠ 5 → m'.1 k = m.1 k) ∧ ∀ k, k ≠ 4 → m'.2 k = m.2 k
theorem fdX.tr {s s1 s2 : XS} (h : fdX s s1) (g : fdX s1 s2) : fdX s s2 := ⟨fun k q => (g.1 k q).trans (h.1 k q), fun k q => (g.2.1 k q).trans (h.2.1 k q), g.2.2.trans h.2.2⟩
theorem fdM.tr {m m1 m2 : MS} (h : fdM m m1) (g : fdM m1 m2) : fdM m m2 := ⟨fun k q => (g.1 k q).trans (h.1 k q), fun k q => (g.2 k q).trans (h.2 k q)⟩
theorem lay_byte {i w x : Int} {s : XS} {m : MS} (h : TPi i s m) (hi : 0 ≤ i) (hc : s.1.1 3 < 500) : TPi (i + 1) (xs (xa s 2 (s.1.1 3) (jb (jshr w x))) 3 (s.1.1 3 + 1)) (ma m 4 (m.1 5 + i) (jand (jshr w x) 255)) ∧ fdX s (xs (xa s 2 (s.1.1 3) (jb (jshr w x))) 3 (s.1.1 3 + 1)) ∧ fdM m (ma m 4 (m.1 5 + i) (jand (jshr w x) 255)) := by
  obtain ⟨h1, h2, h3⟩ := h
  have hb := jb_byte (jshr w x)
  refine ⟨⟨?_, h2, fun k k0 k1 => ?_⟩, ⟨fun k q => if_neg q, fun k q => if_neg q, rfl⟩, fun k _ => rfl, fun k q => if_neg q⟩
  · show s.1.1 3 + 1 = m.1 5 + (i + 1)
    omega
  · show (-128 ≤ iup (s.1.2 2) (s.1.1 3) (jb (jshr w x)) k ∧ iup (s.1.2 2) (s.1.1 3) (jb (jshr w x)) k < 128) ∧ iup (m.2 4) (m.1 5 + i) (jand (jshr w x) 255) k = (if iup (s.1.2 2) (s.1.1 3) (jb (jshr w x)) k < 0 then iup (s.1.2 2) (s.1.1 3) (jb (jshr w x)) k + 256 else iup (s.1.2 2) (s.1.1 3) (jb (jshr w x)) k)
    by_cases e : k = s.1.1 3
    · rw [show iup (m.2 4) (m.1 5 + i) (jand (jshr w x) 255) k = jand (jshr w x) 255 from if_pos (by omega), show iup (s.1.2 2) (s.1.1 3) (jb (jshr w x)) k = jb (jshr w x) from if_pos e]
      exact hb
    · rw [show iup (m.2 4) (m.1 5 + i) (jand (jshr w x) 255) k = m.2 4 k from if_neg (by omega), show iup (s.1.2 2) (s.1.1 3) (jb (jshr w x)) k = s.1.2 2 k from if_neg e]
      exact h3 k k0 k1
theorem lay_word {s : XS} {m : MS} (w : Int) (h : TPi 0 s m) (hc : m.1 5 + 4 ≤ 500) : ∃ s' m', (∀ (X8 : Int → Int → XS → Prop) (X24 : Int → Int → Int → Int → XS → Prop) (K : XS → Prop) (n : Nat) (f : Int → Int) (x3 x4 : Int), (∀ (x3 x4 x5 x6 : Int) (s0 : XS), B_X1_feedAll_24 X8 X24 K x3 x4 x5 x6 n f s0 → X24 x3 x4 x5 x6 s0) → inI (x4 + 1) → X8 x3 (x4 + 1) s' → X24 x3 x4 w 24 s) ∧ (∀ K, K m' → C_laysWord w m K) ∧ TPi 0 s' m' ∧ m'.1 5 = m.1 5 + 4 ∧ fdX s s' ∧ fdM m m' := by
  have e1 := h.1
  have h50 := h.2.1
  obtain ⟨t1, x1, y1⟩ := lay_byte (w := w) (x := 24) h (by decide) (by omega)
  obtain ⟨t2, x2, y2⟩ := lay_byte (w := w) (x := 16) t1 (by decide) (show s.1.1 3 + 1 < 500 by omega)
  obtain ⟨t3, x3, y3⟩ := lay_byte (w := w) (x := 8) t2 (by decide) (show s.1.1 3 + 1 + 1 < 500 by omega)
  obtain ⟨t4, x4, y4⟩ := lay_byte (w := w) (x := 0) t3 (by decide) (show s.1.1 3 + 1 + 1 + 1 < 500 by omega)
  refine ⟨_, ms (ma (ma (ma (ma m 4 (m.1 5 + 0) (jand (jshr w 24) 255)) 4 (m.1 5 + 1) (jand (jshr w 16) 255)) 4 (m.1 5 + 2) (jand (jshr w 8) 255)) 4 (m.1 5 + 3) (jand (jshr w 0) 255)) 5 (m.1 5 + 4), ?_, ?_, ⟨t4.1.trans ?_, ?_, t4.2.2⟩, rfl, x1.tr (x2.tr (x3.tr x4)), (y1.tr (y2.tr (y3.tr y4))).tr ⟨fun k q => if_neg q, fun _ _ => rfl⟩⟩
  · intro X8 X24 K n f p q hX hI hk
    refine hX _ _ _ _ _ ⟨fun q => absurd q (by decide), fun _ => ⟨⟨jb_fits _, by omega, by omega⟩, ?_⟩⟩
    rintro _ rfl
    refine ⟨inI_s (show -1000000 ≤ s.1.1 3 + 1 ∧ s.1.1 3 + 1 ≤ 1000000 by omega), ?_⟩
    rintro _ rfl
    refine ⟨inI_s (by decide), hX _ _ _ _ _ ⟨fun q => absurd q (by decide), fun _ => ⟨⟨jb_fits _, show 0 ≤ s.1.1 3 + 1 by omega, show s.1.1 3 + 1 < 500 by omega⟩, ?_⟩⟩⟩
    rintro _ rfl
    refine ⟨inI_s (show -1000000 ≤ s.1.1 3 + 1 + 1 ∧ s.1.1 3 + 1 + 1 ≤ 1000000 by omega), ?_⟩
    rintro _ rfl
    refine ⟨inI_s (by decide), hX _ _ _ _ _ ⟨fun q => absurd q (by decide), fun _ => ⟨⟨jb_fits _, show 0 ≤ s.1.1 3 + 1 + 1 by omega, show s.1.1 3 + 1 + 1 < 500 by omega⟩, ?_⟩⟩⟩
    rintro _ rfl
    refine ⟨inI_s (show -1000000 ≤ s.1.1 3 + 1 + 1 + 1 ∧ s.1.1 3 + 1 + 1 + 1 ≤ 1000000 by omega), ?_⟩
    rintro _ rfl
    refine ⟨inI_s (by decide), hX _ _ _ _ _ ⟨fun q => absurd q (by decide), fun _ => ⟨⟨jb_fits _, show 0 ≤ s.1.1 3 + 1 + 1 + 1 by omega, show s.1.1 3 + 1 + 1 + 1 < 500 by omega⟩, ?_⟩⟩⟩
    rintro _ rfl
    refine ⟨inI_s (show -1000000 ≤ s.1.1 3 + 1 + 1 + 1 + 1 ∧ s.1.1 3 + 1 + 1 + 1 + 1 ≤ 1000000 by omega), ?_⟩
    rintro _ rfl
    exact ⟨inI_s (by decide), hX _ _ _ _ _ ⟨fun _ => ⟨hI, hk⟩, fun q => absurd (by decide) q⟩⟩
  · intro K hk X hX
    refine hX _ _ _ ⟨fun q => absurd q (by decide), fun _ => ⟨inI_s (by omega), inI_s (by decide), inI_s (by decide), ⟨by omega, by omega⟩, ?_⟩⟩
    rintro _ rfl
    refine ⟨inI_s (by decide), hX _ _ _ ⟨fun q => absurd q (by decide), fun _ => ⟨inI_s (show -1000000 ≤ m.1 5 + 1 ∧ m.1 5 + 1 ≤ 1000000 by omega), inI_s (by decide), inI_s (by decide), ⟨show 0 ≤ m.1 5 + 1 by omega, show m.1 5 + 1 < 500 by omega⟩, ?_⟩⟩⟩
    rintro _ rfl
    refine ⟨inI_s (by decide), hX _ _ _ ⟨fun q => absurd q (by decide), fun _ => ⟨inI_s (show -1000000 ≤ m.1 5 + 2 ∧ m.1 5 + 2 ≤ 1000000 by omega), inI_s (by decide), inI_s (by decide), ⟨show 0 ≤ m.1 5 + 2 by omega, show m.1 5 + 2 < 500 by omega⟩, ?_⟩⟩⟩
    rintro _ rfl
    refine ⟨inI_s (by decide), hX _ _ _ ⟨fun q => absurd q (by decide), fun _ => ⟨inI_s (show -1000000 ≤ m.1 5 + 3 ∧ m.1 5 + 3 ≤ 1000000 by omega), inI_s (by decide), inI_s (by decide), ⟨show 0 ≤ m.1 5 + 3 by omega, show m.1 5 + 3 < 500 by omega⟩, ?_⟩⟩⟩
    rintro _ rfl
    refine ⟨inI_s (by decide), hX _ _ _ ⟨fun _ => ⟨inI_s (show -1000000 ≤ m.1 5 + 4 ∧ m.1 5 + 4 ≤ 1000000 by omega), ?_⟩, fun q => absurd (by decide) q⟩⟩
    rintro _ rfl
    exact hk
  · show m.1 5 + (0 + 1 + 1 + 1 + 1) = m.1 5 + 4 + 0
    omega
  · show 0 ≤ m.1 5 + 4
    omega
theorem p_feed {n : Nat} {a : Int → Int} {s : XS} {m : MS} (hJ : J (n + 1) s m) : C_law_0 a s m (J n) := by
  have hJn := J_down hJ
  obtain ⟨jt, j2, -, -, -, -, -, ⟨p1, p2, p3⟩⟩ := hJ
  by_cases hr : m.1 5 ≤ 480
  · obtain ⟨s1, m1, u1, v1, t1, c1, x1, y1⟩ := lay_word (s := s) (m := ms m 0 0) (a 1) ⟨p1.trans (Int.add_zero _).symm, p2.1, p3⟩ (show m.1 5 + 4 ≤ 500 by omega)
    have c1 : m1.1 5 = m.1 5 + 4 := c1
    obtain ⟨s2, m2, u2, v2, t2, c2, x2, y2⟩ := lay_word (a 2) t1 (by omega)
    obtain ⟨s3, m3, u3, v3, t3, c3, x3, y3⟩ := lay_word (a 3) t2 (by omega)
    obtain ⟨s4, m4, u4, v4, t4, c4, x4, y4⟩ := lay_word (a 4) t3 (by omega)
    obtain ⟨s5, m5, u5, v5, t5, c5, x5, y5⟩ := lay_word (a 5) t4 (by omega)
    have hx := x1.tr (x2.tr (x3.tr (x4.tr x5)))
    have hy := y1.tr (y2.tr (y3.tr (y4.tr y5)))
    have e5 : s5.1.1 3 = m5.1 5 := t5.1.trans (Int.add_zero _)
    have hm0 : ∀ k, k ≠ 5 → k ≠ 0 → m5.1 k = m.1 k := fun k h h0 => (hy.1 k h).trans (if_neg h0)
    have hm2 : ∀ k, k ≠ 4 → m5.2 k = m.2 k := hy.2
    have fin : J n s5 m5 := J_read hJn (fun k _ _ h3 _ => hx.1 k h3) hx.2.1 (by rw [hx.2.2]) (by rw [hx.2.2]) ⟨fun k hk => hm0 k (by omega) (by omega), fun k h4 _ _ _ _ _ => hm2 k h4, fun k _ => by rw [hm2 7 (by decide)], fun k _ => by rw [hm2 10 (by decide)], fun k _ => by rw [hm2 11 (by decide)], fun k _ => by rw [hm2 12 (by decide)]⟩ (by
      unfold JT at jt ⊢
      rw [hx.1 0 (by decide), hx.1 1 (by decide), hm0 1 (by decide) (by decide), hm0 3 (by decide) (by decide)]; exact jt) (by rw [hx.1 4 (by decide), hm0 2 (by decide) (by decide)]; exact j2) e5 (by omega) t5.2.2
    refine ⟨inI_s (by omega), fun _ => ?_, fun q => absurd (by omega) q⟩
    intro X8 X24 h8 h24
    refine h8 _ _ _ ⟨fun q => absurd q (by decide), fun _ => ⟨⟨by decide, by decide⟩, ?_⟩⟩
    refine u1 X8 X24 _ 5 _ _ _ h24 (inI_s (by decide)) (h8 _ _ _ ⟨fun q => absurd q (by decide), fun _ => ⟨⟨by decide, by decide⟩, ?_⟩⟩)
    refine u2 X8 X24 _ 5 _ _ _ h24 (inI_s (by decide)) (h8 _ _ _ ⟨fun q => absurd q (by decide), fun _ => ⟨⟨by decide, by decide⟩, ?_⟩⟩)
    refine u3 X8 X24 _ 5 _ _ _ h24 (inI_s (by decide)) (h8 _ _ _ ⟨fun q => absurd q (by decide), fun _ => ⟨⟨by decide, by decide⟩, ?_⟩⟩)
    refine u4 X8 X24 _ 5 _ _ _ h24 (inI_s (by decide)) (h8 _ _ _ ⟨fun q => absurd q (by decide), fun _ => ⟨⟨by decide, by decide⟩, ?_⟩⟩)
    refine u5 X8 X24 _ 5 _ _ _ h24 (inI_s (by decide)) (h8 _ _ _ ⟨fun _ => ?_, fun q => absurd (by decide) q⟩)
    rintro _ rfl
    exact ⟨fun _ => v1 _ (v2 _ (v3 _ (v4 _ (v5 _ ⟨e5, fin⟩)))), fun q => absurd hr q⟩
  · refine ⟨inI_s (by omega), fun q => absurd q (by omega), fun _ => ?_⟩
    rintro _ rfl
    exact ⟨fun q => absurd q hr, fun _ => ⟨rfl, J_keeps hJn s (ms m 0 0) (eqX.w hJn.2.2.1.2.2.2.2.2.2.2.2.1 eqX.rf) eqM_0 jt⟩⟩
