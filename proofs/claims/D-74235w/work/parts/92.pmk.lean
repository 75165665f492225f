/-! THE PURE PART, 33: make -/
set_option maxRecDepth 100000
theorem yf1_o {r : MS} {nm f n : Int} {p : Int → Int} {k : Nat} (h1 : k ≠ 32) (h2 : k ≠ 33) (h3 : k ≠ 34) (h4 : k ≠ 100 + (r.1 31).toNat) : (yf1 r nm f n p).2 k = r.2 k := by
  show (if k = 32 then _ else if k = 33 then _ else if k = 34 then _ else if k < 100 then r.2 k else if k = 100 + (r.1 31).toNat then p else r.2 k) = r.2 k
  rw [if_neg h1, if_neg h2, if_neg h3, if_neg h4]
  split <;> rfl
theorem RXb_term {z : ZS} {s : XS} {nm f n : Int} {p P : Int → Int} (hb : (bkM z.1).ok) (hn : z.1.1 27 < 24) (hf : 0 ≤ f ∧ f < z.1.1 6) (hnn : n = z.1.2 7 f) (hP : ∀ k, 0 ≤ k → k < z.1.2 7 f → P k = p k) (h : RXb (bkM z.1) s) (h42 : s.1.1 41 = s.1.1 31) (hg : 0 ≤ s.1.1 51 ∧ s.1.1 51 ≤ 3) : RXb (bkM (termZ z f p).1) (yf1 s.1 nm f n P, s.2) := by
  obtain ⟨⟨x1, x2, x3, x4⟩, ⟨y1, y2, y3, y4⟩, ⟨c1, c2, c3, c4⟩, d, e, fs, g⟩ := h
  have x2 : s.1.1 31 = z.1.1 27 := x2
  have h24 : 0 ≤ z.1.1 27 ∧ z.1.1 27 ≤ 24 := hb.nt
  have htk : 0 ≤ z.1.2 7 f ∧ z.1.2 7 f ≤ 3 := hb.tk f hf.1 hf.2
  obtain ⟨o1, o2, o3⟩ := c2
  have o1 : s.1.1 31 ≤ (xcap 1 (s.1.1 51).toNat : Int) := o1
  have o2 : (s.1.1 61).toNat ≤ (s.1.1 51).toNat := o2
  obtain ⟨g1, g2, g3, g4, -⟩ := grow_1 hg (show s.1.1 31 < 24 by omega) o1
  refine ⟨⟨x1, ?_, x3, x4⟩, ⟨y1, ?_, y3, y4⟩, ⟨xok_o c1 rfl rfl rfl, ⟨?_, ?_, ?_⟩, xok_o c3 rfl rfl rfl, xok_o c4 rfl rfl rfl⟩, d, fun t t0 t1 => ?_, fs, g⟩
  · show s.1.1 31 + 1 = z.1.1 27 + 1
    omega
  · show z.1.1 27 + 1 ≤ s.1.1 41 + 1
    omega
  · show s.1.1 31 + 1 ≤ (xcap 1 (if s.1.1 31 = (xcap 1 (s.1.1 51).toNat : Int) then s.1.1 51 + 1 else s.1.1 51).toNat : Int)
    exact g2
  · show (s.1.1 61).toNat ≤ (if s.1.1 31 = (xcap 1 (s.1.1 51).toNat : Int) then s.1.1 51 + 1 else s.1.1 51).toNat
    omega
  · exact g4
  · have t1 : t < z.1.1 27 + 1 := t1
    by_cases q : t = z.1.1 27
    · have e1 : (bkM (termZ z f p).1).fn t = f := by
        show iup (z.1.2 28) (z.1.1 27) f t = f
        rw [q, iup_at]
      rw [e1]
      refine ⟨?_, ?_, fun k k0 k1 => ?_⟩
      · show iup (s.1.2 33) (s.1.1 31) f t = f
        rw [x2, q, iup_at]
      · show iup (s.1.2 34) (s.1.1 31) n t = z.1.2 7 f
        rw [x2, q, iup_at, hnn]
      · have k1 : k < z.1.2 7 f := k1
        have e2 : (yf1 s.1 nm f n P).2 (100 + t.toNat) = P := by
          show (if 100 + t.toNat = 32 then _ else if 100 + t.toNat = 33 then _ else if 100 + t.toNat = 34 then _ else if 100 + t.toNat < 100 then _ else if 100 + t.toNat = 100 + (s.1.1 31).toNat then P else _) = P
          rw [if_neg (by omega), if_neg (by omega), if_neg (by omega), if_neg (by omega), if_pos (by rw [x2, q])]
        rw [e2, hP k k0 k1]
        show p k = (if 3 * z.1.1 27 ≤ 3 * t + k ∧ 3 * t + k < 3 * z.1.1 27 + 3 then p (3 * t + k - 3 * z.1.1 27) else z.1.2 29 (3 * t + k))
        rw [q, if_pos (by omega), show 3 * z.1.1 27 + k - 3 * z.1.1 27 = k by omega]
    · have t2 : t < z.1.1 27 := by omega
      have e1 : (bkM (termZ z f p).1).fn t = (bkM z.1).fn t := termZ_fn t2
      rw [e1]
      obtain ⟨a1, a2, a3⟩ := e t t0 t2
      have f1 := hb.fn t t0 t2
      have f2 := hb.tk _ f1.1 f1.2
      refine ⟨?_, ?_, fun k k0 k1 => ?_⟩
      · show iup (s.1.2 33) (s.1.1 31) f t = _
        rw [x2, iup_ne q]; exact a1
      · show iup (s.1.2 34) (s.1.1 31) n t = _
        rw [x2, iup_ne q]; exact a2
      · have k1 : k < (bkM z.1).tk ((bkM z.1).fn t) := k1
        rw [yf1_o (by omega) (by omega) (by omega) (by rw [x2]; omega), termZ_pt t2 (by omega)]
        exact a3 k k0 k1
/-- three parts -/
def all3 (b c d : Int) : Int → Int := fun k => if k = 0 then b else if k = 1 then c else if k = 2 then d else 0
theorem stepZ_term {z : ZS} {f b c d : Int} : stepZ z (rowW 0 f b c d) = closeZ 24 (termZ z f (fun k => rowW 0 f b c d (2 + k))) := by
  unfold stepZ
  rw [rowW_0, rowW_1, if_pos rfl]
theorem rowW_all {f b c d k : Int} (h : 0 ≤ k ∧ k < 3) : rowW 0 f b c d (2 + k) = all3 b c d k := by
  rcases (show k = 0 ∨ k = 1 ∨ k = 2 by omega) with rfl | rfl | rfl <;> rfl
theorem c_makeL {m : MS} {f b c d : Int} {K : Int → MS → Prop} (hb : (bkM m).ok)
    (h1 : ¬ ((0 ≤ f ∧ f < m.1 6) ∧ ∀ k, 0 ≤ k → k < m.2 7 f → 0 ≤ all3 b c d k ∧ all3 b c d k < m.1 27) → K (-1) (mref m 1))
    (h3 : (0 ≤ f ∧ f < m.1 6) ∧ (∀ k, 0 ≤ k → k < m.2 7 f → 0 ≤ all3 b c d k ∧ all3 b c d k < m.1 27) → m.1 27 = 24 → K (-1) (mref m 3))
    (h0 : (0 ≤ f ∧ f < m.1 6) ∧ (∀ k, 0 ≤ k → k < m.2 7 f → 0 ≤ all3 b c d k ∧ all3 b c d k < m.1 27) → m.1 27 ≠ 24 → C_acts 0 f b c d (mref m 0) (fun s8 => (inI ((s8.1 27) - 1)) ∧ K ((s8.1 27) - 1) s8)) : C_make f b c d m K := by
  intro X hX
  have h24 : 0 ≤ m.1 27 ∧ m.1 27 ≤ 24 := hb.nt
  have h8 : 0 ≤ m.1 6 ∧ m.1 6 ≤ 8 := hb.nf
  have no : ¬ ((0 ≤ f ∧ f < m.1 6) ∧ ∀ k, 0 ≤ k → k < m.2 7 f → 0 ≤ all3 b c d k ∧ all3 b c d k < m.1 27) → X f b c d 0 m := fun q => hX _ _ _ _ _ _ ⟨fun _ => c_isRefused (fun q2 => absurd q2 (by decide)) (fun _ => ⟨fun q2 => absurd q2 (by decide), fun _ => h1 q⟩), fun q2 => absurd rfl q2⟩
  have yes : ((0 ≤ f ∧ f < m.1 6) ∧ ∀ k, 0 ≤ k → k < m.2 7 f → 0 ≤ all3 b c d k ∧ all3 b c d k < m.1 27) → X f b c d 1 m := fun q => hX _ _ _ _ _ _ ⟨fun q2 => absurd q2 (by decide), fun _ => ⟨fun e => c_isRefused (fun q2 => absurd q2 (by decide)) (fun _ => ⟨fun q2 => absurd q2 (by decide), fun _ => h3 q e⟩), fun e => c_isRefused (fun _ => ⟨fun _ => h0 q e, fun q2 => absurd rfl q2⟩) (fun q2 => absurd rfl q2)⟩⟩
  unfold B_make_E
  refine ⟨inI_s (by omega), c_in (fun hf => ⟨fun q => absurd q (by decide), fun _ => ?_⟩) (fun hf => ⟨fun _ => no (fun q => hf ⟨q.1.1, by omega⟩), fun q => absurd rfl q⟩)⟩
  have hf2 : 0 ≤ f ∧ f < m.1 6 := ⟨hf.1, by omega⟩
  have htk : 0 ≤ m.2 7 f ∧ m.2 7 f ≤ 3 := hb.tk f hf2.1 hf2.2
  have f16 : 0 ≤ f ∧ f < 16 := ⟨hf.1, by omega⟩
  have a0 : all3 b c d 0 = b := rfl
  have a1 : all3 b c d 1 = c := rfl
  have a2 : all3 b c d 2 = d := rfl
  have bad : ∀ k, 0 ≤ k → k < m.2 7 f → ¬ (0 ≤ all3 b c d k ∧ all3 b c d k < m.1 27) → X f b c d 0 m := fun k k0 k1 q => no (fun q2 => q (q2.2 k k0 k1))
  -- the third part, the second and the third
  have third : (∀ k, 0 ≤ k → k < m.2 7 f → k < 2 → 0 ≤ all3 b c d k ∧ all3 b c d k < m.1 27) → ¬ m.2 7 f < 3 → C_isTerm d m (fun r16 s13 => (r16 = 0 → X f b c d 0 s13) ∧ (¬ r16 = 0 → X f b c d 1 s13)) := fun hp h3 => c_isTerm h24 (fun hd => ⟨fun q => absurd q (by decide), fun _ => yes ⟨hf2, fun k k0 k1 => by
    by_cases e : k < 2
    · exact hp k k0 k1 e
    · rw [show k = 2 by omega, a2]; exact hd⟩⟩) (fun hd => ⟨fun _ => bad 2 (by omega) (by omega) (by rw [a2]; exact hd), fun q => absurd rfl q⟩)
  have rest : (∀ k, 0 ≤ k → k < m.2 7 f → k < 2 → 0 ≤ all3 b c d k ∧ all3 b c d k < m.1 27) → (0 ≤ f ∧ f < 16) ∧ ((m.2 7 f < 3 → X f b c d 1 m) ∧ (¬ m.2 7 f < 3 → C_isTerm d m (fun r16 s13 => (r16 = 0 → X f b c d 0 s13) ∧ (¬ r16 = 0 → X f b c d 1 s13)))) := fun hp => ⟨f16, fun h3 => yes ⟨hf2, fun k k0 k1 => hp k k0 k1 (by omega)⟩, third hp⟩
  have second : (∀ k, 0 ≤ k → k < m.2 7 f → k < 1 → 0 ≤ all3 b c d k ∧ all3 b c d k < m.1 27) → ¬ m.2 7 f < 2 → C_isTerm c m (fun r21 s18 => (r21 = 0 → X f b c d 0 s18) ∧ (¬ r21 = 0 → (0 ≤ f ∧ f < 16) ∧ (((s18.2 7 f) < 3 → X f b c d 1 s18) ∧ (¬ (s18.2 7 f) < 3 → C_isTerm d s18 (fun r28 s25 => (r28 = 0 → X f b c d 0 s25) ∧ (¬ r28 = 0 → X f b c d 1 s25)))))) := fun hp h2 => c_isTerm h24 (fun hc => ⟨fun q => absurd q (by decide), fun _ => rest (fun k k0 k1 k2 => by
    by_cases e : k < 1
    · exact hp k k0 k1 e
    · rw [show k = 1 by omega, a1]; exact hc)⟩) (fun hc => ⟨fun _ => bad 1 (by omega) (by omega) (by rw [a1]; exact hc), fun q => absurd rfl q⟩)
  refine ⟨f16, fun t1 => ⟨f16, fun t2 => rest (fun k k0 k1 _ => by omega), fun t2 => by omega⟩, fun t1 => c_isTerm h24 (fun hb1 => ⟨fun q => absurd q (by decide), fun _ => ⟨f16, fun t2 => rest (fun k k0 k1 k2 => ?_), fun t2 => second (fun k k0 k1 k2 => ?_) t2⟩⟩) (fun hb1 => ⟨fun _ => bad 0 (by omega) (by omega) (by rw [a0]; exact hb1), fun q => absurd rfl q⟩)⟩
  · rw [show k = 0 by omega, a0]; exact hb1
  · rw [show k = 0 by omega, a0]; exact hb1
