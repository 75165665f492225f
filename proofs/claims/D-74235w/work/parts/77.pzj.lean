/-! THE PURE PART, 18: the reference joins two, and closes -/
set_option maxRecDepth 100000
/-- joins' rows with one more -/
def mJ (m : MS) (a b c v : Int) : MS := maR (maR (maR (maR m 40 (iup (m.2 40) (m.1 39) a)) 41 (iup (m.2 41) (m.1 39) b)) 42 (iup (m.2 42) (m.1 39) c)) 43 (iup (m.2 43) (m.1 39) v)
theorem iup_iup {α : Type} {f : Int → α} {k : Int} {x y : α} : iup (iup f k x) k y = iup f k y := by
  funext j
  show (if j = k then y else if j = k then x else f j) = if j = k then y else f j
  by_cases e : j = k
  · rw [if_pos e, if_pos e]
  · rw [if_neg e, if_neg e, if_neg e]
theorem mJ_43 {m : MS} {a b c v w : Int} : ma (mJ m a b c v) 43 (m.1 39) w = mJ m a b c w := by
  unfold mJ
  rw [ma_maR, iup_iup]
theorem c_joinsTwo {z : ZS} {m : MS} {a b c : Int} {K : MS → Prop} (hw : wfZ z) (hB : agB m z.1) (hN : agN m z.1) (a0 : 0 ≤ a) (a1 : a < z.1.1 27) (b0 : 0 ≤ b) (b1 : b < z.1.1 27) (hab : z.1.2 36 a ≠ z.1.2 36 b) (hc : (c = -2 ∧ alk (bkM z.1) (z.1.2 36) a b) ∨ (0 ≤ c ∧ c ≤ 12)) (hK : ∀ m', agB m' (joinZ z a b c).1 → agN m' (joinZ z a b c).1 → mfr m m' → K m') : C_joinsTwo a b c m K := by
  intro X hX
  have hb := hw.ok
  have hbm := hB.ok hb
  have h24 : 0 ≤ z.1.1 27 ∧ z.1.1 27 ≤ 24 := hb.nt
  have hj := hw.nj
  have hjn := hw.njn (by omega)
  obtain ⟨n1, n2, n3⟩ := hN
  have enj : m.1 39 = z.1.1 39 := n1
  have ent : m.1 27 = z.1.1 27 := hB.1.2.1
  have jb : 0 ≤ m.1 39 ∧ m.1 39 < 24 := by omega
  obtain ⟨⟨rk, f1⟩, f2, -⟩ := hw.fo
  -- the end: turned round, hung, united
  have fin : ∀ v, v = bitsZ z a b c → C_turns b (mJ m a b c v) (fun s2 => ((0 ≤ b ∧ b < 24) ∧ ∀ s5 : MS, s5 = ma s2 37 b a → ((0 ≤ b ∧ b < 24) ∧ ∀ s8 : MS, s8 = ma s5 38 b (s5.1 39) → ((inI ((s8.1 39) + 1)) ∧ (∀ s12 : MS, s12 = ms s8 39 ((s8.1 39) + 1) → (C_unites 36 a b s12 (fun s14 => K s14))))))) := by
    intro v hv
    refine c_turns (a := a) (l := z.1.1 39) (u := z.1.2 37) (h := z.1.2 38) (rk := rk) h24.2 ⟨b0, b1⟩ (fun t t0 t1 => (f1 t t0 t1).1) (fun t t0 t1 q => ⟨(f2 t t0 t1 q).1, (f1 t t0 t1).2 q⟩) (fun t t0 t1 => (n2 t t0 t1).2) (fun U H hUH => ⟨⟨b0, by omega⟩, ?_⟩)
    rintro _ rfl
    rw [ma_37]
    refine ⟨⟨b0, by omega⟩, ?_⟩
    rintro _ rfl
    rw [ma_38]
    refine ⟨inI_s (show -1000000 ≤ m.1 39 + 1 ∧ m.1 39 + 1 ≤ 1000000 by omega), ?_⟩
    rintro _ rfl
    refine c_unites ⟨rfl, rfl⟩ (show 0 ≤ m.1 27 ∧ m.1 27 ≤ 24 by omega) a0 (show a < m.1 27 by omega) b0 (show b < m.1 27 by omega) (hK _ ?_ ?_ ?_)
    · exact hB
    · refine ⟨show m.1 39 + 1 = z.1.1 39 + 1 by omega, fun t t0 t1 => ?_, fun k k0 k1 => ?_⟩
      · have t1 : t < z.1.1 27 := t1
        show un (m.1 27) (m.2 36) a b t = un (z.1.1 27) (z.1.2 36) a b t ∧ iup U b a t = (rev 24 (z.1.2 37) (z.1.2 38) b a (z.1.1 39)).1 t ∧ ((rev 24 (z.1.2 37) (z.1.2 38) b a (z.1.1 39)).1 t ≠ -2 → iup H b (m.1 39) t = (rev 24 (z.1.2 37) (z.1.2 38) b a (z.1.1 39)).2 t)
        refine ⟨?_, ?_⟩
        · rw [ent]
          exact un_congr (fun t t0 t1 => (n2 t t0 t1).1) a0 a1 b0 b1 t0 t1
        · by_cases e : t = b
          · have := rev_at (k := 23) (a := a) (l := z.1.1 39) (h := z.1.2 38) (rk := rk) (fun t t0 t1 q => ⟨(f2 t t0 t1 q).1, (f1 t t0 t1).2 q⟩) b0 b1
            rw [e, iup_at, iup_at, enj]
            exact ⟨this.1.symm, fun _ => this.2.symm⟩
          · rw [iup_ne e, iup_ne e]
            exact hUH t t0 t1 e
      · have k1 : k < z.1.1 39 + 1 := k1
        show iup (m.2 40) (m.1 39) a k = iup (z.1.2 40) (z.1.1 39) a k ∧ iup (m.2 41) (m.1 39) b k = iup (z.1.2 41) (z.1.1 39) b k ∧ iup (m.2 42) (m.1 39) c k = iup (z.1.2 42) (z.1.1 39) c k ∧ iup (m.2 43) (m.1 39) v k = iup (z.1.2 43) (z.1.1 39) (bitsZ z a b c) k
        rw [enj, hv]
        by_cases e : k = z.1.1 39
        · rw [e, iup_at, iup_at, iup_at, iup_at, iup_at, iup_at, iup_at, iup_at]
          exact ⟨rfl, rfl, rfl, rfl⟩
        · rw [iup_ne e, iup_ne e, iup_ne e, iup_ne e, iup_ne e, iup_ne e, iup_ne e, iup_ne e]
          exact n3 k k0 (by omega)
    · refine ⟨fun k q0 q1 => if_neg q1, fun k q => ?_⟩
      show (maR (maR (maR (mJ m a b c v) 37 _) 38 _) 36 _).2 k = m.2 k
      unfold mJ
      rw [maR_ne (by omega), maR_ne (by omega), maR_ne (by omega), maR_ne (by omega), maR_ne (by omega), maR_ne (by omega), maR_ne (by omega)]
  unfold B_joinsTwo_E
  refine ⟨jb, ?_⟩
  rintro _ rfl
  refine ⟨jb, ?_⟩
  rintro _ rfl
  refine ⟨jb, ?_⟩
  rintro _ rfl
  rcases hc with ⟨rfl, hal⟩ | hc
  · refine ⟨fun _ => ⟨jb, ?_⟩, fun q => absurd rfl q⟩
    rintro _ rfl
    have f0 := hb.fn a a0 a1
    have f3 := hb.tk _ f0.1 f0.2
    have L : ∀ k, 0 ≤ k → k ≤ (bkM z.1).tk ((bkM z.1).fn a) → X a b (-2) k (mJ m a b (-2) (orb (fun k => orb (z.1.2 43) (wayP z.2 ((bkM z.1).pt a k) ((bkM z.1).pt b k)) (z.1.1 39)) (fun _ => true) k)) := by
      refine upto (fun k k0 k1 ih => hX _ _ _ _ _ ⟨fun _ => ?_, fun q => absurd rfl q⟩)
      refine c_takesOf (s := mJ m a b (-2) _) hbm a0 (show a < m.1 27 by omega) ?_
      have etk : (bkM m).tk ((bkM m).fn a) = (bkM z.1).tk ((bkM z.1).fn a) := hB.tkf hb a0 a1
      show (_ → _) ∧ (_ → _)
      rw [show (bkM (mJ m a b (-2) (orb (fun k => orb (z.1.2 43) (wayP z.2 ((bkM z.1).pt a k) ((bkM z.1).pt b k)) (z.1.1 39)) (fun _ => true) k))).tk ((bkM (mJ m a b (-2) (orb (fun k => orb (z.1.2 43) (wayP z.2 ((bkM z.1).pt a k) ((bkM z.1).pt b k)) (z.1.1 39)) (fun _ => true) k))).fn a) = (bkM m).tk ((bkM m).fn a) from rfl, etk]
      refine ⟨fun e => ?_, fun e => ⟨jb, inI_s (by omega), inI_s (by omega), ⟨by omega, by omega⟩, inI_s (by omega), inI_s (by omega), ⟨by omega, by omega⟩, ?_⟩⟩
      · exact fin _ (by rw [show k = (bkM z.1).tk ((bkM z.1).fn a) by omega]; exact (if_pos rfl).symm)
      · have p1 := hb.pt a a0 a1 k k0 (by omega)
        have p2 := hb.pt b b0 b1 k k0 (by rw [← hal.1]; omega)
        rw [show (mJ m a b (-2) (orb (fun k => orb (z.1.2 43) (wayP z.2 ((bkM z.1).pt a k) ((bkM z.1).pt b k)) (z.1.1 39)) (fun _ => true) k)).2 29 (3 * a + k) = (bkM z.1).pt a k from hB.pt a0 a1 k0 (by omega), show (mJ m a b (-2) (orb (fun k => orb (z.1.2 43) (wayP z.2 ((bkM z.1).pt a k) ((bkM z.1).pt b k)) (z.1.1 39)) (fun _ => true) k)).2 29 (3 * b + k) = (bkM z.1).pt b k from hB.pt b0 b1 k0 (by rw [← hal.1]; omega)]
        refine c_reasonsOf (n := z.1.1 27) (nj := z.1.1 39) (jb := z.1.2 43) h24.2 (by omega) hw.fo (fun t t0 t1 => (n2 t t0 t1).2.1) (fun t t0 t1 q => (n2 t t0 t1).2.2 q) (fun i i0 i1 => ?_) p1.1 (by omega) p2.1 (by omega) (hal.2 k k0 (by omega)) ⟨jb, ?_⟩
        · show iup (m.2 43) (m.1 39) _ i = _
          rw [iup_ne (by omega)]
          exact (n3 i i0 i1).2.2.2
        · rintro _ rfl
          show inI (k + 1) ∧ X a b (-2) (k + 1) (ma (mJ m a b (-2) _) 43 (m.1 39) (jor (iup (m.2 43) (m.1 39) _ (m.1 39)) _))
          rw [mJ_43, iup_at]
          refine ⟨inI_s (by omega), ?_⟩
          have := ih (by omega)
          have e2 : orb (fun k => orb (z.1.2 43) (wayP z.2 ((bkM z.1).pt a k) ((bkM z.1).pt b k)) (z.1.1 39)) (fun _ => true) (k + 1) = jor (orb (fun k => orb (z.1.2 43) (wayP z.2 ((bkM z.1).pt a k) ((bkM z.1).pt b k)) (z.1.1 39)) (fun _ => true) k) (orb (z.1.2 43) (wayP z.2 ((bkM z.1).pt a k) ((bkM z.1).pt b k)) (z.1.1 39)) := by
            unfold orb
            rw [show (k + 1).toNat = k.toNat + 1 by omega]
            show (if true = true then _ else _) = _
            rw [if_pos rfl, show ((k.toNat : Nat) : Int) = k by omega]
          rw [e2] at this
          exact this
    exact L 0 (by omega) f3.1
  · have hne : c ≠ -2 := by omega
    refine ⟨fun q => absurd q hne, fun _ => ⟨jb, ?_⟩⟩
    rintro _ rfl
    exact hX _ _ _ _ _ ⟨fun q => absurd q hne, fun _ => fin _ (if_neg hne).symm⟩
theorem c_joinsNext {z : ZS} {m : MS} {K : Int → MS → Prop} (hw : wfZ z) (hB : agB m z.1) (hN : agN m z.1) (h0 : noFP (bkM z.1) (z.1.2 36) (z.1.1 27) → K 0 m) (h1 : ∀ i j m', isFP (bkM z.1) (z.1.2 36) (z.1.1 27) i j → agB m' (joinZ z i j (-2)).1 → agN m' (joinZ z i j (-2)).1 → mfr m m' → K 1 m') : C_joinsNext m K := by
  intro X2 X14 hX2 hX14
  have hb := hw.ok
  have hbm := hB.ok hb
  have h24 : 0 ≤ z.1.1 27 ∧ z.1.1 27 ≤ 24 := hb.nt
  have ent : m.1 27 = z.1.1 27 := hB.1.2.1
  have hfp := hB.fp hb (r := m.2 36) (r' := z.1.2 36) (fun t t0 t1 => (hN.2.1 t t0 t1).1)
  have L : ∀ i, 0 ≤ i → i ≤ z.1.1 27 → (∀ i' j', 0 ≤ i' → i' < j' → j' < z.1.1 27 → i' < i → ¬ (z.1.2 36 i' ≠ z.1.2 36 j' ∧ alk (bkM z.1) (z.1.2 36) i' j')) → X2 i m := by
    refine pairs (P14 := fun i k => (∀ i' j', 0 ≤ i' → i' < j' → j' < z.1.1 27 → ahead i k i' j' → ¬ (z.1.2 36 i' ≠ z.1.2 36 j' ∧ alk (bkM z.1) (z.1.2 36) i' j')) → X14 i k m) (fun i i0 i1 ih hp => hX2 _ _ ?_) (fun i k i0 ik kn hin ih ih2 hp => hX14 _ _ _ ?_)
    · unfold B_joinsNext_2
      rw [ent]
      exact ⟨fun e => h0 (fun i' j' a1 a2 a3 => hp i' j' a1 a2 a3 (by omega)), fun e => ⟨inI_s (by omega), ih (by omega) (fun i' j' a1 a2 a3 a4 => hp i' j' a1 a2 a3 (by unfold ahead at a4; omega))⟩⟩
    · unfold B_joinsNext_14
      rw [ent]
      refine ⟨fun e => ⟨inI_s (by omega), ih2 (by omega) (fun i' j' a1 a2 a3 a4 => hp i' j' a1 a2 a3 (by unfold ahead; omega))⟩, fun e => ?_⟩
      have next : ¬ (m.2 36 i ≠ m.2 36 k ∧ alk (bkM m) (m.2 36) i k) → inI (k + 1) ∧ X14 i (k + 1) m := by
        intro hno
        refine ⟨inI_s (by omega), ih (by omega) (fun i' j' a1 a2 a3 a4 => ?_)⟩
        by_cases q : i' = i ∧ j' = k
        · rw [q.1, q.2]; exact fun q2 => hno ((hfp i k i0 ik (by omega)).mpr q2)
        · exact hp i' j' a1 a2 a3 (by unfold ahead at a4 ⊢; omega)
      refine ⟨⟨i0, by omega⟩, ⟨by omega, by omega⟩, fun e2 => next (fun q => q.1 e2), fun e2 => ?_⟩
      refine c_isAlike ⟨rfl, rfl⟩ hbm i0 (show i < m.1 27 by omega) (by omega) (show k < m.1 27 by omega) (fun e3 => ⟨fun q => absurd q (by decide), fun _ => ?_⟩) (fun e3 => ⟨fun _ => next (fun q => e3 q.2), fun q => absurd rfl q⟩)
      have hz := (hfp i k i0 ik (by omega)).mp ⟨e2, e3⟩
      exact c_joinsTwo hw hB hN i0 (by omega) (by omega) (by omega) hz.1 (Or.inl ⟨rfl, hz.2⟩) (fun m' q1 q2 q3 => h1 i k m' ⟨⟨⟨i0, ik, by omega⟩, hz⟩, hp⟩ q1 q2 q3)
  exact L 0 (by omega) h24.1 (fun i' j' a1 a2 a3 a4 => by omega)
theorem mfr_0 {m : MS} {v : Int} : mfr m (ms m 0 v) := ⟨fun _ q _ => if_neg q, fun _ _ => rfl⟩
theorem c_closes {K : MS → Prop} : ∀ (n : Nat) (z : ZS) (m : MS), wfZ z → agB m z.1 → agN m z.1 → gr (z.1.1 27) (z.1.2 36) ≤ n → (∀ m', agB m' (closeZ n z).1 → agN m' (closeZ n z).1 → mfr m m' → K m') → C_closes m K := by
  have L : ∀ X : MS → Prop, (∀ s0, B_closes_0 X K s0 → X s0) → ∀ (n : Nat) (z : ZS) (m : MS), wfZ z → agB m z.1 → agN m z.1 → gr (z.1.1 27) (z.1.2 36) ≤ n → (∀ m', agB m' (closeZ n z).1 → agN m' (closeZ n z).1 → mfr m m' → K m') → B_closes_0 X K m := by
    intro X hX n
    induction n with
    | zero =>
      intro z m hw hB hN hg hK
      refine c_joinsNext hw hB hN (fun hf => ⟨fun _ => hK m hB hN mfr.rf, fun q => absurd rfl q⟩) (fun i j m' hf _ _ _ => ?_)
      have := gr_pos hw.lr (by have := hf.1.1; omega)
      omega
    | succ n ih =>
      intro z m hw hB hN hg hK
      refine c_joinsNext hw hB hN (fun hf => ⟨fun _ => ?_, fun q => absurd rfl q⟩) (fun i j m' hf q1 q2 q3 => ⟨fun q => absurd q (by decide), fun _ => ?_⟩)
      · rw [closeZ_n hf] at hK
        exact hK m hB hN mfr.rf
      · rintro _ rfl
        rw [closeZ_y hf] at hK
        obtain ⟨⟨⟨f1, f2, f3⟩, f4, f5⟩, -⟩ := hf
        have hgr := un_gr hw.lr f1 (show i < z.1.1 27 by omega) (show 0 ≤ j by omega) f3 f4
        exact hX _ (ih (joinZ z i j (-2)) (ms m' 0 0) (joinZ_wf hw f1 (by omega) (by omega) f3 f4 (Or.inl ⟨rfl, f5⟩)) q1 q2 (by show gr (z.1.1 27) (un (z.1.1 27) (z.1.2 36) i j) ≤ n; omega) (fun m2 p1 p2 p3 => hK m2 p1 p2 (q3.tr (mfr_0.tr p3))))
  exact fun n z m hw hB hN hg hK X hX => L X hX n z m hw hB hN hg hK
