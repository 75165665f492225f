/-! THE PURE PART, 24: going back; joins that there would be -/
set_option maxRecDepth 100000
def backX (s : XS) (k : Nat) : XS := onX s ((ms (s.2 4) 3 (trl s - 3 * k)).1, rbR (trT s) k (trl s) (s.2 4).2)
theorem rbR_o {T : Int → Int} : ∀ (k : Nat) (tr : Int) (R : Nat → Int → Int) (j : Nat), ¬ isR j → rbR T k tr R j = R j := by
  intro k
  induction k with
  | zero => exact fun _ _ _ _ => rfl
  | succ k ih =>
    intro tr R j hj
    show rbR T k (tr - 3) _ j = _
    rw [ih _ _ j hj]
    exact if_neg (fun q => hj (by rw [q]; exact cod_R))
theorem x_row {w : Int} {s : XS} {K : Nat → Prop} (h : K (cod w)) : C_X5_row_N w s K := by
  unfold cod at h
  refine ⟨fun e => by rw [if_pos e] at h; exact h, fun e => ⟨fun e2 => by rw [if_neg e, if_pos e2] at h; exact h, fun e2 => by rw [if_neg e, if_neg e2] at h; exact h⟩⟩
theorem x_goesBack {K : XS → Prop} {to : Int} (h0 : 0 ≤ to) : ∀ (k : Nat) (s : XS), Tr s → trl s = to + 3 * k → K (backX s k) → C_X3_goesBack_N to s K := by
  have L : ∀ X : Int → XS → Prop, (∀ x1 s0, B_X3_goesBack_N_0 X K x1 s0 → X x1 s0) → ∀ (k : Nat) (s : XS), Tr s → trl s = to + 3 * k → K (backX s k) → B_X3_goesBack_N_0 X K to s := by
    intro X hX k
    induction k with
    | zero =>
      intro s hT ht hK
      refine ⟨fun _ => ?_, fun q => by have q : ¬ trl s ≤ to := q; omega⟩
      have e : backX s 0 = s := by
        unfold backX
        have : ((ms (s.2 4) 3 (trl s - 3 * ((0 : Nat) : Int))).1, rbR (trT s) 0 (trl s) (s.2 4).2) = s.2 4 := by
          refine Prod.ext (funext fun i => ?_) rfl
          show (if i = 3 then trl s - 3 * ((0 : Nat) : Int) else (s.2 4).1 i) = (s.2 4).1 i
          by_cases e : i = 3
          · rw [if_pos e, e]; show trl s - 3 * ((0 : Nat) : Int) = trl s; omega
          · rw [if_neg e]
        rw [this, onX_id]
      rw [e] at hK
      exact hK
    | succ k ih =>
      intro s hT ht hK
      have hT' := hT
      obtain ⟨t1, ⟨n, t2⟩, t3, t4⟩ := hT'
      have hx := xtl_is (show xq s ≤ 6 by omega)
      have e10 : (s.2 4).1 3 = trl s := rfl
      refine ⟨fun q => by have q : trl s ≤ to := q; omega, fun _ => ⟨inI_s (show -1000000 ≤ trl s - 3 ∧ trl s - 3 ≤ 1000000 by omega), ?_⟩⟩
      rintro _ rfl
      have hv := t4 (n - 1) (by omega)
      rw [show 3 * ((n - 1 : Nat) : Int) = trl s - 3 by omega] at hv
      refine ⟨⟨show 0 ≤ trl s - 3 by omega, show trl s - 3 < (xtl (xq s) : Int) by omega⟩, x_row ⟨inI_s (show -1000000 ≤ trl s - 3 + 1 ∧ trl s - 3 + 1 ≤ 1000000 by omega), ⟨show 0 ≤ trl s - 3 + 1 by omega, show trl s - 3 + 1 < (xtl (xq s) : Int) by omega⟩, inI_s (show -1000000 ≤ trl s - 3 + 2 ∧ trl s - 3 + 2 ≤ 1000000 by omega), ⟨show 0 ≤ trl s - 3 + 2 by omega, show trl s - 3 + 2 < (xtl (xq s) : Int) by omega⟩, ⟨cod_R, hv⟩, ?_⟩⟩
      rintro _ rfl
      show X to (ya (ys s 4 3 (trl s - 3)) 4 (cod (trT s (trl s - 3))) (trT s (trl s - 3 + 1)) (trT s (trl s - 3 + 2)))
      have eT : trT (ya (ys s 4 3 (trl s - 3)) 4 (cod (trT s (trl s - 3))) (trT s (trl s - 3 + 1)) (trT s (trl s - 3 + 2))) = trT s := by
        show (ma (s.2 4) (cod (trT s (trl s - 3))) (trT s (trl s - 3 + 1)) (trT s (trl s - 3 + 2))).2 (100 + xq s) = _
        rw [ma_o (by rcases cod_R (w := trT s (trl s - 3)) with h | h | h <;> omega)]
      have et : trl (ya (ys s 4 3 (trl s - 3)) 4 (cod (trT s (trl s - 3))) (trT s (trl s - 3 + 1)) (trT s (trl s - 3 + 2))) = trl s - 3 := rfl
      refine hX _ _ (ih _ ⟨t1, ⟨n - 1, by rw [et]; omega⟩, ?_, fun i hi => ?_⟩ (by rw [et]; omega) ?_)
      · rw [et]; show trl s - 3 ≤ (xtl (xq s) : Int); omega
      · rw [et] at hi
        rw [eT]
        exact t4 i (by omega)
      · have e : backX (ya (ys s 4 3 (trl s - 3)) 4 (cod (trT s (trl s - 3))) (trT s (trl s - 3 + 1)) (trT s (trl s - 3 + 2))) k = backX s (k + 1) := by
          unfold backX
          rw [eT, et]
          refine Prod.ext rfl (funext fun i => ?_)
          show (if i = 4 then _ else if i = 4 then _ else if i = 4 then _ else s.2 i) = (if i = 4 then _ else s.2 i)
          by_cases e4 : i = 4
          · rw [if_pos e4, if_pos e4]
            have e6 : ((ya (ys s 4 3 (trl s - 3)) 4 (cod (trT s (trl s - 3))) (trT s (trl s - 3 + 1)) (trT s (trl s - 3 + 2))).2 4).2 = (fun j => if j = cod (trT s (trl s - 3)) then iup ((s.2 4).2 j) (trT s (trl s - 3 + 1)) (trT s (trl s - 3 + 2)) else (s.2 4).2 j) := by
              funext j
              show (if j = cod (trT s (trl s - 3)) then iup ((s.2 4).2 (cod (trT s (trl s - 3)))) _ _ else (s.2 4).2 j) = if j = cod (trT s (trl s - 3)) then iup ((s.2 4).2 j) _ _ else (s.2 4).2 j
              by_cases e7 : j = cod (trT s (trl s - 3))
              · rw [if_pos e7, if_pos e7, ← e7]
              · rw [if_neg e7, if_neg e7]
            rw [e6]
            refine Prod.ext (funext fun j => ?_) rfl
            show (if j = 3 then trl s - 3 - 3 * (k : Int) else if j = 3 then trl s - 3 else (s.2 4).1 j) = if j = 3 then trl s - 3 * ((k + 1 : Nat) : Int) else (s.2 4).1 j
            by_cases e5 : j = 3
            · rw [if_pos e5, if_pos e5]; omega
            · rw [if_neg e5, if_neg e5, if_neg e5]
          · rw [if_neg e4, if_neg e4, if_neg e4, if_neg e4]
        rw [e]; exact hK
  exact fun k s hT ht hK X hX => L X hX k s hT ht hK
/-- what a question may change, wider -/
def eqW (s s' : XS) : Prop := (∀ k, k ≠ 0 → k ≠ 1 → s'.1.1 k = s.1.1 k) ∧ (∀ k, k ≠ 13 → k ≠ 14 → k ≠ 17 → k ≠ 18 → k ≠ 19 → s'.1.2 k = s.1.2 k) ∧ s'.2 2 = s.2 2 ∧ ((s'.2 4).1 1 = (s.2 4).1 1 ∧ (s'.2 4).1 10 = (s.2 4).1 10 ∧ trl s' = trl s) ∧ (∀ j, isR j → (s'.2 4).2 j = (s.2 4).2 j) ∧ (∀ k, 0 ≤ k → k < (s.2 4).1 10 → (s'.2 4).2 7 k = (s.2 4).2 7 k ∧ (s'.2 4).2 8 k = (s.2 4).2 8 k ∧ (s'.2 4).2 9 k = (s.2 4).2 9 k) ∧ Tr s' ∧ ∀ i, 0 ≤ i → i < trl s → trT s' i = trT s i
def keepsW (s : XS) (m : MS) (KN : XS → MS → Prop) : Prop := ∀ s' m', eqW s s' → eqM m m' → JT s' m' → KN s' m'
theorem eqX.w {s s' : XS} (hT : Tr s) (h : eqX s s') : eqW s s' := by
  obtain ⟨h1, h2, h3, h4, h5⟩ := h
  have eq : xq s' = xq s := by unfold xq; rw [h4 20 (by decide)]
  have et : trl s' = trl s := h4 3 (by decide)
  have eT : trT s' = trT s := by unfold trT; rw [eq, h5 _ (by omega) (by omega)]
  refine ⟨h1, h2, h3, ⟨h4 1 (by decide), h4 10 (by decide), et⟩, fun j hj => h5 j (by rcases hj with rfl | rfl | rfl <;> decide) (by rcases hj with rfl | rfl | rfl <;> decide), fun k _ _ => ?_, ?_, fun i _ _ => by rw [eT]⟩
  · rw [h5 7 (by decide) (by decide), h5 8 (by decide) (by decide), h5 9 (by decide) (by decide)]; exact ⟨rfl, rfl, rfl⟩
  · obtain ⟨t1, t2, t3, t4⟩ := hT
    exact ⟨by rw [eq]; exact t1, by rw [et]; exact t2, by rw [et, eq]; exact t3, fun k hk => by rw [eT]; rw [et] at hk; exact t4 k hk⟩
theorem keepsW.x {s : XS} {m : MS} {KN : XS → MS → Prop} (hT : Tr s) (h : keepsW s m KN) : keepsJ s m KN := fun s' m' h1 h2 h3 => h s' m' (h1.w hT) h2 h3
/-! joins that there would be -/
theorem closeZ_joins : ∀ (n : Nat) (z : ZS), (∀ k, 0 ≤ k → k < z.1.1 39 → (closeZ n z).1.2 40 k = z.1.2 40 k ∧ (closeZ n z).1.2 41 k = z.1.2 41 k ∧ (closeZ n z).1.2 42 k = z.1.2 42 k) ∧ (∀ k, z.1.1 39 ≤ k → k < (closeZ n z).1.1 39 → (closeZ n z).1.2 42 k = -2) ∧ z.1.1 39 ≤ (closeZ n z).1.1 39 := by
  intro n
  induction n with
  | zero => exact fun z => ⟨fun _ _ _ => ⟨rfl, rfl, rfl⟩, fun k h1 h2 => by have h2 : k < z.1.1 39 := h2; omega, Int.le_refl _⟩
  | succ n ih =>
    intro z
    rcases fp_or (b := bkM z.1) (r := z.1.2 36) (n := z.1.1 27) with ⟨i, j, hf⟩ | hf
    · rw [closeZ_y hf]
      obtain ⟨h1, h2, h3⟩ := ih (joinZ z i j (-2))
      have h3 : z.1.1 39 + 1 ≤ (closeZ n (joinZ z i j (-2))).1.1 39 := h3
      refine ⟨fun k k0 k1 => ?_, fun k k0 k1 => ?_, by omega⟩
      · obtain ⟨a1, a2, a3⟩ := h1 k k0 (show k < z.1.1 39 + 1 by omega)
        rw [a1, a2, a3]
        exact ⟨iup_ne (by omega), iup_ne (by omega), iup_ne (by omega)⟩
      · by_cases e : z.1.1 39 + 1 ≤ k
        · exact h2 k e k1
        · by_cases e0 : 0 ≤ k
          · obtain ⟨a1, a2, a3⟩ := h1 k e0 (show k < z.1.1 39 + 1 by omega)
            rw [a3]
            show iup (z.1.2 42) (z.1.1 39) (-2) k = -2
            rw [show k = z.1.1 39 by omega, iup_at]
          · -- joins are numbered from 0 on
            have : k = z.1.1 39 := by omega
            have h4 : ∀ (n : Nat) (z : ZS) (k : Int), k < z.1.1 39 → (closeZ n z).1.2 42 k = z.1.2 42 k := by
              intro n
              induction n with
              | zero => exact fun _ _ _ => rfl
              | succ n ih =>
                intro z k hk
                rcases fp_or (b := bkM z.1) (r := z.1.2 36) (n := z.1.1 27) with ⟨i, j, hf⟩ | hf
                · rw [closeZ_y hf, ih _ k (show k < z.1.1 39 + 1 by omega)]
                  exact iup_ne (by omega)
                · rw [closeZ_n hf]
            rw [h4 n (joinZ z i j (-2)) k (show k < z.1.1 39 + 1 by omega)]
            show iup (z.1.2 42) (z.1.1 39) (-2) k = -2
            rw [this, iup_at]
    · rw [closeZ_n hf]
      exact ⟨fun _ _ _ => ⟨rfl, rfl, rfl⟩, fun k h1 h2 => by omega, Int.le_refl _⟩
/-- what the paper of joins changes in the reference -/
def eqN (m m' : MS) : Prop := (∀ k, k ≠ 55 → m'.1 k = m.1 k) ∧ ∀ k, k ≠ 44 → k ≠ 53 → k ≠ 54 → m'.2 k = m.2 k
theorem eqN.rf {m : MS} : eqN m m := ⟨fun _ _ => rfl, fun _ _ _ _ => rfl⟩
theorem eqN.tr {m m1 m2 : MS} (h : eqN m m1) (g : eqN m1 m2) : eqN m m2 := ⟨fun k a => (g.1 k a).trans (h.1 k a), fun k a b c => (g.2 k a b c).trans (h.2 k a b c)⟩
theorem eqN.m {m m' : MS} (h : eqN m m') : eqM m m' := ⟨fun k q => h.1 k (fun e => q (by unfold mscI; omega)), fun k q _ _ => h.2 k (fun e => q (by unfold mscA; omega)) (fun e => q (by unfold mscA; omega)) (fun e => q (by unfold mscA; omega)), fun k _ _ => by rw [h.2 31 (by decide) (by decide) (by decide), h.2 32 (by decide) (by decide) (by decide)]; exact ⟨rfl, rfl⟩⟩
/-- the reference on paper, at joins -/
def NX (j0 : Int) (m : MS) (z : ZS) : Prop := agB m z.1 ∧ (∀ t, 0 ≤ t → t < z.1.1 27 → m.2 44 t = z.1.2 36 t) ∧ m.1 55 = z.1.1 39 - j0 ∧ ∀ i, 0 ≤ i → i < z.1.1 39 - j0 → m.2 53 i = z.1.2 40 (j0 + i) ∧ m.2 54 i = z.1.2 41 (j0 + i)
theorem c_nextJoin {j0 a b c : Int} {m : MS} {z : ZS} {K : MS → Prop} (hw : wfZ z) (hj : 0 ≤ j0 ∧ j0 ≤ z.1.1 39) (h : NX j0 m z) (a0 : 0 ≤ a) (a1 : a < z.1.1 27) (b0 : 0 ≤ b) (b1 : b < z.1.1 27) (hK : ∀ m', NX j0 m' (joinZ z a b c) → eqN m m' → K m') : C_nextJoin a b m K := by
  have h24 : 0 ≤ z.1.1 27 ∧ z.1.1 27 ≤ 24 := hw.ok.nt
  have hjn := hw.njn (by omega)
  obtain ⟨h1, h2, h3, h4⟩ := h
  have ent : m.1 27 = z.1.1 27 := h1.1.2.1
  have jb : 0 ≤ m.1 55 ∧ m.1 55 < 24 := by omega
  refine ⟨jb, ?_⟩
  rintro _ rfl
  refine ⟨jb, ?_⟩
  rintro _ rfl
  refine ⟨inI_s (show -1000000 ≤ m.1 55 + 1 ∧ m.1 55 + 1 ≤ 1000000 by omega), ?_⟩
  rintro _ rfl
  refine c_unites ⟨rfl, rfl⟩ (show 0 ≤ m.1 27 ∧ m.1 27 ≤ 24 by omega) a0 (show a < m.1 27 by omega) b0 (show b < m.1 27 by omega) (hK _ ⟨h1, fun t t0 t1 => ?_, ?_, fun i i0 i1 => ?_⟩ ⟨fun k q => ?_, fun k q q1 q2 => ?_⟩)
  · show un (m.1 27) (m.2 44) a b t = un (z.1.1 27) (z.1.2 36) a b t
    rw [ent]
    exact un_congr h2 a0 a1 b0 b1 t0 t1
  · show m.1 55 + 1 = z.1.1 39 + 1 - j0
    omega
  · have i1 : i < z.1.1 39 + 1 - j0 := i1
    show iup (m.2 53) (m.1 55) a i = iup (z.1.2 40) (z.1.1 39) a (j0 + i) ∧ iup (m.2 54) (m.1 55) b i = iup (z.1.2 41) (z.1.1 39) b (j0 + i)
    by_cases e : i = m.1 55
    · rw [e, iup_at, iup_at, show j0 + m.1 55 = z.1.1 39 by omega, iup_at, iup_at]; exact ⟨rfl, rfl⟩
    · rw [iup_ne e, iup_ne e, iup_ne (by omega), iup_ne (by omega)]; exact h4 i i0 (by omega)
  · exact if_neg q
  · show (maR (maR (maR m 53 _) 54 _) 44 _).2 k = m.2 k
    rw [maR_ne (by omega), maR_ne (by omega), maR_ne (by omega)]
theorem c_nextByParts {j0 : Int} {m : MS} {z : ZS} {K : Int → MS → Prop} (hw : wfZ z) (hj : 0 ≤ j0 ∧ j0 ≤ z.1.1 39) (h : NX j0 m z) (h0 : noFP (bkM z.1) (z.1.2 36) (z.1.1 27) → K 0 m) (h1 : ∀ i j m', isFP (bkM z.1) (z.1.2 36) (z.1.1 27) i j → NX j0 m' (joinZ z i j (-2)) → eqN m m' → K 1 m') : C_nextByParts m K := by
  intro X2 X14 hX2 hX14
  have hb := hw.ok
  have hB := h.1
  have hbm := hB.ok hb
  have h24 : 0 ≤ z.1.1 27 ∧ z.1.1 27 ≤ 24 := hb.nt
  have ent : m.1 27 = z.1.1 27 := hB.1.2.1
  have hfp := hB.fp hb (r := m.2 44) (r' := z.1.2 36) h.2.1
  have L : ∀ i, 0 ≤ i → i ≤ z.1.1 27 → (∀ i' j', 0 ≤ i' → i' < j' → j' < z.1.1 27 → i' < i → ¬ (z.1.2 36 i' ≠ z.1.2 36 j' ∧ alk (bkM z.1) (z.1.2 36) i' j')) → X2 i m := by
    refine pairs (P14 := fun i k => (∀ i' j', 0 ≤ i' → i' < j' → j' < z.1.1 27 → ahead i k i' j' → ¬ (z.1.2 36 i' ≠ z.1.2 36 j' ∧ alk (bkM z.1) (z.1.2 36) i' j')) → X14 i k m) (fun i i0 i1 ih hp => hX2 _ _ ?_) (fun i k i0 ik kn hin ih ih2 hp => hX14 _ _ _ ?_)
    · unfold B_nextByParts_2
      rw [ent]
      exact ⟨fun e => h0 (fun i' j' a1 a2 a3 => hp i' j' a1 a2 a3 (by omega)), fun e => ⟨inI_s (by omega), ih (by omega) (fun i' j' a1 a2 a3 a4 => hp i' j' a1 a2 a3 (by unfold ahead at a4; omega))⟩⟩
    · unfold B_nextByParts_14
      rw [ent]
      refine ⟨fun e => ⟨inI_s (by omega), ih2 (by omega) (fun i' j' a1 a2 a3 a4 => hp i' j' a1 a2 a3 (by unfold ahead; omega))⟩, fun e => ?_⟩
      have next : ¬ (m.2 44 i ≠ m.2 44 k ∧ alk (bkM m) (m.2 44) i k) → inI (k + 1) ∧ X14 i (k + 1) m := by
        intro hno
        refine ⟨inI_s (by omega), ih (by omega) (fun i' j' a1 a2 a3 a4 => ?_)⟩
        by_cases q : i' = i ∧ j' = k
        · rw [q.1, q.2]; exact fun q2 => hno ((hfp i k i0 ik (by omega)).mpr q2)
        · exact hp i' j' a1 a2 a3 (by unfold ahead at a4 ⊢; omega)
      refine ⟨⟨i0, by omega⟩, ⟨by omega, by omega⟩, fun e2 => next (fun q => q.1 e2), fun e2 => ?_⟩
      refine c_isAlike ⟨rfl, rfl⟩ hbm i0 (show i < m.1 27 by omega) (by omega) (show k < m.1 27 by omega) (fun e3 => ⟨fun q => absurd q (by decide), fun _ => ?_⟩) (fun e3 => ⟨fun _ => next (fun q => e3 q.2), fun q => absurd rfl q⟩)
      have hz := (hfp i k i0 ik (by omega)).mp ⟨e2, e3⟩
      exact c_nextJoin hw hj h i0 (by omega) (by omega) (by omega) (fun m' q1 q2 => h1 i k m' ⟨⟨⟨i0, ik, by omega⟩, hz⟩, hp⟩ q1 q2)
  exact L 0 (by omega) h24.1 (fun i' j' a1 a2 a3 a4 => by omega)
theorem c_laysNext {a b : Int} {m : MS} {z : ZS} {K : MS → Prop} (hw : wfZ z) (hB : agB m z.1) (hN : agN m z.1) (a0 : 0 ≤ a) (a1 : a < z.1.1 27) (b0 : 0 ≤ b) (b1 : b < z.1.1 27) (hK : ∀ m', NX (z.1.1 39) m' (askZ z a b 12) → eqN m m' → K m') : C_laysNext a b m K := by
  intro X2 X57 hX2 hX57
  have h24 : 0 ≤ z.1.1 27 ∧ z.1.1 27 ≤ 24 := hw.ok.nt
  have hj := hw.nj
  have ent : m.1 27 = z.1.1 27 := hB.1.2.1
  have L57 : ∀ (n : Nat) (z1 : ZS) (m1 : MS), wfZ z1 → z.1.1 39 ≤ z1.1.1 39 → NX (z.1.1 39) m1 z1 → gr (z1.1.1 27) (z1.1.2 36) ≤ n → (∀ m', NX (z.1.1 39) m' (closeZ n z1) → eqN m1 m' → K m') → X57 1 m1 := by
    intro n
    induction n with
    | zero =>
      intro z1 m1 w1 hj1 hx hg hk
      refine hX57 _ _ ⟨fun q => absurd q (by decide), fun _ => c_nextByParts w1 ⟨hj.1, hj1⟩ hx (fun hf => hX57 _ _ ⟨fun _ => hk m1 hx eqN.rf, fun q => absurd rfl q⟩) (fun i j m' hf _ _ => ?_)⟩
      have := gr_pos w1.lr (by have := hf.1.1; omega)
      omega
    | succ n ih =>
      intro z1 m1 w1 hj1 hx hg hk
      refine hX57 _ _ ⟨fun q => absurd q (by decide), fun _ => c_nextByParts w1 ⟨hj.1, hj1⟩ hx (fun hf => hX57 _ _ ⟨fun _ => ?_, fun q => absurd rfl q⟩) (fun i j m' hf q1 q2 => ?_)⟩
      · rw [closeZ_n hf] at hk
        exact hk m1 hx eqN.rf
      · rw [closeZ_y hf] at hk
        obtain ⟨⟨⟨f1, f2, f3⟩, f4, f5⟩, -⟩ := hf
        have hgr := un_gr w1.lr f1 (show i < z1.1.1 27 by omega) (show 0 ≤ j by omega) f3 f4
        exact ih (joinZ z1 i j (-2)) m' (joinZ_wf w1 f1 (by omega) (by omega) f3 f4 (Or.inl ⟨rfl, f5⟩)) (show z.1.1 39 ≤ z1.1.1 39 + 1 by omega) q1 (by show gr (z1.1.1 27) (un (z1.1.1 27) (z1.1.2 36) i j) ≤ n; omega) (fun m2 p1 p2 => hk m2 p1 (q2.tr p2))
  have L2 : ∀ k, 0 ≤ k → k ≤ z.1.1 27 → X2 a b k (maR m 44 (upto_row (m.2 44) (m.2 36) k)) := by
    refine upto (fun k k0 k1 ih => hX2 _ _ _ _ ?_)
    unfold B_laysNext_2
    rw [show (maR m 44 (upto_row (m.2 44) (m.2 36) k)).1 27 = z.1.1 27 from ent]
    refine ⟨fun e => ?_, fun e => ⟨⟨k0, by omega⟩, ⟨k0, by omega⟩, ?_⟩⟩
    · rintro _ rfl
      have hk : k = z.1.1 27 := by omega
      have hrow : ∀ t, 0 ≤ t → t < z.1.1 27 → upto_row (m.2 44) (m.2 36) k t = z.1.2 36 t := fun t t0 t1 => (upto_in t0 (by omega)).trans (hN.2.1 t t0 t1).1
      have hx : NX (z.1.1 39) (ms (maR m 44 (upto_row (m.2 44) (m.2 36) k)) 55 0) z := ⟨hB, hrow, show (0 : Int) = z.1.1 39 - z.1.1 39 by omega, fun i i0 i1 => by omega⟩
      have hm : eqN m (ms (maR m 44 (upto_row (m.2 44) (m.2 36) k)) 55 0) := ⟨fun k q => if_neg q, fun k q _ _ => if_neg q⟩
      refine ⟨⟨a0, by omega⟩, ⟨b0, by omega⟩, ?_⟩
      show (upto_row (m.2 44) (m.2 36) k a = upto_row (m.2 44) (m.2 36) k b → _) ∧ (¬ upto_row (m.2 44) (m.2 36) k a = upto_row (m.2 44) (m.2 36) k b → _)
      rw [hrow a a0 a1, hrow b b0 b1]
      unfold askZ at hK
      refine ⟨fun e2 => ?_, fun e2 => ?_⟩
      · rw [if_pos e2] at hK
        exact hK _ hx hm
      · rw [if_neg e2] at hK
        have hJ := joinZ_wf (c := 12) hw a0 a1 b0 b1 e2 (Or.inr (by decide))
        exact c_nextJoin hw ⟨hj.1, Int.le_refl _⟩ hx a0 a1 b0 b1 (fun m' q1 q2 => L57 24 (joinZ z a b 12) m' hJ (show z.1.1 39 ≤ z.1.1 39 + 1 by omega) q1 (gr24 hJ) (fun m2 p1 p2 => hK m2 p1 (hm.tr (q2.tr p2))))
    · rintro _ rfl
      rw [ma_maR, upto_put (r := m.2 44) (r' := m.2 36) (v := (maR m 44 (upto_row (m.2 44) (m.2 36) k)).2 36 k) k0 rfl]
      exact ⟨inI_s (by omega), ih (by omega)⟩
  have := L2 0 (by omega) h24.1
  rw [upto_0, maR_id] at this
  exact this
