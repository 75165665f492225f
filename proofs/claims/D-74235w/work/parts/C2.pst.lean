/-! THE PURE PART, 59: sets of sames that are enough: pruned, needed, since, base -/
set_option maxRecDepth 100000
/-- what follows from a set of sames -/
def oneBy (b : PB) (S t u : Int) : Prop := ∀ Q, cg b b.nt (ES b S) Q → Q t u
theorem good_one {b : PB} {S t u : Int} {r : Int → Int} (h : good b b.nt (ES b S) r) (t0 : 0 ≤ t) (t1 : t < b.nt) (u0 : 0 ≤ u) (u1 : u < b.nt) : r t = r u ↔ oneBy b S t u :=
  ⟨fun e Q hQ => h.sound Q hQ t u t0 t1 u0 u1 e, fun ho => ho _ (good_cg h)⟩
/-- the paper alone differs -/
def pX (s s' : XS) : Prop := s'.1 = s.1 ∧ ∀ j, j ≠ 3 → s'.2 j = s.2 j
def pM (m m' : MS) : Prop := m'.1 = m.1 ∧ ∀ k, k ≠ 44 → m'.2 k = m.2 k
theorem pX.rf {s : XS} : pX s s := ⟨rfl, fun _ _ => rfl⟩
theorem pM.rf {m : MS} : pM m m := ⟨rfl, fun _ _ => rfl⟩
theorem pX.tr {s s1 s2 : XS} (h : pX s s1) (g : pX s1 s2) : pX s s2 := ⟨g.1.trans h.1, fun j q => (g.2 j q).trans (h.2 j q)⟩
theorem pM.tr {s s1 s2 : MS} (h : pM s s1) (g : pM s1 s2) : pM s s2 := ⟨g.1.trans h.1, fun j q => (g.2 j q).trans (h.2 j q)⟩
theorem pX.x {s s' : XS} (h : pX s s') : eqX s s' := ⟨fun _ _ _ => by rw [h.1], fun _ _ _ _ _ _ => by rw [h.1], h.2 2 (by decide), fun _ _ => by rw [h.2 4 (by decide)], fun _ _ _ => by rw [h.2 4 (by decide)]⟩
theorem pM.m {m m' : MS} (h : pM m m') : eqM m m' := ⟨fun _ _ => by rw [h.1], fun k q _ _ => h.2 k (fun e => q (by unfold mscA; omega)), fun _ _ _ => by rw [h.2 31 (by decide), h.2 32 (by decide)]; exact ⟨rfl, rfl⟩⟩
theorem pM.bk {m m' : MS} (h : pM m m') : bkM m' = bkM m := by
  unfold bkM
  rw [h.1, h.2 7 (by decide), h.2 28 (by decide), h.2 29 (by decide), h.2 31 (by decide), h.2 32 (by decide), h.2 34 (by decide), h.2 35 (by decide)]
theorem pX.rxb {b : PB} {s s' : XS} (h : pX s s') (hr : RXb b s) : RXb b s' := hr.of (fun _ _ => by rw [h.1]) (fun _ _ => by rw [h.1])
theorem pX_psh {s : XS} {n : Int} {r : Int → Int} : pX s (psh s n r) := ⟨rfl, fun j q => psh_o q⟩
theorem x_byP {b : PB} {s0 s : XS} {S : Int} {K : XS → Prop} (hb : b.ok) (hr : RXb b s0) (hE : (s0.2 2).1 1 = b.nt ∧ good b b.nt E0 ((s0.2 2).2 0)) (hp : pX s0 s) (h : ∀ s', pX s0 s' → good b b.nt (ES b S) ((s'.2 3).2 0) → (s'.2 3).1 1 = b.nt → K s') : C_X1_by S s K :=
  x_by hb (hp.rxb hr) (by rw [hp.2 2 (by decide)]; exact hE.1) (by rw [hp.2 2 (by decide)]; exact hE.2) (fun r hg => h _ (hp.tr pX_psh) (by rw [psh_r]; exact hg) psh_1)
theorem x_one {b : PB} {s0 s : XS} {S t u : Int} {K : Int → XS → Prop} (hb : b.ok) (hr : RXb b s0) (hE : (s0.2 2).1 1 = b.nt ∧ good b b.nt E0 ((s0.2 2).2 0)) (hp : pX s0 s) (t0 : 0 ≤ t) (t1 : t < b.nt) (u0 : 0 ≤ u) (u1 : u < b.nt) (h1 : oneBy b S t u → ∀ s', pX s0 s' → K 1 s') (h0 : ¬ oneBy b S t u → ∀ s', pX s0 s' → K 0 s') : C_X1_by S s (fun s' => C_X3_areOne_G t u 3 s' (fun r => K r s')) := by
  have h24 := hb.nt
  exact x_byP hb hr hE hp (fun s' q1 q2 _ => x_areOne ⟨t0, by omega⟩ ⟨u0, by omega⟩ (fun e => h1 ((good_one q2 t0 t1 u0 u1).mp e) s' q1) (fun e => h0 (fun ho => e ((good_one q2 t0 t1 u0 u1).mpr ho)) s' q1))
theorem c_one {m0 m : MS} {S t u : Int} {K : Int → MS → Prop} (hb : (bkM m0).ok) (hp : pM m0 m) (hS : below S (bkM m0).ns) (t0 : 0 ≤ t) (t1 : t < (bkM m0).nt) (u0 : 0 ≤ u) (u1 : u < (bkM m0).nt) (h1 : oneBy (bkM m0) S t u → ∀ m', pM m0 m' → K 1 m') (h0 : ¬ oneBy (bkM m0) S t u → ∀ m', pM m0 m' → K 0 m') : C_isOneBy S t u m K := by
  have eb := hp.bk
  refine c_isOneBy (by rw [eb]; exact hb) (by rw [eb]; exact hS) t0 (by rw [eb]; exact t1) u0 (by rw [eb]; exact u1) (fun r hr => ?_)
  rw [eb] at hr
  have hq : pM m0 (maR m 44 r) := hp.tr ⟨rfl, fun k q => if_neg q⟩
  by_cases e : r t = r u
  · rw [if_pos e]; exact h1 ((good_one hr t0 t1 u0 u1).mp e) _ hq
  · rw [if_neg e]; exact h0 (fun ho => e ((good_one hr t0 t1 u0 u1).mpr ho)) _ hq
theorem c_whyN {m : MS} {t u w : Int} {A Z : MS → Prop} (h24 : 0 ≤ m.1 27 ∧ m.1 27 ≤ 24) (hw : (w = 1 ∧ ¬ ((0 ≤ t ∧ t < m.1 27) ∧ 0 ≤ u ∧ u < m.1 27)) ∨ (w = 5 ∧ ((0 ≤ t ∧ t < m.1 27) ∧ 0 ≤ u ∧ u < m.1 27) ∧ ¬ m.2 36 t = m.2 36 u)) (hZ : Z (mref m w)) : C_whyNotOne t u m (fun r4 s1 => C_isRefused r4 s1 (fun r8 s5 => (r8 = 0 → A s5) ∧ (¬ r8 = 0 → Z s5))) := by
  rcases hw with ⟨rfl, q⟩ | ⟨rfl, q, q5⟩
  · exact c_whyNotOne h24 (fun _ => c_isRefused (fun q => absurd q (by decide)) (fun _ => ⟨fun q => absurd q (by decide), fun _ => hZ⟩)) (fun q2 => absurd q2 q) (fun q2 => absurd q2 q)
  · exact c_whyNotOne h24 (fun q2 => absurd q q2) (fun _ _ => c_isRefused (fun q => absurd q (by decide)) (fun _ => ⟨fun q => absurd q (by decide), fun _ => hZ⟩)) (fun _ q2 => absurd q2 q5)
/-- a question about two that are one -/
theorem p_ask {s : XS} {m : MS} {KN : XS → MS → Prop} {t u : Int} {A : Prop} {F : (Int → MS → Prop) → Prop} (hB : JB s m) (hN : JN s m) (hK : keepsJ s m KN) (hF : ∀ (K : Int → MS → Prop) (w : Int), ((w = 1 ∧ ¬ ((0 ≤ t ∧ t < m.1 27) ∧ 0 ≤ u ∧ u < m.1 27)) ∨ (w = 5 ∧ ((0 ≤ t ∧ t < m.1 27) ∧ 0 ≤ u ∧ u < m.1 27) ∧ ¬ m.2 36 t = m.2 36 u)) → K (-1) (mref m w) → F K) (hA : (0 ≤ t ∧ t < m.1 27) ∧ 0 ≤ u ∧ u < m.1 27 → m.2 36 t = m.2 36 u → A) : C_X1_why t u s (fun r1 => (r1 ≤ 0 → A) ∧ (¬ r1 ≤ 0 → C_X1_refused r1 s (fun r s' => F (fun r' m' => r = r' ∧ KN s' m')))) :=
  x_why hB hN (fun q => ⟨fun q2 => absurd q2 (by decide), fun _ => x_refused (hF _ 1 (Or.inl ⟨rfl, q⟩) (p_no hK (by decide)))⟩) (fun q q5 => ⟨fun q2 => absurd q2 (by decide), fun _ => x_refused (hF _ 5 (Or.inr ⟨rfl, q, q5⟩) (p_no hK (by decide)))⟩) (fun q q0 => ⟨fun _ => hA q q0, fun q2 => absurd (by decide) q2⟩)
theorem p_fin {s s' : XS} {m m' : MS} {KN : XS → MS → Prop} {v : Int} (hK : keepsJ s m KN) (hx : pX s s') (hm : pM (mref m 0) m') : v = v ∧ KN (xfin s') m' :=
  ⟨rfl, hK _ _ (hx.x.tr eqX_o) (eqM_ref.tr hm.m) ⟨by rw [hm.1]; rfl, by rw [hm.1]; rfl⟩⟩
theorem p_pruned {a : Int → Int} {s : XS} {m : MS} {KN : XS → MS → Prop} (hB : JB s m) (hN : JN s m) (hE : JE s m) (hK : keepsJ s m KN) : C_law_16 a s m KN := by
  have hB0 := hB
  obtain ⟨hb, hr⟩ := hB
  have h24 : 0 ≤ m.1 27 ∧ m.1 27 ≤ 24 := hb.nt
  have h12 : 0 ≤ m.1 30 ∧ m.1 30 ≤ 12 := hb.ns
  have es : s.1.1 32 = m.1 30 := hr.1.2.2.1
  intro X31 hX
  refine p_ask hB0 hN hK (F := C_pruned (a 1) (a 2) m) (fun K w hw hk X28 h28 => c_whyN h24 hw hk) (fun hv he => ?_)
  have hlp : ∀ (k : Nat) (S : Int), (k : Int) ≤ 12 → below S (bkM m).ns → ∃ v, (∀ s1, pX s s1 → (∀ s', pX s s' → C_pruned (a 1) (a 2) m (fun r' m' => v = r' ∧ KN (xfin s') m')) → X31 (a 1) (a 2) S ((k : Int) - 1) s1) ∧ ∀ (X28 : Int → Int → Int → Int → MS → Prop) (K : Int → MS → Prop) (M : MS), (∀ x1 x2 x3 x4 s0, B_pruned_28 X28 K x1 x2 x3 x4 s0 → X28 x1 x2 x3 x4 s0) → pM (mref m 0) M → (∀ m', pM (mref m 0) m' → K v m') → X28 (a 1) (a 2) S ((k : Int) - 1) M := by
    intro k
    induction k with
    | zero => exact fun S _ _ => ⟨S, fun s1 q1 q2 => hX _ _ _ _ _ ⟨fun _ => x_fine (q2 s1 q1), fun q => absurd (by decide) q⟩, fun X28 K M h28 q1 q2 => h28 _ _ _ _ _ ⟨fun _ => q2 M q1, fun q => absurd (by decide) q⟩⟩
    | succ k ih =>
      intro S hk hS
      have hS' := below_del (k := (k : Int)) (by omega) (by omega) hS
      by_cases ho : oneBy (bkM m) (jand S (jxor (jshl 1 (k : Int)) (-1))) (a 1) (a 2)
      · obtain ⟨v, v1, v2⟩ := ih _ (by omega) hS'
        refine ⟨v, fun s1 q1 q2 => hX _ _ _ _ _ ?_, fun X28 K M h28 q1 q2 => h28 _ _ _ _ _ ?_⟩
        · rw [show ((k + 1 : Nat) : Int) - 1 = (k : Int) by omega]
          exact ⟨fun q => absurd q (by omega), fun _ => x_one hb hr hE q1 hv.1.1 hv.1.2 hv.2.1 hv.2.2 (fun _ s' q3 => ⟨fun q => absurd q (by decide), fun _ => ⟨inI_s (by omega), v1 s' q3 q2⟩⟩) (fun q => absurd ho q)⟩
        · rw [show ((k + 1 : Nat) : Int) - 1 = (k : Int) by omega]
          exact ⟨fun q => absurd q (by omega), fun _ => c_one (m0 := mref m 0) hb q1 hS' hv.1.1 hv.1.2 hv.2.1 hv.2.2 (fun _ m' q3 => ⟨fun q => absurd q (by decide), fun _ => ⟨inI_s (by omega), v2 X28 K m' h28 q3 q2⟩⟩) (fun q => absurd ho q)⟩
      · obtain ⟨v, v1, v2⟩ := ih S (by omega) hS
        refine ⟨v, fun s1 q1 q2 => hX _ _ _ _ _ ?_, fun X28 K M h28 q1 q2 => h28 _ _ _ _ _ ?_⟩
        · rw [show ((k + 1 : Nat) : Int) - 1 = (k : Int) by omega]
          exact ⟨fun q => absurd q (by omega), fun _ => x_one hb hr hE q1 hv.1.1 hv.1.2 hv.2.1 hv.2.2 (fun q => absurd q ho) (fun _ s' q3 => ⟨fun _ => ⟨inI_s (by omega), v1 s' q3 q2⟩, fun q => absurd rfl q⟩)⟩
        · rw [show ((k + 1 : Nat) : Int) - 1 = (k : Int) by omega]
          exact ⟨fun q => absurd q (by omega), fun _ => c_one (m0 := mref m 0) hb q1 hS' hv.1.1 hv.1.2 hv.2.1 hv.2.2 (fun q => absurd q ho) (fun _ m' q3 => ⟨fun _ => ⟨inI_s (by omega), v2 X28 K m' h28 q3 q2⟩, fun q => absurd rfl q⟩)⟩
  obtain ⟨v, v1, v2⟩ := hlp (m.1 30).toNat (jshl 1 (m.1 30) - 1) (by omega) (below_every h12.1 (by omega))
  rw [show (((m.1 30).toNat : Nat) : Int) = m.1 30 by omega] at v1 v2
  refine x_every (by omega) (x_sames ?_)
  rw [es]
  exact ⟨inI_s (by omega), v1 s pX.rf (fun s' q X28 h28 => c_why_yes h24 hv he (c_allSames (m := mref m 0) h12 ⟨inI_s (by show -1000000 ≤ m.1 30 - 1 ∧ m.1 30 - 1 ≤ 1000000; omega), v2 X28 _ (mref m 0) h28 pM.rf (fun m' q2 => p_fin hK q q2)⟩))⟩
theorem jor_w {x y : Int} : (Int32.ofInt (jor x y)).toInt = jor x y := by
  unfold jor
  rw [Int32.ofInt_toInt]
theorem jor_r0 {x : Int} (h : (Int32.ofInt x).toInt = x) : jor x 0 = x := by
  unfold jor
  have : Int32.ofInt x ||| Int32.ofInt 0 = Int32.ofInt x := Int32.or_zero
  rw [this, h]
theorem p_needed {a : Int → Int} {s : XS} {m : MS} {KN : XS → MS → Prop} (hB : JB s m) (hN : JN s m) (hE : JE s m) (hK : keepsJ s m KN) : C_law_20 a s m KN := by
  have hB0 := hB
  obtain ⟨hb, hr⟩ := hB
  have h24 : 0 ≤ m.1 27 ∧ m.1 27 ≤ 24 := hb.nt
  have h12 : 0 ≤ m.1 30 ∧ m.1 30 ≤ 12 := hb.ns
  have es : s.1.1 32 = m.1 30 := hr.1.2.2.1
  intro X23 hX
  refine p_ask hB0 hN hK (F := C_needed (a 1) (a 2) m) (fun K w hw hk X20 h20 => c_whyN h24 hw hk) (fun hv he => ?_)
  have hlp : ∀ (d : Nat) (k acc : Int), 0 ≤ k → k + d = m.1 30 → (Int32.ofInt acc).toInt = acc → ∃ v, (∀ s1, pX s s1 → (∀ s', pX s s' → C_needed (a 1) (a 2) m (fun r' m' => v = r' ∧ KN (xfin s') m')) → X23 (a 1) (a 2) acc k s1) ∧ ∀ (X20 : Int → Int → Int → Int → MS → Prop) (K : Int → MS → Prop) (M : MS), (∀ x1 x2 x3 x4 s0, B_needed_20 X20 K x1 x2 x3 x4 s0 → X20 x1 x2 x3 x4 s0) → pM (mref m 0) M → (∀ m', pM (mref m 0) m' → K v m') → X20 (a 1) (a 2) acc k M := by
    intro d
    induction d with
    | zero =>
      intro k acc k0 hk hacc
      refine ⟨acc, fun s1 q1 q2 => hX _ _ _ _ _ (x_sames ?_), fun X20 K M h20 q1 q2 => h20 _ _ _ _ _ ?_⟩
      · rw [q1.1, es]
        exact ⟨fun _ => x_fine (q2 s1 q1), fun q => absurd (by omega) q⟩
      · unfold B_needed_20
        rw [q1.1]
        exact ⟨fun _ => q2 M q1, fun q => absurd (show m.1 30 ≤ k by omega) q⟩
    | succ d ih =>
      intro k acc k0 hk hacc
      have hS' := below_del (k := k) k0 (by omega) (below_every h12.1 (by omega))
      by_cases ho : oneBy (bkM m) (jand (jshl 1 (m.1 30) - 1) (jxor (jshl 1 k) (-1))) (a 1) (a 2)
      · obtain ⟨v, v1, v2⟩ := ih (k + 1) acc (by omega) (by omega) hacc
        refine ⟨v, fun s1 q1 q2 => hX _ _ _ _ _ (x_sames ?_), fun X20 K M h20 q1 q2 => h20 _ _ _ _ _ ?_⟩
        · have e1 : s1.1.1 32 = m.1 30 := by rw [q1.1]; exact es
          rw [e1]
          refine ⟨fun q => by omega, fun _ => x_every (by omega) ?_⟩
          rw [e1]
          exact x_one hb hr hE q1 hv.1.1 hv.1.2 hv.2.1 hv.2.2 (fun _ s' q3 => ⟨fun q => absurd q (by decide), fun _ => ⟨inI_s (by omega), v1 s' q3 q2⟩⟩) (fun q => absurd ho q)
        · have e1 : M.1 30 = m.1 30 := by rw [q1.1]; rfl
          unfold B_needed_20
          rw [e1]
          refine ⟨fun q => by omega, fun _ => c_allSames (by omega) ?_⟩
          rw [e1]
          exact c_one (m0 := mref m 0) hb q1 hS' hv.1.1 hv.1.2 hv.2.1 hv.2.2 (fun _ m' q3 => ⟨fun q => absurd q (by decide), fun _ => ⟨inI_s (by omega), by rw [jor_r0 hacc]; exact v2 X20 K m' h20 q3 q2⟩⟩) (fun q => absurd ho q)
      · obtain ⟨v, v1, v2⟩ := ih (k + 1) (jor acc (jshl 1 k)) (by omega) (by omega) jor_w
        refine ⟨v, fun s1 q1 q2 => hX _ _ _ _ _ (x_sames ?_), fun X20 K M h20 q1 q2 => h20 _ _ _ _ _ ?_⟩
        · have e1 : s1.1.1 32 = m.1 30 := by rw [q1.1]; exact es
          rw [e1]
          refine ⟨fun q => by omega, fun _ => x_every (by omega) ?_⟩
          rw [e1]
          exact x_one hb hr hE q1 hv.1.1 hv.1.2 hv.2.1 hv.2.2 (fun q => absurd q ho) (fun _ s' q3 => ⟨fun _ => ⟨inI_s (by omega), v1 s' q3 q2⟩, fun q => absurd rfl q⟩)
        · have e1 : M.1 30 = m.1 30 := by rw [q1.1]; rfl
          unfold B_needed_20
          rw [e1]
          refine ⟨fun q => by omega, fun _ => c_allSames (by omega) ?_⟩
          rw [e1]
          exact c_one (m0 := mref m 0) hb q1 hS' hv.1.1 hv.1.2 hv.2.1 hv.2.2 (fun q => absurd q ho) (fun _ m' q3 => ⟨fun _ => ⟨inI_s (by omega), v2 X20 K m' h20 q3 q2⟩, fun q => absurd rfl q⟩)
  obtain ⟨v, v1, v2⟩ := hlp (m.1 30).toNat 0 0 (Int.le_refl _) (by omega) (by decide)
  exact v1 s pX.rf (fun s' q X20 h20 => c_why_yes h24 hv he (v2 X20 _ (mref m 0) h20 pM.rf (fun m' q2 => p_fin hK q q2)))
theorem p_base {a : Int → Int} {s : XS} {m : MS} {KN : XS → MS → Prop} (hB : JB s m) (hT : JT s m) (hE : JE s m) (hK : keepsJ s m KN) : C_law_22 a s m KN := by
  obtain ⟨hb, hr⟩ := hB
  have h24 : 0 ≤ m.1 27 ∧ m.1 27 ≤ 24 := hb.nt
  have h12 : 0 ≤ m.1 30 ∧ m.1 30 ≤ 12 := hb.ns
  have es : s.1.1 32 = m.1 30 := hr.1.2.2.1
  have y3 : m.1 30 ≤ s.1.1 42 := hr.2.1.2.2.1
  have hsm := hr.2.2.2.2.2.1
  intro X12 hX
  have hlp : ∀ (k : Nat) (S : Int), (k : Int) ≤ m.1 30 → below S (bkM m).ns → ∃ v, (∀ s1, pX s s1 → (∀ s', pX s s' → C_base m (fun r' m' => v = r' ∧ KN s' m')) → X12 S ((k : Int) - 1) s1) ∧ ∀ (X17 : Int → Int → MS → Prop) (K : Int → MS → Prop) (M : MS), (∀ x1 x2 s0, B_base_17 X17 K x1 x2 s0 → X17 x1 x2 s0) → pM (ms m 0 0) M → (∀ m', pM (ms m 0 0) m' → K v m') → X17 S ((k : Int) - 1) M := by
    intro k
    induction k with
    | zero => exact fun S _ _ => ⟨S, fun s1 q1 q2 => hX _ _ _ ⟨fun _ => q2 s1 q1, fun q => absurd (by decide) q⟩, fun X17 K M h17 q1 q2 => h17 _ _ _ ⟨fun _ => q2 M q1, fun q => absurd (by decide) q⟩⟩
    | succ k ih =>
      intro S hk hS
      have hS' := below_del (k := (k : Int)) (by omega) (by omega) hS
      have ea := hb.sa (k : Int) (by omega) (show (k : Int) < m.1 30 by omega)
      have eb := hb.sb (k : Int) (by omega) (show (k : Int) < m.1 30 by omega)
      have hss := hsm (k : Int) (by omega) (show (k : Int) < m.1 30 by omega)
      have sysP : ∀ (s1 : XS) (K1 : Int → XS → Prop), pX s s1 → (∀ s', pX s s' → (oneBy (bkM m) (jand S (jxor (jshl 1 (k : Int)) (-1))) ((bkM m).sa k) ((bkM m).sb k) → K1 1 s') ∧ (¬ oneBy (bkM m) (jand S (jxor (jshl 1 (k : Int)) (-1))) ((bkM m).sa k) ((bkM m).sb k) → K1 0 s')) → (((0 ≤ (k : Int) ∧ (k : Int) < s1.1.1 32) ∧ xok s1 2) ∧ ((0 ≤ (k : Int) ∧ (k : Int) < s1.1.1 42) ∧ (C_X1_by (jand S (jxor (jshl 1 (k : Int)) (-1))) s1 (fun s5 => ((0 ≤ (k : Int) ∧ (k : Int) < s5.1.1 42) ∧ ((0 ≤ (k : Int) ∧ (k : Int) < s5.1.1 42) ∧ (C_X3_areOne_G (s5.1.2 40 (k : Int)) (s5.1.2 41 (k : Int)) 3 s5 (fun r10 => K1 r10 s5)))))))) := by
        intro s1 K1 q1 hk1
        have b42 : ∀ s', pX s s' → 0 ≤ (k : Int) ∧ (k : Int) < s'.1.1 42 := fun s' q => by rw [q.1]; omega
        refine ⟨⟨by rw [q1.1]; omega, (q1.rxb hr).2.2.1.2.2.1⟩, b42 s1 q1, x_byP hb hr hE q1 (fun s' p1 p2 p3 => ⟨b42 s' p1, b42 s' p1, ?_⟩)⟩
        rw [p1.1, hss.1, hss.2]
        have hnt : (bkM m).nt ≤ 24 := h24.2
        exact x_areOne ⟨ea.1, by omega⟩ ⟨eb.1, by omega⟩ (fun e => (hk1 s' p1).1 ((good_one p2 ea.1 ea.2 eb.1 eb.2).mp e)) (fun e => (hk1 s' p1).2 (fun ho => e ((good_one p2 ea.1 ea.2 eb.1 eb.2).mpr ho)))
      have e31 : ∀ M, pM (ms m 0 0) M → M.2 31 (k : Int) = (bkM m).sa k ∧ M.2 32 (k : Int) = (bkM m).sb k := fun M q => by
        rw [q.2 31 (by decide), q.2 32 (by decide)]; exact ⟨rfl, rfl⟩
      by_cases ho : oneBy (bkM m) (jand S (jxor (jshl 1 (k : Int)) (-1))) ((bkM m).sa k) ((bkM m).sb k)
      · obtain ⟨v, v1, v2⟩ := ih _ (by omega) hS'
        refine ⟨v, fun s1 q1 q2 => hX _ _ _ ?_, fun X17 K M h17 q1 q2 => h17 _ _ _ ?_⟩
        · rw [show ((k + 1 : Nat) : Int) - 1 = (k : Int) by omega]
          exact ⟨fun q => absurd q (by omega), fun _ => sysP s1 (fun r10 s5 => (r10 = 0 → (inI ((k : Int) + (-1)) ∧ X12 S ((k : Int) + (-1)) s5)) ∧ (¬ r10 = 0 → (inI ((k : Int) + (-1)) ∧ X12 (jand S (jxor (jshl 1 (k : Int)) (-1))) ((k : Int) + (-1)) s5))) q1 (fun s' q3 => ⟨fun _ => ⟨fun q => absurd q (by decide), fun _ => ⟨inI_s (by omega), v1 s' q3 q2⟩⟩, fun q => absurd ho q⟩)⟩
        · rw [show ((k + 1 : Nat) : Int) - 1 = (k : Int) by omega]
          refine ⟨fun q => absurd q (by omega), fun _ => ⟨⟨by omega, by omega⟩, ⟨by omega, by omega⟩, ?_⟩⟩
          rw [(e31 M q1).1, (e31 M q1).2]
          exact c_one (m0 := ms m 0 0) hb q1 hS' ea.1 ea.2 eb.1 eb.2 (fun _ m' q3 => ⟨fun q => absurd q (by decide), fun _ => ⟨inI_s (by omega), v2 X17 K m' h17 q3 q2⟩⟩) (fun q => absurd ho q)
      · obtain ⟨v, v1, v2⟩ := ih S (by omega) hS
        refine ⟨v, fun s1 q1 q2 => hX _ _ _ ?_, fun X17 K M h17 q1 q2 => h17 _ _ _ ?_⟩
        · rw [show ((k + 1 : Nat) : Int) - 1 = (k : Int) by omega]
          exact ⟨fun q => absurd q (by omega), fun _ => sysP s1 (fun r10 s5 => (r10 = 0 → (inI ((k : Int) + (-1)) ∧ X12 S ((k : Int) + (-1)) s5)) ∧ (¬ r10 = 0 → (inI ((k : Int) + (-1)) ∧ X12 (jand S (jxor (jshl 1 (k : Int)) (-1))) ((k : Int) + (-1)) s5))) q1 (fun s' q3 => ⟨fun q => absurd q ho, fun _ => ⟨fun _ => ⟨inI_s (by omega), v1 s' q3 q2⟩, fun q => absurd rfl q⟩⟩)⟩
        · rw [show ((k + 1 : Nat) : Int) - 1 = (k : Int) by omega]
          refine ⟨fun q => absurd q (by omega), fun _ => ⟨⟨by omega, by omega⟩, ⟨by omega, by omega⟩, ?_⟩⟩
          rw [(e31 M q1).1, (e31 M q1).2]
          exact c_one (m0 := ms m 0 0) hb q1 hS' ea.1 ea.2 eb.1 eb.2 (fun q => absurd q ho) (fun _ m' q3 => ⟨fun _ => ⟨inI_s (by omega), v2 X17 K m' h17 q3 q2⟩, fun q => absurd rfl q⟩)
  obtain ⟨v, v1, v2⟩ := hlp (m.1 30).toNat (jshl 1 (m.1 30) - 1) (by omega) (below_every h12.1 (by omega))
  rw [show (((m.1 30).toNat : Nat) : Int) = m.1 30 by omega] at v1 v2
  refine x_every (by omega) (x_sames ?_)
  rw [es]
  refine ⟨inI_s (by omega), v1 s pX.rf (fun s' q X17 h17 => ?_)⟩
  rintro _ rfl
  exact c_allSames (m := ms m 0 0) h12 ⟨inI_s (by show -1000000 ≤ m.1 30 - 1 ∧ m.1 30 - 1 ≤ 1000000; omega), v2 X17 _ (ms m 0 0) h17 pM.rf (fun m' q2 => ⟨rfl, hK _ _ q.x (eqM_0.tr q2.m) (by
    unfold JT at hT ⊢
    rw [q.1, q2.1]; exact hT)⟩)⟩
