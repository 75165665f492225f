/-! THE PURE PART, 68: free -/
set_option maxRecDepth 100000
/-- two may be made one with no difference against it -/
def frP (b : PB) (t u : Int) : Prop := ∀ r, good b b.nt (E1 (sE b) t u) r → fi (fun k => r (b.da k) = r (b.db k)) b.nd = -2
theorem frP_r {b : PB} {t u : Int} {r : Int → Int} (hb : b.ok) (hg : good b b.nt (E1 (sE b) t u) r) : fi (fun k => r (b.da k) = r (b.db k)) b.nd = -2 ↔ frP b t u :=
  ⟨fun h r2 hg2 => by rw [cl_congr hb (fun t t0 t1 => good_eq hg2 hg t0 t1)]; exact h, fun h => h r hg⟩
theorem p_free {a : Int → Int} {s : XS} {m : MS} {z : ZS} {KN : XS → MS → Prop} (hJ : JZ s m z) (hT : JT s m) (hK : keepsJ s m KN) : C_law_30 a s m KN := by
  have hgx := goodX_JZ hJ
  obtain ⟨hb, hr⟩ := hJ.b
  obtain ⟨n1, n2, n3, n4⟩ := hJ.n
  have h24 : 0 ≤ m.1 27 ∧ m.1 27 ≤ 24 := hb.nt
  have ex : s.1.1 31 = m.1 27 := hr.1.2.1
  have hR : ∀ t, 0 ≤ t → t < m.1 27 → (s.2 4).2 0 t = m.2 36 t := fun t t0 t1 => (n2 t t0 t1).1
  intro X4 X16 h4 h16
  have outer : ∀ (d : Nat) (i acc : Int), 0 ≤ i → i + d = m.1 27 → 0 ≤ acc → acc ≤ 24 * i → ∃ v, (∀ s1, pX s s1 → (∀ s', pX s s' → C_free m (fun r' m' => v = r' ∧ KN s' m')) → X4 acc i s1) ∧ ∀ (Y9 : Int → Int → MS → Prop) (Y21 : Int → Int → Int → MS → Prop) (K : Int → MS → Prop) (M : MS), (∀ x1 x2 s0, B_free_9 Y9 Y21 K x1 x2 s0 → Y9 x1 x2 s0) → (∀ x1 x2 x3 s0, B_free_21 Y9 Y21 K x1 x2 x3 s0 → Y21 x1 x2 x3 s0) → wM (ms m 0 0) M → (∀ m', wM (ms m 0 0) m' → K v m') → Y9 acc i M := by
    intro d
    induction d with
    | zero =>
      intro i acc i0 hi ac0 ac1
      refine ⟨acc, fun s1 q1 q2 => h4 _ _ _ (x_terms ?_), fun Y9 Y21 K M g9 g21 q1 q2 => g9 _ _ _ ?_⟩
      · rw [q1.1, ex]
        exact ⟨fun _ => q2 s1 q1, fun q => by omega⟩
      · unfold B_free_9
        rw [q1.1]
        exact ⟨fun _ => q2 M q1, fun q => absurd (show m.1 27 ≤ i by omega) q⟩
    | succ d ihd =>
      intro i acc i0 hi ac0 ac1
      have inner : ∀ (e : Nat) (j acc : Int), 0 ≤ j → j + e = m.1 27 → 0 ≤ acc → acc ≤ 24 * i + j → ∃ v, (∀ s1, pX s s1 → (∀ s', pX s s' → C_free m (fun r' m' => v = r' ∧ KN s' m')) → X16 acc i j s1) ∧ ∀ (Y9 : Int → Int → MS → Prop) (Y21 : Int → Int → Int → MS → Prop) (K : Int → MS → Prop) (M : MS), (∀ x1 x2 s0, B_free_9 Y9 Y21 K x1 x2 s0 → Y9 x1 x2 s0) → (∀ x1 x2 x3 s0, B_free_21 Y9 Y21 K x1 x2 x3 s0 → Y21 x1 x2 x3 s0) → wM (ms m 0 0) M → (∀ m', wM (ms m 0 0) m' → K v m') → Y21 acc i j M := by
        intro e
        induction e with
        | zero =>
          intro j acc j0 hj ac0 ac1
          obtain ⟨v, v1, v2⟩ := ihd (i + 1) acc (by omega) (by omega) ac0 (by omega)
          refine ⟨v, fun s1 q1 q2 => h16 _ _ _ _ (x_terms ?_), fun Y9 Y21 K M g9 g21 q1 q2 => g21 _ _ _ _ ?_⟩
          · rw [q1.1, ex]
            exact ⟨fun _ => ⟨inI_s (by omega), v1 s1 q1 q2⟩, fun q => by omega⟩
          · unfold B_free_21
            have e27 : M.1 27 = m.1 27 := by rw [q1.1]; rfl
            rw [e27]
            exact ⟨fun _ => ⟨inI_s (by omega), v2 Y9 Y21 K M g9 g21 q1 q2⟩, fun q => by omega⟩
        | succ e ihe =>
          intro j acc j0 hj ac0 ac1
          have hi1 : i < m.1 27 := by omega
          have hj1 : j < m.1 27 := by omega
          by_cases hone : m.2 36 i = m.2 36 j
          · obtain ⟨v, v1, v2⟩ := ihe (j + 1) acc (by omega) (by omega) ac0 (by omega)
            refine ⟨v, fun s1 q1 q2 => h16 _ _ _ _ (x_terms ?_), fun Y9 Y21 K M g9 g21 q1 q2 => g21 _ _ _ _ ?_⟩
            · rw [q1.1, ex]
              refine ⟨fun q => by omega, fun _ => x_areOne ⟨i0, by omega⟩ ⟨j0, by omega⟩ (fun g => ⟨fun q => absurd q (by decide), fun _ => ⟨inI_s (by omega), v1 s1 q1 q2⟩⟩) (fun g => absurd ?_ g)⟩
              rw [q1.2 4 (by decide), hR i i0 hi1, hR j j0 hj1]; exact hone
            · unfold B_free_21
              have e27 : M.1 27 = m.1 27 := by rw [q1.1]; rfl
              have e36 : M.2 36 = m.2 36 := q1.2.1 36 (by decide) (by decide) (by decide)
              rw [e27, e36]
              exact ⟨fun q => by omega, fun _ => ⟨⟨i0, by omega⟩, ⟨j0, by omega⟩, fun _ => ⟨inI_s (by omega), v2 Y9 Y21 K M g9 g21 q1 q2⟩, fun q => absurd hone q⟩⟩
          · -- tried
            have sysT : ∀ (s1 : XS) (K1 : Int → XS → Prop), pX s s1 → (∀ s', pX s s' → ∀ v, (v = -2 ↔ frP (bkM m) i j) → K1 v s') → C_X1_with i j s1 (fun s14 => C_X1_clash 3 s14 (fun r17 => K1 r17 s14)) := by
              intro s1 K1 q1 hk
              refine x_with hb (q1.rxb hr) (by rw [q1.2 4 (by decide)]; exact n1) (by rw [q1.2 4 (by decide)]; exact hgx) (sE_rg hb) i0 hi1 j0 hj1 (fun r hg => ?_)
              have hq := q1.tr (pX_psh (s := s1) (n := (bkM m).nt) (r := r))
              exact x_clash hb (hq.rxb hr) (hk _ hq _ (by rw [psh_r]; exact frP_r hb hg))
            have refT : ∀ (M : MS) (K1 : Int → MS → Prop), wM (ms m 0 0) M → (∀ m', wM (ms m 0 0) m' → ∀ v, (v = -2 ↔ frP (bkM m) i j) → K1 v m') → C_closesWith i j M (fun s7 => C_clashIn 44 s7 (fun r13 s10 => K1 r13 s10)) := by
              intro M K1 q1 hk
              refine c_closesWith (m := ms m 0 0) hb q1 i0 hi1 j0 hj1 (fun r M' hw hg => ?_)
              have hb' := hw.ag.ok hb
              refine c_clashIn ⟨rfl, rfl⟩ hb' (hk _ hw _ ?_)
              have ed : (bkM (maR M' 44 r)).nd = (bkM m).nd := by
                show (maR M' 44 r).1 33 = m.1 33
                rw [hw.1]; rfl
              have ea : (bkM (maR M' 44 r)).da = (bkM m).da := hw.2.1 34 (by decide) (by decide) (by decide)
              have eb : (bkM (maR M' 44 r)).db = (bkM m).db := hw.2.1 35 (by decide) (by decide) (by decide)
              rw [ed, ea, eb, maR_at]
              exact frP_r hb hg
            by_cases hf : frP (bkM m) i j
            · obtain ⟨v, v1, v2⟩ := ihe (j + 1) (acc + 1) (by omega) (by omega) (by omega) (by omega)
              refine ⟨v, fun s1 q1 q2 => h16 _ _ _ _ (x_terms ?_), fun Y9 Y21 K M g9 g21 q1 q2 => g21 _ _ _ _ ?_⟩
              · rw [q1.1, ex]
                refine ⟨fun q => by omega, fun _ => x_areOne ⟨i0, by omega⟩ ⟨j0, by omega⟩ (fun g => absurd ?_ hone) (fun g => ⟨fun _ => sysT s1 _ q1 (fun s' q3 w hw => ⟨fun _ => ⟨inI_s (by omega), inI_s (by omega), v1 s' q3 q2⟩, fun q => absurd (hw.mpr hf) q⟩), fun q => absurd rfl q⟩)⟩
                rw [q1.2 4 (by decide), hR i i0 hi1, hR j j0 hj1] at g; exact g
              · unfold B_free_21
                have e27 : M.1 27 = m.1 27 := by rw [q1.1]; rfl
                have e36 : M.2 36 = m.2 36 := q1.2.1 36 (by decide) (by decide) (by decide)
                rw [e27, e36]
                exact ⟨fun q => by omega, fun _ => ⟨⟨i0, by omega⟩, ⟨j0, by omega⟩, fun q => absurd q hone, fun _ => refT M _ q1 (fun m' q3 w hw => ⟨fun _ => ⟨inI_s (by omega), inI_s (by omega), v2 Y9 Y21 K m' g9 g21 q3 q2⟩, fun q => absurd (hw.mpr hf) q⟩)⟩⟩
            · obtain ⟨v, v1, v2⟩ := ihe (j + 1) acc (by omega) (by omega) (by omega) (by omega)
              refine ⟨v, fun s1 q1 q2 => h16 _ _ _ _ (x_terms ?_), fun Y9 Y21 K M g9 g21 q1 q2 => g21 _ _ _ _ ?_⟩
              · rw [q1.1, ex]
                refine ⟨fun q => by omega, fun _ => x_areOne ⟨i0, by omega⟩ ⟨j0, by omega⟩ (fun g => absurd ?_ hone) (fun g => ⟨fun _ => sysT s1 _ q1 (fun s' q3 w hw => ⟨fun q => absurd (hw.mp q) hf, fun _ => ⟨inI_s (by omega), v1 s' q3 q2⟩⟩), fun q => absurd rfl q⟩)⟩
                rw [q1.2 4 (by decide), hR i i0 hi1, hR j j0 hj1] at g; exact g
              · unfold B_free_21
                have e27 : M.1 27 = m.1 27 := by rw [q1.1]; rfl
                have e36 : M.2 36 = m.2 36 := q1.2.1 36 (by decide) (by decide) (by decide)
                rw [e27, e36]
                exact ⟨fun q => by omega, fun _ => ⟨⟨i0, by omega⟩, ⟨j0, by omega⟩, fun q => absurd q hone, fun _ => refT M _ q1 (fun m' q3 w hw => ⟨fun q => absurd (hw.mp q) hf, fun _ => ⟨inI_s (by omega), inI_s (by omega), by rw [Int.add_zero]; exact v2 Y9 Y21 K m' g9 g21 q3 q2⟩⟩)⟩⟩
      obtain ⟨v, v1, v2⟩ := inner (m.1 27 - (i + 1)).toNat (i + 1) acc (by omega) (by omega) ac0 (by omega)
      refine ⟨v, fun s1 q1 q2 => h4 _ _ _ (x_terms ?_), fun Y9 Y21 K M g9 g21 q1 q2 => g9 _ _ _ ?_⟩
      · rw [q1.1, ex]
        exact ⟨fun q => by omega, fun _ => ⟨inI_s (by omega), v1 s1 q1 q2⟩⟩
      · unfold B_free_9
        have e27 : M.1 27 = m.1 27 := by rw [q1.1]; rfl
        rw [e27]
        exact ⟨fun q => by omega, fun _ => ⟨inI_s (by omega), v2 Y9 Y21 K M g9 g21 q1 q2⟩⟩
  obtain ⟨v, v1, v2⟩ := outer (m.1 27).toNat 0 0 (Int.le_refl _) (by omega) (Int.le_refl _) (by omega)
  refine v1 s pX.rf (fun s' q Y9 Y21 g9 g21 => ?_)
  rintro _ rfl
  exact v2 Y9 Y21 _ (ms m 0 0) g9 g21 wM.rf (fun m' q2 => ⟨rfl, hK _ _ q.x (eqM_0.tr q2.m) (by
    unfold JT at hT ⊢
    rw [q.1, q2.1]; exact hT)⟩)
