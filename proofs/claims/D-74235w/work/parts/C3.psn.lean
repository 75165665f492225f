/-! THE PURE PART, 60: since -/
set_option maxRecDepth 100000
theorem JZ.good {s : XS} {m : MS} {z : ZS} (h : JZ s m z) : good (bkM m) (bkM m).nt (sE (bkM m)) (m.2 36) := by
  obtain ⟨h1, h2, h3, -⟩ := h
  have hbz := h1.1.ok
  have hb := h2.ok hbz
  have e27 : m.1 27 = z.1.1 27 := h2.1.2.1
  have e30 : m.1 30 = z.1.1 30 := h2.1.2.2.1
  have hE : ∀ x y, sE (bkM z.1) x y ↔ sE (bkM m) x y := fun x y => by
    constructor
    · rintro ⟨k, k0, k1, a, b⟩
      have k1 : k < z.1.1 30 := k1
      have hk := h2.2.2.2.1 k k0 k1
      exact ⟨k, k0, show k < m.1 30 by omega, a.trans hk.1.symm, b.trans hk.2.symm⟩
    · rintro ⟨k, k0, k1, a, b⟩
      have k1 : k < m.1 30 := k1
      have hk := h2.2.2.2.1 k k0 (by omega)
      exact ⟨k, k0, show k < z.1.1 30 by omega, a.trans hk.1, b.trans hk.2⟩
  have hg := good_E hE (good_ag h2 hbz (Int.le_refl _) h1.good)
  have en : (bkM m).nt = (bkM z.1).nt := e27
  have hnz : (bkM z.1).nt = z.1.1 27 := rfl
  have hr : ∀ i, 0 ≤ i → i < (bkM z.1).nt → m.2 36 i = z.1.2 36 i := fun i i0 i1 => (h3.2.1 i i0 i1).1
  rw [en]
  refine ⟨lr_congr hr hg.lr, sound_congr hr hg.sound, fun t u e => ?_, closed_congr hb (by rw [en]; exact Int.le_refl _) hr hg.closed⟩
  have h0 := hg.has t u e
  obtain ⟨k, k0, k1, ea, eb⟩ := e
  have ha := hb.sa k k0 k1
  have hb' := hb.sb k k0 k1
  rw [hr t (by omega) (by omega), hr u (by omega) (by omega)]; exact h0
theorem ES_all {b : PB} (hb : b.ok) {S : Int} (h : ∀ k, 0 ≤ k → k < b.ns → bit S k) (t u : Int) : ES b S t u ↔ sE b t u :=
  ⟨fun ⟨k, k0, k1, _, e⟩ => ⟨k, k0, k1, e⟩, fun ⟨k, k0, k1, e⟩ => ⟨k, k0, k1, h k k0 k1, e⟩⟩
theorem one_every {m : MS} {t u : Int} (hb : (bkM m).ok) (hg : good (bkM m) (bkM m).nt (sE (bkM m)) (m.2 36)) (hv : (0 ≤ t ∧ t < m.1 27) ∧ 0 ≤ u ∧ u < m.1 27) (he : m.2 36 t = m.2 36 u) : oneBy (bkM m) (jshl 1 (m.1 30) - 1) t u := by
  have h12 : 0 ≤ m.1 30 ∧ m.1 30 ≤ 12 := hb.ns
  have hg' := good_E (fun x y => (ES_all hb (S := jshl 1 (m.1 30) - 1) (fun k k0 k1 => (bit_every h12.1 (by omega) k0 (by have : k < m.1 30 := k1; omega)).mpr k1) x y).symm) hg
  exact (good_one hg' hv.1.1 hv.1.2 hv.2.1 hv.2.2).mp he
theorem below_le2 {S n n' : Int} (h : below S n) (hn : n ≤ n') : below S n' := fun i i0 i1 hi => by have := h i i0 i1 hi; omega
theorem p_since {a : Int → Int} {s : XS} {m : MS} {z : ZS} {KN : XS → MS → Prop} (hJ : JZ s m z) (hE : JE s m) (hK : keepsJ s m KN) : C_law_19 a s m KN := by
  have hB0 := hJ.b
  have hN := hJ.n
  have hgd := hJ.good
  obtain ⟨hb, hr⟩ := hJ.b
  have h24 : 0 ≤ m.1 27 ∧ m.1 27 ≤ 24 := hb.nt
  have h12 : 0 ≤ m.1 30 ∧ m.1 30 ≤ 12 := hb.ns
  intro X20 hX
  refine p_ask hB0 hN hK (F := C_since (a 1) (a 2) m) (fun K w hw hk X17 h17 => c_whyN h24 hw hk) (fun hv he => ?_)
  have hall := one_every hb hgd hv he
  have hlp : ∀ (d : Nat) (k : Int), 0 ≤ k → k + d = m.1 30 → ∃ v, (∀ s1, pX s s1 → (∀ s', pX s s' → C_since (a 1) (a 2) m (fun r' m' => v = r' ∧ KN (xfin s') m')) → X20 (a 1) (a 2) k s1) ∧ ∀ (X17 : Int → Int → Int → MS → Prop) (K : Int → MS → Prop) (M : MS), (∀ x1 x2 x3 s0, B_since_17 X17 K x1 x2 x3 s0 → X17 x1 x2 x3 s0) → pM (mref m 0) M → (∀ m', pM (mref m 0) m' → K v m') → X17 (a 1) (a 2) k M := by
    intro d
    induction d with
    | zero =>
      intro k k0 hk
      have ek : k = m.1 30 := by omega
      have hev := every_b k0 (show k < 14 by omega)
      refine ⟨k, fun s1 q1 q2 => hX _ _ _ _ ⟨inI_s (by omega), x_one hb hr hE q1 hv.1.1 hv.1.2 hv.2.1 hv.2.2 (fun _ s' q3 => ⟨fun q => absurd q (by decide), fun _ => x_fine (q2 s' q3)⟩) (fun q => absurd (by rw [ek]; exact hall) q)⟩, fun X17 K M h17 q1 q2 => h17 _ _ _ _ ⟨inI_s (by omega), c_one (m0 := mref m 0) hb q1 (by rw [ek]; exact below_every h12.1 (by omega)) hv.1.1 hv.1.2 hv.2.1 hv.2.2 (fun _ m' q3 => ⟨fun q => absurd q (by decide), fun _ => q2 m' q3⟩) (fun q => absurd (by rw [ek]; exact hall) q)⟩⟩
    | succ d ih =>
      intro k k0 hk
      have hev := every_b k0 (show k < 14 by omega)
      have hS : below (jshl 1 k - 1) (bkM (mref m 0)).ns := below_le2 (below_every k0 (by omega)) (show k ≤ m.1 30 by omega)
      by_cases ho : oneBy (bkM m) (jshl 1 k - 1) (a 1) (a 2)
      · exact ⟨k, fun s1 q1 q2 => hX _ _ _ _ ⟨inI_s (by omega), x_one hb hr hE q1 hv.1.1 hv.1.2 hv.2.1 hv.2.2 (fun _ s' q3 => ⟨fun q => absurd q (by decide), fun _ => x_fine (q2 s' q3)⟩) (fun q => absurd ho q)⟩, fun X17 K M h17 q1 q2 => h17 _ _ _ _ ⟨inI_s (by omega), c_one (m0 := mref m 0) hb q1 hS hv.1.1 hv.1.2 hv.2.1 hv.2.2 (fun _ m' q3 => ⟨fun q => absurd q (by decide), fun _ => q2 m' q3⟩) (fun q => absurd ho q)⟩⟩
      · obtain ⟨v, v1, v2⟩ := ih (k + 1) (by omega) (by omega)
        exact ⟨v, fun s1 q1 q2 => hX _ _ _ _ ⟨inI_s (by omega), x_one hb hr hE q1 hv.1.1 hv.1.2 hv.2.1 hv.2.2 (fun q => absurd q ho) (fun _ s' q3 => ⟨fun _ => ⟨inI_s (by omega), v1 s' q3 q2⟩, fun q => absurd rfl q⟩)⟩, fun X17 K M h17 q1 q2 => h17 _ _ _ _ ⟨inI_s (by omega), c_one (m0 := mref m 0) hb q1 hS hv.1.1 hv.1.2 hv.2.1 hv.2.2 (fun q => absurd q ho) (fun _ m' q3 => ⟨fun _ => ⟨inI_s (by omega), v2 X17 K m' h17 q3 q2⟩, fun q => absurd rfl q⟩)⟩⟩
  obtain ⟨v, v1, v2⟩ := hlp (m.1 30).toNat 0 (Int.le_refl _) (by omega)
  exact v1 s pX.rf (fun s' q X17 h17 => c_why_yes h24 hv he (v2 X17 _ (mref m 0) h17 pM.rf (fun m' q2 => p_fin hK q q2)))
