/-! THE PURE PART, 58: named -/
set_option maxRecDepth 100000
theorem x_namedO {a : Int} {s : XS} {K : Int → Prop} {KX : Prop} (hin : ¬ (0 ≤ a ∧ a ≤ s.1.1 3)) (hk : KX) : C_X1_named a s K KX := by
  intro X2 X41 X110 hX2 hX41 hX110
  have h3 : X110 a 0 0 := hX110 _ _ _ (x_isIn (fun q => absurd q hin) (fun _ => ⟨fun _ => ⟨fun _ => ⟨fun _ => hk, fun q => absurd rfl q⟩, fun _ => hk⟩, fun q => absurd rfl q⟩))
  have h2 : X41 a 0 0 0 := hX41 _ _ _ _ (x_isIn (fun q => absurd q hin) (fun _ => ⟨fun _ => h3, fun q => absurd rfl q⟩))
  exact hX2 _ _ (x_isIn (fun q => absurd q hin) (fun _ => ⟨fun _ => h2, fun q => absurd rfl q⟩))
theorem p_named {n : Nat} {a : Int → Int} {s : XS} {m : MS} (hJ : J (n + 1) s m) : C_law_35 a s m (J n) := by
  have hK : keepsW s m (J n) := fun s' m' h1 h2 h3 => J_down (J_keeps hJ s' m' h1 h2 h3)
  obtain ⟨jt, -, ⟨⟨a1, a2⟩, a3, a4, a5⟩, -, -, -, ⟨d1, d2, d3⟩, ⟨p1, p2, p3⟩⟩ := hJ
  have hKJ := hK.x a5.2.2.2.2.2.1
  obtain ⟨hb, hr⟩ := a5.b
  have h24 : 0 ≤ m.1 27 ∧ m.1 27 ≤ 24 := hb.nt
  have ex : s.1.1 31 = m.1 27 := hr.1.2.1
  have y2 : m.1 27 ≤ s.1.1 41 := hr.2.1.2.1
  have e27 : m.1 27 = (zM m (m.1 8)).1.1 27 := a5.2.1.1.2.1
  have hf := nilZ_full (nf := m.1 6) (tk := tkM m) ⟨a3.1, fun f f0 f1 => by unfold tkM; rw [if_pos ⟨f0, f1⟩]; exact a3.2 f f0 f1⟩
  have h26 : 0 ≤ m.1 26 ∧ m.1 26 ≤ m.1 27 := by
    have hk := runZ_mono hf (m.1 8).toNat (m.1 9).toNat (by omega) a4
    have hk1 : (zM m (m.1 9)).1.1 27 ≤ (zM m (m.1 8)).1.1 27 := hk.1
    have hz := runZ_full hf (m.1 9).toNat (fun j hj => a4 j (by omega))
    have h0 : 0 ≤ (zM m (m.1 9)).1.1 27 := hz.1.ok.nt.1
    omega
  have hN1 : J n s (ms m 0 0) := hKJ _ _ eqX.rf eqM_0 jt
  have hN2 : J n s (ms (ms m 0 0) 0 1) := hKJ _ _ eqX.rf (eqM_0.tr ⟨fun k h => ms_n (by unfold mscI at h; omega), fun _ _ _ _ => rfl, fun _ _ _ => ⟨rfl, rfl⟩⟩) jt
  unfold C_law_35
  by_cases hin : 0 ≤ a 1 ∧ a 1 ≤ m.1 5
  · obtain ⟨p, e, ⟨⟨q1, q2, q3⟩, q4, q5, q6, q7⟩, hc⟩ := c_namedR (a := a 1) (n := a 1) (m := m) ⟨hin.1, by omega⟩ ⟨h26.1, by omega⟩ ⟨fun _ => rfl, fun q => absurd hin q⟩
    obtain ⟨q, ⟨u0, u1⟩, u2, u3⟩ := firstP (P := fun i => isLet (m.2 4 i)) (n := a 1) (a 1 - p).toNat p (by omega) (by omega)
    obtain ⟨r, ⟨w0, w1⟩, w2, w3⟩ := firstP (P := fun i => m.2 4 i = 32) (n := a 1) (a 1 - q).toNat q u1 (by omega)
    refine x_namedR (p := p) (q := q) (r := r) (t := m.2 4) (by rw [p1]; exact hin) (by omega) p3 ⟨q1, u0, w0, w1⟩ q4 q5 u2 (fun h => u3.resolve_left (by omega)) w2 (fun h => w3.resolve_left (by omega)) ⟨fun hra hg => ?_, fun hng => ?_⟩
    · -- a word stands there alone
      have hl1 := u2 (q - 1) (by omega) (by omega)
      have eq : e = q := by
        unfold isLet at hl1
        by_cases c : e < q
        · have := q6 (q - 1) (by omega) (by omega); omega
        · by_cases c2 : q < e
          · exact absurd (w2 (e - 1) (by omega) (by omega)) (q7 (by omega))
          · omega
      have hw : isWd (m.2 4) p q (pkN (fun k => m.2 4 (p + k)) (q - p).toNat) := ⟨⟨hg.1, hg.2⟩, u2, rfl⟩
      have wn0 : pkN (fun k => m.2 4 (p + k)) (q - p).toNat ≠ 0 := by
        obtain ⟨n', hn'⟩ : ∃ n', (q - p).toNat = n' + 1 := ⟨(q - p).toNat - 1, by omega⟩
        rw [hn']
        have e1 := (pkN_b (l := fun k => m.2 4 (p + k)) n' (fun k k0 k1 => by
          have := u2 (p + k) (by omega) (by omega)
          unfold isLet at this
          constructor <;> omega)).1
        have e2 := u2 (p + (n' : Int)) (by omega) (by omega)
        unfold isLet at e2
        show pkN _ n' * 256 + m.2 4 (p + (n' : Int)) ≠ 0
        omega
      obtain ⟨v, hv⟩ := isFirst_ex (P := fun k => s.1.2 32 k = pkN (fun k => m.2 4 (p + k)) (q - p).toNat) (n := m.1 26) h26.1
      have hv2 : isFirst (fun k => s.1.2 32 k = pkN (fun k => m.2 4 (p + k)) (q - p).toNat) (s.1.1 31) v := by
        rcases hv with ⟨g1, g2⟩ | ⟨g1, g2, g3⟩
        · refine Or.inl ⟨g1, fun k k0 k1 => ?_⟩
          by_cases c : k < m.1 26
          · exact g2 k k0 c
          · exact fun h => wn0 (h.symm.trans (d3 k (by omega) (by omega)))
        · exact Or.inr ⟨⟨g1.1, by omega⟩, g2, g3⟩
      have hv3 : isFirst (fun k => atP (ms m 0 0) 12 (6 * k) p e) (m.1 26) v := isFirst_iff (fun k k0 k1 => by
        rw [eq]
        exact (name_eq (m := ms m 0 0) (d2 k k0 k1) hw).symm) hv
      refine x2_termX (by omega) hr.2.2.1.2.1 (by omega) hv2 ⟨fun g => hc v _ hv3 (fun _ g2 => absurd g g2) (fun _ => ⟨rfl, hN2⟩), fun g => hc v _ hv3 (fun _ _ => ⟨rfl, rfl, hN1⟩) (fun g2 => absurd ⟨by omega, g⟩ g2)⟩
    · -- no word stands there alone
      refine hc (-1) _ (Or.inl ⟨rfl, fun k k0 k1 hat => hng ?_⟩) (fun _ g => absurd rfl g) (fun _ => ⟨rfl, hN2⟩)
      obtain ⟨l, l6, l0, l1, l2, l3⟩ := d2 k k0 k1
      have l1 : ∀ i, 0 ≤ i → i < (l : Int) → 97 ≤ m.2 12 (6 * k + i) ∧ m.2 12 (6 * k + i) ≤ 122 := l1
      have l2 : ∀ i, (l : Int) ≤ i → i < 6 → m.2 12 (6 * k + i) = 0 := l2
      obtain ⟨t1, t2⟩ := hat
      have t1 : ∀ i, 0 ≤ i → i < 6 → m.2 12 (6 * k + i) = letA (m.2 4) p e i ∧ (p + i < e → m.2 4 (p + i) ≠ 0) := t1
      have hpe : p < e := by
        by_cases c : p < e
        · exact c
        · have h1 := (t1 0 (by omega) (by omega)).1
          unfold letA at h1
          rw [if_neg (by omega)] at h1
          have := l1 0 (by omega) (by omega)
          omega
      have hlet : ∀ i, p ≤ i → i < e → isLet (m.2 4 i) := fun i i0 i1 => by
        obtain ⟨h1, h2⟩ := t1 (i - p) (by omega) (by omega)
        unfold letA at h1
        rw [if_pos (by omega)] at h1
        have h2 := h2 (by omega)
        rw [show p + (i - p) = i by omega] at h1 h2
        by_cases c : i - p < (l : Int)
        · have := l1 (i - p) (by omega) c
          unfold isLet
          omega
        · have := l2 (i - p) (by omega) (by omega)
          omega
      have hqe : q = e := by
        by_cases c : q < e
        · rcases u3 with h | h
          · omega
          · exact absurd (hlet q u0 c) h
        · by_cases c2 : e < q
          · have h1 := u2 e (by omega) c2
            have h2 := q6 e (by omega) (by omega)
            unfold isLet at h1
            omega
          · omega
      refine ⟨?_, by omega, by omega⟩
      rcases w3 with h | h
      · exact h
      · by_cases c : r < a 1
        · exact absurd (q6 r (by omega) c) h
        · omega
  · refine x_namedO (by rw [p1]; exact hin) ?_
    obtain ⟨p, e, ⟨⟨q1, q2, q3⟩, -⟩, hc⟩ := c_namedR (a := a 1) (n := 0) (m := m) ⟨by omega, by omega⟩ ⟨h26.1, by omega⟩ ⟨fun q => absurd q hin, fun _ => rfl⟩
    obtain ⟨v, hv⟩ := isFirst_ex (P := fun k => atP (ms m 0 0) 12 (6 * k) p e) (n := m.1 26) h26.1
    exact hc v _ hv (fun q => by omega) (fun _ => ⟨rfl, hN2⟩)
