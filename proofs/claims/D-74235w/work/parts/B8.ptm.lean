/-! THE PURE PART, 55: height, term -/
set_option maxRecDepth 100000
theorem JZ.hung {s : XS} {m : MS} {z : ZS} (h : JZ s m z) : (∀ t, 0 ≤ t → t < m.1 27 → (s.2 4).2 5 t = cv (m.2 37 t) ∧ (m.2 37 t ≠ -2 → 0 ≤ m.2 37 t ∧ m.2 37 t < m.1 27)) ∧ ∃ dep, isDep (m.1 27) (m.2 37) dep := by
  obtain ⟨h1, h2, h3, h4, h5, h6, h7⟩ := h
  have h24 : 0 ≤ z.1.1 27 ∧ z.1.1 27 ≤ 24 := h1.1.ok.nt
  have e27 : m.1 27 = z.1.1 27 := h2.1.2.1
  have hFO := h1.1.fo
  have e37 : ∀ t, 0 ≤ t → t < m.1 27 → m.2 37 t = z.1.2 37 t := fun t t0 t1 => (h3.2.1 t t0 (by omega)).2.1
  have hr : ∀ t, 0 ≤ t → t < m.1 27 → m.2 37 t ≠ -2 → 0 ≤ m.2 37 t ∧ m.2 37 t < m.1 27 := fun t t0 t1 q => by
    rw [e37 t t0 t1] at q ⊢
    rw [e27]
    exact (hFO.2.1 t t0 (by omega) q).1
  refine ⟨fun t t0 t1 => ⟨?_, hr t t0 t1⟩, ?_⟩
  · rw [e37 t t0 t1]; exact (h5.2.1.1 t t0 (by omega)).2.1
  · obtain ⟨dep, hd⟩ := FO_dep h24.2 hFO
    refine ⟨dep, fun t t0 t1 => ?_⟩
    rw [e27] at t1
    have := hd t t0 t1
    rw [e37 t t0 (by omega), e27]; exact this
theorem p_height {a : Int → Int} {s : XS} {m : MS} {z : ZS} {KN : XS → MS → Prop} (hJ : JZ s m z) (hK : keepsJ s m KN) : C_law_11 a s m KN := by
  obtain ⟨hu, dep, hd⟩ := hJ.hung
  obtain ⟨hb, hr⟩ := hJ.b
  have h24 : 0 ≤ m.1 27 ∧ m.1 27 ≤ 24 := hb.nt
  have ex : s.1.1 31 = m.1 27 := hr.1.2.1
  intro X hX
  refine x_isTerm1 (by omega) (fun h => ⟨fun q => absurd q (by decide), fun _ => ?_⟩) (fun h => ⟨fun _ => x_refused ?_, fun q => absurd rfl q⟩)
  · rw [ex] at h
    have hda := (hd (a 1) h.1 h.2).1
    have L : ∀ (k : Nat) (c x : Int), 0 ≤ x → x < m.1 27 → 0 ≤ c → dep x < k → c + dep x = dep (a 1) → X c x s := by
      intro k
      induction k with
      | zero => intro c x x0 x1 c0 hk _; have := (hd x x0 x1).1; omega
      | succ k ih =>
        intro c x x0 x1 c0 hk he
        have hdx := hd x x0 x1
        have hux := hu x x0 x1
        refine hX _ _ _ ⟨⟨x0, by omega⟩, fun q => x_fine ?_, fun q => ?_⟩
        · rw [hux.1] at q
          have e2 : m.2 37 x = -2 := by
            by_cases e : m.2 37 x = -2
            · exact e
            · unfold cv at q
              rw [if_neg e] at q
              have := hux.2 e; omega
          have := hdx.2.1 e2
          refine c_isTerm h24 (fun _ => r_yes (c_depthOf (m := mref m 0) h24.2 (fun t _ _ => rfl) (fun t t0 t1 q => (hu t t0 t1).2 q) hd h.1 h.2 (p_ok hK (by omega)))) (fun q => absurd h q)
        · have e2 : m.2 37 x ≠ -2 := fun e => q (by rw [hux.1, e]; rfl)
          have e3 : (s.2 4).2 5 x = m.2 37 x := by rw [hux.1]; unfold cv; rw [if_neg e2]
          rw [e3]
          have h1 := hux.2 e2
          have h2 := hdx.2.2 e2
          have := (hd _ h1.1 h1.2).1
          exact ⟨inI_s (by omega), ⟨x0, by omega⟩, ih (c + 1) (m.2 37 x) h1.1 h1.2 (by omega) (by omega) (by omega)⟩
    exact L (dep (a 1)).toNat.succ 0 (a 1) h.1 h.2 (Int.le_refl _) (by omega) (by omega)
  · rw [ex] at h
    exact c_isTerm h24 (fun q => absurd q h) (fun _ => r_no (p_no hK (by decide)))
