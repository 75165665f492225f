/-! THE PURE PART, 49: texts: the reference takes over what is read -/
set_option maxRecDepth 100000
def cpf (f : Int → Int) (b k : Int) : Int → Int := fun i => if 0 ≤ i ∧ i < k then f (b + i) else f i
theorem cpf_0 {f : Int → Int} {b : Int} : cpf f b 0 = f := funext fun i => if_neg (by omega)
theorem cpf_s {f : Int → Int} {b k : Int} (k0 : 0 ≤ k) : iup (cpf f b k) k (f (b + k)) = cpf f b (k + 1) := by
  funext i
  unfold cpf
  by_cases e : i = k
  · rw [e, iup_at, if_pos (by omega)]
  · rw [iup_ne e]
    by_cases q : 0 ≤ i ∧ i < k
    · rw [if_pos q, if_pos (by omega)]
    · rw [if_neg q, if_neg (by omega)]
theorem cpf_o {f : Int → Int} {b k i : Int} (h : k ≤ i) : cpf f b k i = f i := if_neg (by omega)
theorem cpf_i {f : Int → Int} {b k i : Int} (h : 0 ≤ i ∧ i < k) : cpf f b k i = f (b + i) := if_pos h
/-- the reference with what is read taken over -/
def cpM (m : MS) : MS := maR (ms (maR (maR (ms (ms (maR (ms m 6 (m.1 20)) 7 (cpf (m.2 7) 8 (m.1 20))) 8 (m.1 24)) 9 (m.1 24)) 10 (cpf (m.2 10) 48 (m.1 24))) 11 (cpf (m.2 11) 192 (4 * m.1 24))) 26 (m.1 21)) 12 (cpf (m.2 12) 144 144)
theorem c_copies {m : MS} {X76 X123 X198 : Int → MS → Prop} {X148 : Int → Int → MS → Prop} {K : Int → MS → Prop} (h76 : ∀ (x2 : Int) (s0 : MS), B_text_76 X76 X123 X148 X198 K x2 s0 → X76 x2 s0) (h123 : ∀ (x2 : Int) (s0 : MS), B_text_123 X76 X123 X148 X198 K x2 s0 → X123 x2 s0) (h148 : ∀ (x2 x3 : Int) (s0 : MS), B_text_148 X76 X123 X148 X198 K x2 x3 s0 → X148 x2 x3 s0) (h198 : ∀ (x2 : Int) (s0 : MS), B_text_198 X76 X123 X148 X198 K x2 s0 → X198 x2 s0) (hf : 0 ≤ m.1 20 ∧ m.1 20 ≤ 8) (hr : 0 ≤ m.1 24 ∧ m.1 24 ≤ 44) (hK : C_makes (cpM m) (fun s2 => K (s2.1 27) s2)) : X76 0 (ms m 6 (m.1 20)) := by
  -- names
  have L198 : ∀ (M : MS), M.2 12 = m.2 12 → C_makes (maR M 12 (cpf (m.2 12) 144 144)) (fun s2 => K (s2.1 27) s2) → X198 0 M := by
    intro M hM hk
    have L : ∀ k, 0 ≤ k → k ≤ 144 → X198 k (maR M 12 (cpf (m.2 12) 144 k)) := by
      refine upto (fun k k0 k1 ih => h198 _ _ ⟨fun e => ?_, fun e => ⟨inI_s (by omega), ⟨by omega, by omega⟩, ⟨by omega, by omega⟩, ?_⟩⟩)
      · rw [show k = 144 by omega]; exact hk
      · rintro _ rfl
        have e1 : (maR M 12 (cpf (m.2 12) 144 k)).2 12 (144 + k) = m.2 12 (144 + k) := by rw [maR_at, cpf_o (by omega)]
        rw [e1, ma_maR, cpf_s k0]
        exact ⟨inI_s (by omega), ih (by omega)⟩
    have := L 0 (Int.le_refl _) (by decide)
    rw [cpf_0, ← hM, maR_id] at this
    exact this
  -- rows
  have L123 : ∀ (M : MS), M.1 8 = m.1 24 → M.2 10 = m.2 10 → M.2 11 = m.2 11 → X198 0 (ms (maR (maR M 10 (cpf (m.2 10) 48 (m.1 24))) 11 (cpf (m.2 11) 192 (4 * m.1 24))) 26 (M.1 21)) → X123 0 M := by
    intro M h8 h10 h11 hk
    have L : ∀ k, 0 ≤ k → k ≤ m.1 24 → X123 k (maR (maR M 10 (cpf (m.2 10) 48 k)) 11 (cpf (m.2 11) 192 (4 * k))) := by
      refine upto (fun k k0 k1 ih => h123 _ _ ⟨fun e => ?_, fun e => ⟨inI_s (by omega), ⟨by omega, by omega⟩, ⟨by omega, by omega⟩, ?_⟩⟩)
      · rintro _ rfl
        have e : M.1 8 ≤ k := e
        rw [show k = m.1 24 by omega]; exact hk
      · have e : ¬ M.1 8 ≤ k := e
        rintro _ rfl
        have e1 : (maR (maR M 10 (cpf (m.2 10) 48 k)) 11 (cpf (m.2 11) 192 (4 * k))).2 10 (48 + k) = m.2 10 (48 + k) := by rw [maR_ne (by decide), maR_at, cpf_o (by omega)]
        have e2 : ma (maR (maR M 10 (cpf (m.2 10) 48 k)) 11 (cpf (m.2 11) 192 (4 * k))) 10 k (m.2 10 (48 + k)) = maR (maR M 10 (cpf (m.2 10) 48 (k + 1))) 11 (cpf (m.2 11) 192 (4 * k)) := by
          refine Prod.ext rfl (funext fun j => ?_)
          have q10 : (maR (maR M 10 (cpf (m.2 10) 48 k)) 11 (cpf (m.2 11) 192 (4 * k))).2 10 = cpf (m.2 10) 48 k := by rw [maR_ne (by decide), maR_at]
          show (if j = 10 then iup ((maR (maR M 10 (cpf (m.2 10) 48 k)) 11 (cpf (m.2 11) 192 (4 * k))).2 10) k (m.2 10 (48 + k)) else if j = 11 then cpf (m.2 11) 192 (4 * k) else if j = 10 then cpf (m.2 10) 48 k else M.2 j) = (if j = 11 then cpf (m.2 11) 192 (4 * k) else if j = 10 then cpf (m.2 10) 48 (k + 1) else M.2 j)
          rw [q10]
          by_cases q : j = 10
          · rw [if_pos q, if_neg (by omega : ¬ j = 11), if_pos q, cpf_s k0]
          · rw [if_neg q, if_neg q, if_neg q]
        rw [e1, e2]
        have L4 : ∀ i, 0 ≤ i → i ≤ 4 → X148 k i (maR (maR M 10 (cpf (m.2 10) 48 (k + 1))) 11 (cpf (m.2 11) 192 (4 * k + i))) := by
          refine upto (fun i i0 i1 ih4 => h148 _ _ _ ⟨fun q => ?_, fun q => ⟨inI_s (by omega), inI_s (by omega), inI_s (by omega), inI_s (by omega), inI_s (by omega), ⟨by omega, by omega⟩, ⟨by omega, by omega⟩, ?_⟩⟩)
          · have := ih (by omega)
            rw [show 4 * (k + 1) = 4 * k + i by omega] at this
            exact ⟨inI_s (by omega), this⟩
          · rintro _ rfl
            have e3 : (maR (maR M 10 (cpf (m.2 10) 48 (k + 1))) 11 (cpf (m.2 11) 192 (4 * k + i))).2 11 (4 * (48 + k) + i) = m.2 11 (192 + (4 * k + i)) := by rw [maR_at, cpf_o (by omega), show 4 * (48 + k) + i = 192 + (4 * k + i) by omega]
            rw [e3, ma_maR, cpf_s (by omega)]
            have := ih4 (by omega)
            rw [show 4 * k + (i + 1) = 4 * k + i + 1 by omega] at this
            exact ⟨inI_s (by omega), this⟩
        have := L4 0 (by decide) (by decide)
        rw [show 4 * k + 0 = 4 * k by omega] at this
        exact this
    have := L 0 (Int.le_refl _) hr.1
    rw [cpf_0, show 4 * (0 : Int) = 0 from rfl, cpf_0, ← h10, maR_id, ← h11, maR_id] at this
    exact this
  have L76 : ∀ k, 0 ≤ k → k ≤ m.1 20 → X76 k (maR (ms m 6 (m.1 20)) 7 (cpf (m.2 7) 8 k)) := by
    refine upto (fun k k0 k1 ih => h76 _ _ ⟨fun e => ?_, fun e => ?_⟩)
    · have e : m.1 20 ≤ k := e
      rintro _ rfl _ rfl
      rw [show k = m.1 20 by omega]
      exact L123 _ rfl rfl rfl (L198 _ rfl hK)
    · have e : ¬ m.1 20 ≤ k := e
      refine ⟨inI_s (by omega), ⟨by omega, by omega⟩, ⟨by omega, by omega⟩, ?_⟩
      rintro _ rfl
      have e1 : (maR (ms m 6 (m.1 20)) 7 (cpf (m.2 7) 8 k)).2 7 (8 + k) = m.2 7 (8 + k) := by rw [maR_at, cpf_o (by omega)]
      rw [e1, ma_maR, cpf_s k0]
      exact ⟨inI_s (by omega), ih (by omega)⟩
  have := L76 0 (Int.le_refl _) hf.1
  rw [cpf_0, show m.2 7 = (ms m 6 (m.1 20)).2 7 from rfl, maR_id] at this
  exact this
