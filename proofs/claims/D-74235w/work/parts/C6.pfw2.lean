/-! THE PURE PART, 63: the fewest, the core -/
set_option maxRecDepth 100000
theorem jshl_4096 {ns : Int} (hns : 0 ≤ ns ∧ ns ≤ 12) : 1 ≤ jshl 1 ns ∧ jshl 1 ns ≤ 4096 := by
  have hev := every_is hns.1 (show ns < 14 by omega)
  have hb := every_b hns.1 (show ns < 14 by omega)
  refine ⟨hb.1, ?_⟩
  rw [hev]
  have : (2 : Int) ^ ns.toNat ≤ 2 ^ 12 := by
    have hle : ns.toNat ≤ 12 := by omega
    have := Nat.pow_le_pow_right (show 0 < 2 by decide) hle
    exact_mod_cast this
  have e : (2 : Int) ^ 12 = 4096 := by decide
  omega
theorem x_lamF {t u : Int} {s : XS} {K : Int → Prop} (h : C_X3_areOne_G t u 3 s (fun r1 => ((r1 = 0 ∨ r1 = 1) ∧ K r1))) : C_X1_lambda_fewest_0 t u s K := h
theorem p_fewest {a : Int → Int} {s : XS} {m : MS} {z : ZS} {KN : XS → MS → Prop} (hJ : JZ s m z) (hE : JE s m) (hK : keepsJ s m KN) : C_law_17 a s m KN := by
  have hgd := hJ.good
  obtain ⟨hb, hr⟩ := hJ.b
  have h24 : 0 ≤ m.1 27 ∧ m.1 27 ≤ 24 := hb.nt
  have h12 : 0 ≤ m.1 30 ∧ m.1 30 ≤ 12 := hb.ns
  have es : s.1.1 32 = m.1 30 := hr.1.2.2.1
  have h4 := jshl_4096 h12
  refine p_ask hJ.b hJ.n hK (F := C_fewest (a 1) (a 2) m) (fun K w hw hk X20 h20 => c_whyN h24 hw hk) (fun hv he => ?_)
  have hall := one_every hb hgd hv he
  intro X5 hX
  have hR : ∀ (k : Int) (s1 : XS) (K1 : Int → XS → Prop), pX s s1 → (∀ s', pX s s' → (oneBy (bkM m) k (a 1) (a 2) → K1 1 s') ∧ (¬ oneBy (bkM m) k (a 1) (a 2) → K1 0 s')) → C_X1_by k s1 (fun s' => C_X1_lambda_fewest_0 (a 1) (a 2) s' (fun r => (r = 0 ∨ r = 1) ∧ K1 r s')) := fun k s1 K1 q h => x_byP hb hr hE q (fun s' p1 p2 p3 => x_lamF (x_areOne ⟨hv.1.1, by omega⟩ ⟨hv.2.1, by omega⟩ (fun e => ⟨Or.inr rfl, Or.inr rfl, (h s' p1).1 ((good_one p2 hv.1.1 hv.1.2 hv.2.1 hv.2.2).mp e)⟩) (fun e => ⟨Or.inl rfl, Or.inl rfl, (h s' p1).2 (fun ho => e ((good_one p2 hv.1.1 hv.1.2 hv.2.1 hv.2.2).mpr ho))⟩)))
  have hlp : ∀ (d : Nat) (k best : Int), 0 ≤ k → k + d = jshl 1 (m.1 30) → wfB best → (best ≠ -2 ∨ 0 < d) → ∃ v, v ≠ -2 ∧ (∀ s1, pX s s1 → (∀ s', pX s s' → C_fewest (a 1) (a 2) m (fun r' m' => v = r' ∧ KN (xfin s') m')) → X5 best k s1) ∧ ∀ (X20 : Int → Int → Int → Int → MS → Prop) (K : Int → MS → Prop) (M : MS), (∀ x1 x2 x3 x4 s0, B_fewest_20 X20 K x1 x2 x3 x4 s0 → X20 x1 x2 x3 x4 s0) → pM (mref m 0) M → (∀ m', pM (mref m 0) m' → K v m') → X20 (a 1) (a 2) (if best = -2 then -1 else best) k M := by
    intro d
    induction d with
    | zero =>
      intro k best k0 hk hB hne
      have hne : best ≠ -2 := hne.elim id (fun q => absurd q (by omega))
      refine ⟨best, hne, fun s1 q1 q2 => x_fwE hX q1 h12 es (by omega) (x_fine (q2 s1 q1)), fun X20 K M h20 q1 q2 => h20 _ _ _ _ _ (c_allSames (m := M) (by rw [q1.1]; exact h12) ?_)⟩
      rw [if_neg hne, q1.1]
      exact ⟨fun _ => q2 M q1, fun q => absurd (show jshl 1 (m.1 30) - 1 < k by omega) q⟩
    | succ d ih =>
      intro k best k0 hk hB hne
      obtain ⟨best', hn⟩ := nxB_ex (P := fun k => oneBy (bkM m) k (a 1) (a 2)) (best := best) (k := k)
      have hB' := nxB_wf hn hB k0 (by omega)
      have hS : below k (bkM (mref m 0)).ns := below_le h12.1 (show (bkM (mref m 0)).ns < 14 from (show m.1 30 < 14 by omega)) k0 (show k ≤ jshl 1 (m.1 30) - 1 by omega)
      obtain ⟨v, v0, v1, v2⟩ := ih (k + 1) best' (by omega) (by omega) hB' (by
        by_cases hd : 0 < d
        · exact Or.inr hd
        · refine Or.inl (fun e => ?_)
          have ek : k = jshl 1 (m.1 30) - 1 := by omega
          rcases hn with ⟨_, _, g⟩ | ⟨g, g2⟩
          · omega
          · exact g ⟨Or.inl (by omega), by rw [ek]; exact hall⟩)
      refine ⟨v, v0, fun s1 q1 q2 => x_fwS hX q1 h12 es k0 (by omega) hB hn (fun s1 K1 q h => hR k s1 K1 q h) (fun s' q => v1 s' q q2), fun X20 K M h20 q1 q2 => h20 _ _ _ _ _ (c_allSames (m := M) (by rw [q1.1]; exact h12) ?_)⟩
      rw [q1.1]
      have go := fun m' (q3 : pM (mref m 0) m') => v2 X20 K m' h20 q3 q2
      have askC : ∀ M1, pM (mref m 0) M1 → (best = -2 ∨ pcS k < pcS best) → C_isOneBy k (a 1) (a 2) M1 (fun r10 s7 => ((r10 = 0 → (inI (k + 1) ∧ X20 (a 1) (a 2) (if best = -2 then -1 else best) (k + 1) s7)) ∧ (¬ r10 = 0 → (inI (k + 1) ∧ X20 (a 1) (a 2) k (k + 1) s7)))) := by
        intro M1 q3 hc
        refine c_one (m0 := mref m 0) hb q3 hS hv.1.1 hv.1.2 hv.2.1 hv.2.2 (fun ho m' q4 => ⟨fun q => absurd q (by decide), fun _ => ⟨inI_s (by omega), ?_⟩⟩) (fun ho m' q4 => ⟨fun _ => ⟨inI_s (by omega), ?_⟩, fun q => absurd rfl q⟩)
        · have := go m' q4
          rcases hn with ⟨_, _, rfl⟩ | ⟨g, _⟩
          · rw [if_neg (by omega)] at this
            exact this
          · exact absurd ⟨hc, ho⟩ g
        · have := go m' q4
          rcases hn with ⟨_, g, _⟩ | ⟨_, rfl⟩
          · exact absurd g ho
          · exact this
      refine ⟨fun q => absurd q (show ¬ jshl 1 (m.1 30) - 1 < k by omega), fun _ => ⟨fun e => ?_, fun e => ?_⟩⟩
      · have eb : best = -2 := by
          by_cases g : best = -2
          · exact g
          · rw [if_neg g] at e
            rcases hB with h | h
            · exact h
            · omega
        exact askC M q1 (Or.inl eb)
      · have eb : best ≠ -2 := fun g => e (by rw [if_pos g])
        have hb' : 0 ≤ best ∧ best < 4096 := hB.elim (fun q => absurd q eb) id
        have e3 : (if best = -2 then -1 else best) = best := if_neg eb
        have hac := askC M q1
        rw [e3] at hac ⊢
        refine c_on k0 (by omega) (c_on hb'.1 hb'.2 ⟨fun q => ⟨inI_s (by omega), ?_⟩, fun q => hac (Or.inr (by omega))⟩)
        have := go M q1
        rcases hn with ⟨g, _, _⟩ | ⟨_, rfl⟩
        · exact absurd g (fun g => g.elim eb (fun g => by omega))
        · rw [if_neg eb] at this; exact this
  obtain ⟨v, -, v1, v2⟩ := hlp (jshl 1 (m.1 30)).toNat 0 (-2) (Int.le_refl _) (by omega) (Or.inl rfl) (Or.inr (by omega))
  exact v1 s pX.rf (fun s' q X20 h20 => c_why_yes h24 hv he (v2 X20 _ (mref m 0) h20 pM.rf (fun m' q2 => p_fin hK q q2)))
