/-! THE PURE PART, 64: the core -/
set_option maxRecDepth 100000
/-- a set of sames that goes against a difference -/
def clS (b : PB) (S : Int) : Prop := ∃ j, (0 ≤ j ∧ j < b.nd) ∧ oneBy b S (b.da j) (b.db j)
theorem cl_fi {b : PB} {S : Int} {r : Int → Int} (hb : b.ok) (hg : good b b.nt (ES b S) r) : fi (fun k => r (b.da k) = r (b.db k)) b.nd ≠ -2 ↔ clS b S := by
  have e : ∀ k, 0 ≤ k → k < b.nd → (r (b.da k) = r (b.db k) ↔ oneBy b S (b.da k) (b.db k)) := fun k k0 k1 => good_one hg (hb.da k k0 k1).1 (hb.da k k0 k1).2 (hb.db k k0 k1).1 (hb.db k k0 k1).2
  rcases fi_is (P := fun k => r (b.da k) = r (b.db k)) (n := b.nd) with ⟨h1, h2⟩ | ⟨h1, h2, h3, _⟩
  · refine ⟨fun q => absurd h1 q, fun ⟨j, ⟨j0, j1⟩, ho⟩ => absurd ((e j j0 j1).mpr ho) (h2 j j0 j1)⟩
  · exact ⟨fun _ => ⟨_, ⟨h1, h2⟩, (e _ h1 h2).mp h3⟩, fun _ q => by omega⟩
theorem x_lamC {s : XS} {K : Int → Prop} (h : C_X1_clash 3 s (fun r1 => ((r1 = (-2) → K 0) ∧ (¬ r1 = (-2) → K 1)))) : C_X1_lambda_core_1 s K := h
theorem p_core {a : Int → Int} {s : XS} {m : MS} {z : ZS} {KN : XS → MS → Prop} (hJ : JZ s m z) (hT : JT s m) (hE : JE s m) (hK : keepsJ s m KN) : C_law_26 a s m KN := by
  have hgd := hJ.good
  obtain ⟨n1, n2, n3, n4⟩ := hJ.n
  obtain ⟨hb, hr⟩ := hJ.b
  have h24 : 0 ≤ m.1 27 ∧ m.1 27 ≤ 24 := hb.nt
  have h12 : 0 ≤ m.1 30 ∧ m.1 30 ≤ 12 := hb.ns
  have es : s.1.1 32 = m.1 30 := hr.1.2.2.1
  have h4 := jshl_4096 h12
  have hfin : ∀ (v : Int) (s' : XS) (m' : MS), pX s s' → pM (ms m 0 0) m' → v = v ∧ KN s' m' := fun v s' m' q q2 => ⟨rfl, hK _ _ q.x (eqM_0.tr q2.m) (by
    unfold JT at hT ⊢
    rw [q.1, q2.1]; exact hT)⟩
  -- the reference
  have href : ∀ (X10 : Int → Int → MS → Prop) (K : Int → MS → Prop) (best k best' : Int) (M : MS), (∀ x1 x2 s0, B_core_10 X10 K x1 x2 s0 → X10 x1 x2 s0) → pM (ms m 0 0) M → 0 ≤ k → k < jshl 1 (m.1 30) → wfB best → nxB (clS (bkM m)) best k best' → (∀ m', pM (ms m 0 0) m' → X10 best' (k + 1) m') → X10 best k M := by
    intro X10 K best k best' M h10 q1 k0 k1 hB hn go
    have hS : below k (bkM m).ns := below_le h12.1 (show (bkM m).ns < 14 from (show m.1 30 < 14 by omega)) k0 (show k ≤ jshl 1 (m.1 30) - 1 by omega)
    refine h10 _ _ _ (c_allSames (m := M) (by rw [q1.1]; exact h12) ?_)
    rw [q1.1]
    have askC : (best = -2 ∨ pcS k < pcS best) → C_closesBy k M (fun s7 => (C_clashIn 44 s7 (fun r13 s10 => ((r13 = (-2) → (inI (k + 1) ∧ X10 best (k + 1) s10)) ∧ (¬ r13 = (-2) → (inI (k + 1) ∧ X10 k (k + 1) s10)))))) := by
      intro hc
      have eb : bkM M = bkM m := q1.bk
      refine c_by (by rw [eb]; exact hb) (by rw [eb]; exact hS) (fun r hg => ?_)
      rw [eb] at hg
      have hq : pM (ms m 0 0) (maR M 44 r) := q1.tr ⟨rfl, fun k q => if_neg q⟩
      have eb2 : bkM (maR M 44 r) = bkM m := hq.bk
      refine c_clashIn ⟨rfl, rfl⟩ (by rw [eb2]; exact hb) ?_
      rw [eb2, maR_at]
      have hcl := cl_fi hb hg
      refine ⟨fun q => ⟨inI_s (by omega), ?_⟩, fun q => ⟨inI_s (by omega), ?_⟩⟩
      · have := go _ hq
        rcases hn with ⟨_, g, _⟩ | ⟨_, rfl⟩
        · exact absurd q (hcl.mpr g)
        · exact this
      · have := go _ hq
        rcases hn with ⟨_, _, rfl⟩ | ⟨g, _⟩
        · exact this
        · exact absurd ⟨hc, hcl.mp q⟩ g
    refine ⟨fun q => absurd q (show ¬ jshl 1 (m.1 30) - 1 < k by omega), fun _ => ⟨fun e => askC (Or.inl e), fun e => ?_⟩⟩
    have hb' : 0 ≤ best ∧ best < 4096 := hB.elim (fun q => absurd q e) id
    refine c_on k0 (by omega) (c_on hb'.1 hb'.2 ⟨fun q => ⟨inI_s (by omega), ?_⟩, fun q => askC (Or.inr (by omega))⟩)
    have := go M q1
    rcases hn with ⟨g, _, _⟩ | ⟨_, rfl⟩
    · exact absurd g (fun g => g.elim e (fun g => by omega))
    · exact this
  have hrefE : ∀ (X10 : Int → Int → MS → Prop) (K : Int → MS → Prop) (best : Int) (M : MS), (∀ x1 x2 s0, B_core_10 X10 K x1 x2 s0 → X10 x1 x2 s0) → pM (ms m 0 0) M → K best M → X10 best (jshl 1 (m.1 30)) M := by
    intro X10 K best M h10 q1 hk
    refine h10 _ _ _ (c_allSames (m := M) (by rw [q1.1]; exact h12) ?_)
    rw [q1.1]
    exact ⟨fun _ => hk, fun q => absurd (show jshl 1 (m.1 30) - 1 < jshl 1 (m.1 30) by omega) q⟩
  refine x_clash hb hr ⟨fun hno => ?_, fun hyes X5 hX => ?_⟩
  · have hnone : ∀ k, ¬ clS (bkM m) k := by
      rintro k ⟨j, ⟨j0, j1⟩, ho⟩
      have hd1 := hb.da j j0 j1
      have hd2 := hb.db j j0 j1
      have hnt : (bkM m).nt = m.1 27 := rfl
      have e : m.2 36 ((bkM m).da j) = m.2 36 ((bkM m).db j) := ho _ (by
        have hc := good_cg hgd
        exact ⟨hc.refl, hc.symm, hc.trans, fun t u ⟨i, i0, i1, _, e⟩ => hc.has t u ⟨i, i0, i1, e⟩, hc.cong⟩)
      rcases fi_is (P := fun k => (s.2 4).2 0 ((bkM m).da k) = (s.2 4).2 0 ((bkM m).db k)) (n := (bkM m).nd) with ⟨_, h2⟩ | ⟨h1, _⟩
      · refine h2 j j0 j1 ?_
        rw [(n2 _ hd1.1 (by omega)).1, (n2 _ hd2.1 (by omega)).1]; exact e
      · omega
    intro X10 h10
    rintro _ rfl
    have L : ∀ k, 0 ≤ k → k ≤ jshl 1 (m.1 30) → ∀ M, pM (ms m 0 0) M → X10 (-2) k M := by
      refine upto (fun k k0 k1 ih M q => ?_)
      by_cases e : k = jshl 1 (m.1 30)
      · rw [e]; exact hrefE X10 _ (-2) M h10 q (hfin (-2) s M pX.rf q)
      · exact href X10 _ (-2) k (-2) M h10 q k0 (by omega) (Or.inl rfl) (Or.inr ⟨fun g => hnone k g.2, rfl⟩) (fun m' q2 => ih (by omega) m' q2)
    exact L 0 (Int.le_refl _) (by omega) _ pM.rf
  · have hR : ∀ (k : Int) (s1 : XS) (K1 : Int → XS → Prop), pX s s1 → (∀ s', pX s s' → (clS (bkM m) k → K1 1 s') ∧ (¬ clS (bkM m) k → K1 0 s')) → C_X1_by k s1 (fun s' => C_X1_lambda_core_1 s' (fun r => (r = 0 ∨ r = 1) ∧ K1 r s')) := fun k s1 K1 q h => x_byP hb hr hE q (fun s' p1 p2 p3 => x_lamC (x_clash hb (p1.rxb hr) ⟨fun e => ⟨Or.inl rfl, (h s' p1).2 (fun g => (cl_fi hb p2).mpr g e)⟩, fun e => ⟨Or.inr rfl, (h s' p1).1 ((cl_fi hb p2).mp e)⟩⟩))
    have hlp : ∀ (d : Nat) (k best : Int), 0 ≤ k → k + d = jshl 1 (m.1 30) → wfB best → ∃ v, (∀ s1, pX s s1 → (∀ s', pX s s' → C_core m (fun r' m' => v = r' ∧ KN s' m')) → X5 best k s1) ∧ ∀ (X10 : Int → Int → MS → Prop) (K : Int → MS → Prop) (M : MS), (∀ x1 x2 s0, B_core_10 X10 K x1 x2 s0 → X10 x1 x2 s0) → pM (ms m 0 0) M → (∀ m', pM (ms m 0 0) m' → K v m') → X10 best k M := by
      intro d
      induction d with
      | zero =>
        intro k best k0 hk hB
        have ek : k = jshl 1 (m.1 30) := by omega
        exact ⟨best, fun s1 q1 q2 => x_fwE hX q1 h12 es ek (q2 s1 q1), fun X10 K M h10 q1 q2 => by rw [ek]; exact hrefE X10 K best M h10 q1 (q2 M q1)⟩
      | succ d ih =>
        intro k best k0 hk hB
        obtain ⟨best', hn⟩ := nxB_ex (P := clS (bkM m)) (best := best) (k := k)
        have hB' := nxB_wf hn hB k0 (by omega)
        obtain ⟨v, v1, v2⟩ := ih (k + 1) best' (by omega) (by omega) hB'
        exact ⟨v, fun s1 q1 q2 => x_fwS hX q1 h12 es k0 (by omega) hB hn (fun s1 K1 q h => hR k s1 K1 q h) (fun s' q => v1 s' q q2), fun X10 K M h10 q1 q2 => href X10 K best k best' M h10 q1 k0 (by omega) hB hn (fun m' q3 => v2 X10 K m' h10 q3 q2)⟩
    obtain ⟨v, v1, v2⟩ := hlp (jshl 1 (m.1 30)).toNat 0 (-2) (Int.le_refl _) (by omega) (Or.inl rfl)
    refine v1 s pX.rf (fun s' q X10 h10 => ?_)
    rintro _ rfl
    exact v2 X10 _ _ h10 pM.rf (fun m' q2 => hfin v s' m' q q2)
