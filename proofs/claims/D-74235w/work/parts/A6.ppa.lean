/-! THE PURE PART, 43: texts: parts of a term -/
set_option maxRecDepth 100000
/-- both read parts on, or find the same fault -/
def OutP (m0 : MS) (S : ((Int → Int) → MS → Prop) → (Int → Int → Prop) → Prop) (M : (Int → MS → Prop) → Prop) (Q : (Int → Int) → MS → MS → Prop) : Prop :=
  (∃ P r' m', (∀ K KX, K P r' → S K KX) ∧ (∀ K, K 1 m' → M K) ∧ Q P r' m' ∧ frR m0 m') ∨ (∃ kd pl m', (∀ K KX, KX kd pl → S K KX) ∧ (∀ K, K 0 m' → M K) ∧ m'.1 18 = kd ∧ m'.1 19 = pl ∧ (1 ≤ kd ∧ kd ≤ 5) ∧ frR m0 m')
theorem OutP.step {m0 : MS} {S S1 : ((Int → Int) → MS → Prop) → (Int → Int → Prop) → Prop} {M M1 : (Int → MS → Prop) → Prop} {Q : (Int → Int) → MS → MS → Prop} (hS : ∀ K KX, S1 K KX → S K KX) (hM : ∀ K, M1 K → M K) (h : OutP m0 S1 M1 Q) : OutP m0 S M Q := by
  rcases h with ⟨P, r', m', a, b, c, d⟩ | ⟨kd, pl, m', a, b, c⟩
  · exact Or.inl ⟨P, r', m', fun K KX k => hS K KX (a K KX k), fun K k => hM K (b K k), c, d⟩
  · exact Or.inr ⟨kd, pl, m', fun K KX k => hS K KX (a K KX k), fun K k => hM K (b K k), c⟩
theorem OutP.bad {m0 m : MS} {pl kd : Int} {S : ((Int → Int) → MS → Prop) → (Int → Int → Prop) → Prop} {M : (Int → MS → Prop) → Prop} {Q : (Int → Int) → MS → MS → Prop} (hf : frR m0 m) (hp : pl = m.1 14) (hk : 1 ≤ kd ∧ kd ≤ 5) (hS : ∀ K KX, KX kd pl → S K KX) (hM : ∀ K, K 0 (ms (ms m 18 kd) 19 (m.1 14)) → M K) : OutP m0 S M Q :=
  Or.inr ⟨kd, pl, _, hS, hM, rfl, hp.symm, hk, hf.tr ((frR_ms (k := 18) (by decide)).tr (frR_ms (k := 19) (by decide)))⟩
theorem OutP.fr {m0 m : MS} {S : ((Int → Int) → MS → Prop) → (Int → Int → Prop) → Prop} {M : (Int → MS → Prop) → Prop} {Q : (Int → Int) → MS → MS → Prop} (hf : frR m0 m) (h : OutP m S M Q) : OutP m0 S M Q := by
  rcases h with ⟨P, r', m', a, b, c, d⟩ | ⟨kd, pl, m', a, b, c, d, e, f⟩
  · exact Or.inl ⟨P, r', m', a, b, c, hf.tr d⟩
  · exact Or.inr ⟨kd, pl, m', a, b, c, d, e, hf.tr f⟩
theorem RD.sg {tp : Int → Int} {r m : MS} {c : Int} {K : Int → Prop} (h : RD tp r m) (hc : isSg c) (h1 : m.1 16 = c → K 1) (h0 : m.1 16 ≠ c → K 0) : C_X8_isSign c tp r K := x8_isSign hc h.1 h.2.1.2.2 h.2.2.1 h1 h0
/-- what parts leave -/
def QP (tp : Int → Int) (n : Int) (r m : MS) : (Int → Int) → MS → MS → Prop := fun P r' m' => RD tp r' m' ∧ (∀ i, 0 ≤ i → i < n → (0 ≤ P i ∧ P i < r.1 31) ∧ m'.2 11 (4 * (48 + m.1 24) + 1 + i) = P i) ∧ m'.2 11 (4 * (48 + m.1 24)) = m.2 11 (4 * (48 + m.1 24)) ∧ (∀ k, 30 ≤ k → r'.1 k = r.1 k) ∧ r'.2 = r.2 ∧ m'.1 24 = m.1 24 ∧ m'.2 12 = m.2 12 ∧ m'.1 21 = m.1 21
theorem sg44 : isSg 44 := Or.inr (Or.inl rfl)
theorem sg41 : isSg 41 := Or.inr (Or.inr (Or.inr (Or.inr rfl)))
theorem sg40 : isSg 40 := Or.inr (Or.inr (Or.inr (Or.inl rfl)))
theorem sg59 : isSg 59 := Or.inl rfl
theorem sg61 : isSg 61 := Or.inr (Or.inr (Or.inl rfl))
theorem parts_loop {tp : Int → Int} {n mm : Int} {rB mB : MS} (hn : 0 ≤ n ∧ n ≤ 3) (hmm : rB.1 41 ≤ mm) : ∀ (d : Nat) (k : Int) (P : Int → Int) (r m m1 : MS) (kc ks : Nat), 0 ≤ k → k + d = n → 4 * d ≤ kc → 32 * d ≤ ks → (∀ K, K m1 → C_goesOn m K) → RD tp r m1 → frR m m1 → (∀ i, 0 ≤ i → i < k → (0 ≤ P i ∧ P i < rB.1 31) ∧ m1.2 11 (4 * (48 + mB.1 24) + 1 + i) = P i) → m1.2 11 (4 * (48 + mB.1 24)) = mB.2 11 (4 * (48 + mB.1 24)) → (∀ k, 30 ≤ k → r.1 k = rB.1 k) → r.2 = rB.2 → m1.1 24 = mB.1 24 → m1.2 12 = mB.2 12 → m1.1 21 = mB.1 21 →
    OutP m (fun K KX => ∀ X82 : Int → (Int → Int) → Int → Nat → Nat → MS → Prop, (∀ x1 x2 x3 kc ks s0, B_X8_parts_82 X82 K KX x1 x2 x3 kc ks tp mm n s0 → X82 x1 x2 x3 kc ks s0) → X82 n P k kc ks r) (fun K => ∀ X59 : Int → Int → Int → MS → Prop, (∀ x1 x2 x3 s0, B_readParts_59 X59 K x1 x2 x3 s0 → X59 x1 x2 x3 s0) → X59 (4 * (48 + mB.1 24)) n k m) (QP tp n rB mB) := by
  intro d
  induction d with
  | zero =>
    intro k P r m m1 kc ks k0 kn hc hs hgo h hfr hP h0 hr1 hr2 h24 h12 h21
    exact Or.inl ⟨P, r, m1, fun K KX hk X82 hX => hX _ _ _ _ _ _ ⟨fun _ => hk, fun q => absurd (by omega) q⟩, fun K hk X59 hX => hX _ _ _ _ ⟨fun _ => hgo _ hk, fun q => absurd (by omega) q⟩, ⟨h, fun i i0 i1 => hP i i0 (by omega), h0, hr1, hr2, h24, h12, h21⟩, hfr⟩
  | succ d ih =>
    intro k P r m m1 kc ks k0 kn hc hs hgo h hfr hP h0 hr1 hr2 h24 h12 h21
    have hrow := h.2.2.2.rows
    have hx : 0 ≤ 4 * (48 + mB.1 24) + 1 + k ∧ 4 * (48 + mB.1 24) + 1 + k < 384 := by omega
    by_cases hn1 : isNm (m1.2 4) r
    · obtain ⟨v, hv1, hv2⟩ := h.tv hn1.1
      obtain ⟨h', fk⟩ := RD_11 (x := 4 * (48 + mB.1 24) + 1 + k) (v := v) h (by omega)
      by_cases ev : v = -1
      · refine OutP.bad (hfr.tr fk) h'.pm (by decide) (fun K KX hk X82 hX => hX _ _ _ _ _ _ ⟨fun q => absurd q (by omega), fun _ => ⟨⟨by omega, by omega⟩, x8_term h hn1 hv1 (fun _ => hk) (fun q => absurd ev q)⟩⟩) (fun K hk X59 hX => hX _ _ _ _ ⟨fun q => absurd q (by omega), fun _ => hgo _ (c_isName h.2.1.2.2 h.2.2.1 (fun _ => ⟨fun q => absurd q (by decide), fun _ => ⟨inI_s (by omega), inI_s (by omega), c_t h hv2 ⟨hx, ?_⟩⟩⟩) (fun q => absurd hn1 q))⟩)
        rintro _ rfl
        refine ⟨inI_s (by omega), inI_s (by omega), hx, fun _ => c_errs ⟨Or.inl rfl, hk⟩, fun q => absurd ?_ q⟩
        show iup (m1.2 11) _ v _ = -1
        rw [iup_at]; exact ev
      · have hvr := isFirst_n hv1 ev
        obtain ⟨r2, m2, u2, v2, f2, g2, h2⟩ := h'.go
        have z2 : ∀ k, 30 ≤ k → r2.1 k = rB.1 k := fun k hk => (f2.1 k (by omega) (by omega) (by omega) (by omega) (by omega)).trans (hr1 k hk)
        have y11 : m2.2 11 = iup (m1.2 11) (4 * (48 + mB.1 24) + 1 + k) v := by rw [g2.2]; rfl
        have y24 : m2.1 24 = mB.1 24 := (g2.1 24 (by decide) (by decide) (by decide) (by decide)).trans h24
        have y21 : m2.1 21 = mB.1 21 := (g2.1 21 (by decide) (by decide) (by decide) (by decide)).trans h21
        have y12 : m2.2 12 = mB.2 12 := by rw [g2.2]; exact h12
        have hvB : 0 ≤ v ∧ v < rB.1 31 := by rw [← hr1 31 (by decide)]; exact hvr
        -- up to the sign behind
        have ref : ∀ (K : Int → MS → Prop) (X59 : Int → Int → Int → MS → Prop), (∀ x1 x2 x3 s0, B_readParts_59 X59 K x1 x2 x3 s0 → X59 x1 x2 x3 s0) → ((k = (n - 1) → (((m2.1 16) = 41 → (inI (k + 1) ∧ X59 (4 * (48 + mB.1 24)) n (k + 1) m2)) ∧ (¬ (m2.1 16) = 41 → (((m2.1 16) = 44 → (C_errs 5 m2 (fun r56 s53 => ((r56 = 0 ∨ r56 = 1) ∧ K r56 s53)))) ∧ (¬ (m2.1 16) = 44 → (((m2.1 16) = 41 → (C_errs 5 m2 (fun r67 s64 => ((r67 = 0 ∨ r67 = 1) ∧ K r67 s64)))) ∧ (¬ (m2.1 16) = 41 → (C_errs 1 m2 (fun r62 s59 => ((r62 = 0 ∨ r62 = 1) ∧ K r62 s59)))))))))) ∧ (¬ k = (n - 1) → (((m2.1 16) = 44 → (inI (k + 1) ∧ X59 (4 * (48 + mB.1 24)) n (k + 1) m2)) ∧ (¬ (m2.1 16) = 44 → (((m2.1 16) = 44 → (C_errs 5 m2 (fun r37 s34 => ((r37 = 0 ∨ r37 = 1) ∧ K r37 s34)))) ∧ (¬ (m2.1 16) = 44 → (((m2.1 16) = 41 → (C_errs 5 m2 (fun r48 s45 => ((r48 = 0 ∨ r48 = 1) ∧ K r48 s45)))) ∧ (¬ (m2.1 16) = 41 → (C_errs 1 m2 (fun r43 s40 => ((r43 = 0 ∨ r43 = 1) ∧ K r43 s40))))))))))) → X59 (4 * (48 + mB.1 24)) n k m := by
          intro K X59 hX hk
          refine hX _ _ _ _ ⟨fun q => absurd q (by omega), fun _ => hgo _ (c_isName h.2.1.2.2 h.2.2.1 (fun _ => ⟨fun q => absurd q (by decide), fun _ => ⟨inI_s (by omega), inI_s (by omega), c_t h hv2 ⟨hx, ?_⟩⟩⟩) (fun q => absurd hn1 q))⟩
          rintro _ rfl
          refine ⟨inI_s (by omega), inI_s (by omega), hx, fun q => absurd ?_ ev, fun _ => v2 _ ⟨inI_s (by omega), hk⟩⟩
          have q : iup (m1.2 11) (4 * (48 + mB.1 24) + 1 + k) v (4 * (48 + mB.1 24) + 1 + k) = -1 := q
          rw [iup_at] at q; exact q
        have e41 : r2.1 41 ≤ mm := by rw [z2 41 (by decide)]; exact hmm
        have fall := (hfr.tr fk).tr g2.r
        -- behind the right sign
        have goOn : ∀ (kc' ks' : Nat), 4 * d ≤ kc' → 32 * d ≤ ks' → ∃ r3, (∀ K, K r3 → C_X8_go tp r2 K) ∧ OutP m (fun K KX => ∀ X82 : Int → (Int → Int) → Int → Nat → Nat → MS → Prop, (∀ x1 x2 x3 kc ks s0, B_X8_parts_82 X82 K KX x1 x2 x3 kc ks tp mm n s0 → X82 x1 x2 x3 kc ks s0) → X82 n (iup P k v) (k + 1) kc' ks' r3) (fun K => ∀ X59 : Int → Int → Int → MS → Prop, (∀ x1 x2 x3 s0, B_readParts_59 X59 K x1 x2 x3 s0 → X59 x1 x2 x3 s0) → X59 (4 * (48 + mB.1 24)) n (k + 1) m2) (QP tp n rB mB) := by
          intro kc' ks' hc' hs'
          obtain ⟨r3, m3, u3, v3, f3, g3, h3⟩ := h2.go
          have z3 : ∀ k, 30 ≤ k → r3.1 k = rB.1 k := fun k hk => (f3.1 k (by omega) (by omega) (by omega) (by omega) (by omega)).trans (z2 k hk)
          refine ⟨r3, u3, OutP.fr fall (ih (k + 1) (iup P k v) r3 m2 m3 kc' ks' (by omega) (by omega) hc' hs' v3 h3 g3.r (fun i i0 i1 => ?_) ?_ z3 (by rw [f3.2, f2.2]; exact hr2) ((g3.1 24 (by decide) (by decide) (by decide) (by decide)).trans y24) (by rw [g3.2]; exact y12) ((g3.1 21 (by decide) (by decide) (by decide) (by decide)).trans y21))⟩
          · rw [g3.2, y11]
            by_cases ei : i = k
            · rw [ei, iup_at, iup_at]; exact ⟨hvB, rfl⟩
            · rw [iup_ne ei, iup_ne (by omega)]; exact hP i i0 (by omega)
          · rw [g3.2, y11, iup_ne (by omega)]; exact h0

        by_cases el : k = n - 1
        · skip
          by_cases e4 : m2.1 16 = 41
          · obtain ⟨r3, u3, hout⟩ := goOn (((kc - 2) - 1) - 1) (((ks - 16) - 8) - 8) (by omega) (by omega)
            exact OutP.step (fun K KX hk X82 hX => hX _ _ _ _ _ _ ⟨fun q => absurd q (by omega), fun _ => ⟨⟨by omega, by omega⟩, x8_term h hn1 hv1 (fun q => absurd q ev) (fun _ => u2 _ ⟨⟨e41, k0, by omega⟩, inI_s (by omega), ⟨fun _ => h2.sg sg44 (fun q => absurd q (by omega)) (fun _ => ⟨fun _ => h2.sg sg41 (fun _ => ⟨fun q => absurd q (by decide), fun _ => ⟨⟨by omega, by omega⟩, h2.sg sg41 (fun _ => ⟨⟨by omega, by omega⟩, fun q => absurd q (by decide), fun _ => u3 _ ⟨inI_s (by omega), hk X82 hX⟩⟩) (fun q => absurd e4 q)⟩⟩) (fun q => absurd e4 q), fun q => absurd rfl q⟩), fun q => absurd el q⟩⟩)⟩⟩) (fun K hk X59 hX => ref K X59 hX ⟨fun _ => ⟨fun _ => ⟨inI_s (by omega), hk X59 hX⟩, fun q => absurd e4 q⟩, fun q => absurd el q⟩) hout
          · by_cases e5 : m2.1 16 = 44
            · exact OutP.bad fall h2.pm (by decide) (fun K KX hk X82 hX => hX _ _ _ _ _ _ ⟨fun q => absurd q (by omega), fun _ => ⟨⟨by omega, by omega⟩, x8_term h hn1 hv1 (fun q => absurd q ev) (fun _ => u2 _ ⟨⟨e41, k0, by omega⟩, inI_s (by omega), ⟨fun _ => h2.sg sg44 (fun _ => ⟨fun q => absurd q (by decide), fun _ => ⟨⟨by omega, by omega⟩, h2.sg sg41 (fun q => absurd q (by omega)) (fun _ => ⟨⟨by omega, by omega⟩, fun _ => hk, fun q => absurd rfl q⟩)⟩⟩) (fun q => absurd e5 q), fun q => absurd el q⟩⟩)⟩⟩) (fun K hk X59 hX => ref K X59 hX ⟨fun _ => ⟨fun q => absurd q (by omega), fun _ => ⟨fun _ => c_errs ⟨Or.inl rfl, hk⟩, fun q => absurd e5 q⟩⟩, fun q => absurd el q⟩)
            · exact OutP.bad fall h2.pm (by decide) (fun K KX hk X82 hX => hX _ _ _ _ _ _ ⟨fun q => absurd q (by omega), fun _ => ⟨⟨by omega, by omega⟩, x8_term h hn1 hv1 (fun q => absurd q ev) (fun _ => u2 _ ⟨⟨e41, k0, by omega⟩, inI_s (by omega), ⟨fun _ => h2.sg sg44 (fun q => absurd q e5) (fun _ => ⟨fun _ => h2.sg sg41 (fun q => absurd q e4) (fun _ => ⟨fun _ => ⟨⟨by omega, by omega⟩, hk⟩, fun q => absurd rfl q⟩), fun q => absurd rfl q⟩), fun q => absurd el q⟩⟩)⟩⟩) (fun K hk X59 hX => ref K X59 hX ⟨fun _ => ⟨fun q => absurd q e4, fun _ => ⟨fun q => absurd q e5, fun _ => ⟨fun q => absurd q e4, fun _ => c_errs ⟨Or.inl rfl, hk⟩⟩⟩⟩, fun q => absurd el q⟩)
        · skip
          by_cases e4 : m2.1 16 = 44
          · obtain ⟨r3, u3, hout⟩ := goOn (((kc - 2) - 1) - 1) (((ks - 16) - 8) - 8) (by omega) (by omega)
            exact OutP.step (fun K KX hk X82 hX => hX _ _ _ _ _ _ ⟨fun q => absurd q (by omega), fun _ => ⟨⟨by omega, by omega⟩, x8_term h hn1 hv1 (fun q => absurd q ev) (fun _ => u2 _ ⟨⟨e41, k0, by omega⟩, inI_s (by omega), ⟨fun q => absurd q el, fun _ => h2.sg sg44 (fun _ => ⟨fun q => absurd q (by decide), fun _ => ⟨⟨by omega, by omega⟩, h2.sg sg44 (fun _ => ⟨⟨by omega, by omega⟩, fun q => absurd q (by decide), fun _ => u3 _ ⟨inI_s (by omega), hk X82 hX⟩⟩) (fun q => absurd e4 q)⟩⟩) (fun q => absurd e4 q)⟩⟩)⟩⟩) (fun K hk X59 hX => ref K X59 hX ⟨fun q => absurd q el, fun _ => ⟨fun _ => ⟨inI_s (by omega), hk X59 hX⟩, fun q => absurd e4 q⟩⟩) hout
          · by_cases e5 : m2.1 16 = 41
            · exact OutP.bad fall h2.pm (by decide) (fun K KX hk X82 hX => hX _ _ _ _ _ _ ⟨fun q => absurd q (by omega), fun _ => ⟨⟨by omega, by omega⟩, x8_term h hn1 hv1 (fun q => absurd q ev) (fun _ => u2 _ ⟨⟨e41, k0, by omega⟩, inI_s (by omega), ⟨fun q => absurd q el, fun _ => h2.sg sg44 (fun q => absurd q e4) (fun _ => ⟨fun _ => h2.sg sg41 (fun _ => ⟨fun q => absurd q (by decide), fun _ => ⟨⟨by omega, by omega⟩, h2.sg sg44 (fun q => absurd q e4) (fun _ => ⟨⟨by omega, by omega⟩, fun _ => hk, fun q => absurd rfl q⟩)⟩⟩) (fun q => absurd e5 q), fun q => absurd rfl q⟩)⟩⟩)⟩⟩) (fun K hk X59 hX => ref K X59 hX ⟨fun q => absurd q el, fun _ => ⟨fun q => absurd q e4, fun _ => ⟨fun q => absurd q e4, fun _ => ⟨fun _ => c_errs ⟨Or.inl rfl, hk⟩, fun q => absurd e5 q⟩⟩⟩⟩)
            · exact OutP.bad fall h2.pm (by decide) (fun K KX hk X82 hX => hX _ _ _ _ _ _ ⟨fun q => absurd q (by omega), fun _ => ⟨⟨by omega, by omega⟩, x8_term h hn1 hv1 (fun q => absurd q ev) (fun _ => u2 _ ⟨⟨e41, k0, by omega⟩, inI_s (by omega), ⟨fun q => absurd q el, fun _ => h2.sg sg44 (fun q => absurd q e4) (fun _ => ⟨fun _ => h2.sg sg41 (fun q => absurd q e5) (fun _ => ⟨fun _ => ⟨⟨by omega, by omega⟩, hk⟩, fun q => absurd rfl q⟩), fun q => absurd rfl q⟩)⟩⟩)⟩⟩) (fun K hk X59 hX => ref K X59 hX ⟨fun q => absurd q el, fun _ => ⟨fun q => absurd q e4, fun _ => ⟨fun q => absurd q e4, fun _ => ⟨fun q => absurd q e5, fun _ => c_errs ⟨Or.inl rfl, hk⟩⟩⟩⟩⟩)
    · exact OutP.bad hfr h.pm (by decide) (fun K KX hk X82 hX => hX _ _ _ _ _ _ ⟨fun q => absurd q (by omega), fun _ => ⟨⟨by omega, by omega⟩, x8_term_no h hn1 hk⟩⟩) (fun K hk X59 hX => hX _ _ _ _ ⟨fun q => absurd q (by omega), fun _ => hgo _ (c_isName h.2.1.2.2 h.2.2.1 (fun q => absurd q hn1) (fun _ => ⟨fun _ => c_errs ⟨Or.inl rfl, hk⟩, fun q => absurd rfl q⟩))⟩)
theorem parts_all {tp : Int → Int} {r m : MS} {n mm : Int} {kc ks : Nat} (h : RD tp r m) (hn : 0 ≤ n ∧ n ≤ 3) (hmm : r.1 41 ≤ mm) (hc : 20 ≤ kc) (hs : 150 ≤ ks) : OutP m (fun K KX => C_X8_parts kc ks tp mm n r K KX) (fun K => C_readParts (4 * (48 + m.1 24)) n m K) (QP tp n r m) := by
  have stp : (m.1 16 = 0 ↔ r.1 4 = 1) := by
    obtain ⟨-, -, hk⟩ := h.2.2.1
    rcases hk with k | k | k | k | k
    · omega
    · omega
    · omega
    · omega
    · have := k.2.2; unfold isSg at this; omega
  by_cases en : n = 0
  · by_cases e : m.1 16 = 40
    · exact OutP.bad frR.rf h.pm (by decide) (fun K KX hk X hX => ⟨⟨hmm, ⟨hn.1, by omega⟩, by omega, by omega⟩, fun _ => h.sg sg40 (fun _ => ⟨fun q => absurd q (by decide), fun _ => ⟨⟨by omega, by omega⟩, hk⟩⟩) (fun q => absurd e q), fun q => absurd en q⟩) (fun K hk X hX => ⟨fun _ => ⟨fun _ => c_errs ⟨Or.inl rfl, hk⟩, fun q => absurd en q⟩, fun q => absurd e q⟩)
    · exact Or.inl ⟨fun _ => 0, r, m, fun K KX hk X hX => ⟨⟨hmm, ⟨hn.1, by omega⟩, by omega, by omega⟩, fun _ => h.sg sg40 (fun q => absurd q e) (fun _ => ⟨fun _ => ⟨⟨by omega, by omega⟩, hk⟩, fun q => absurd rfl q⟩), fun q => absurd en q⟩, fun K hk X hX => ⟨fun q => absurd q e, fun _ => ⟨fun _ => hk, fun q => absurd en q⟩⟩, ⟨h, fun i i0 i1 => by omega, rfl, fun _ _ => rfl, rfl, rfl, rfl, rfl⟩, frR.rf⟩
  · by_cases e : m.1 16 = 40
    · obtain ⟨r1, m1, u1, v1, f1, g1, h1⟩ := h.go
      have hl := parts_loop (tp := tp) (n := n) (mm := mm) (rB := r) (mB := m) hn hmm n.toNat 0 (fun _ => 0) r1 m m1 (((kc - 1) - 1) - 1) (((ks - (n).toNat) - 8) - 8) (by omega) (by omega) (by omega) (by omega) v1 h1 g1.r (fun i i0 i1 => by omega) (by rw [g1.2]) (fun k hk => f1.1 k (by omega) (by omega) (by omega) (by omega) (by omega)) f1.2 (g1.1 24 (by decide) (by decide) (by decide) (by decide)) (by rw [g1.2]) (g1.1 21 (by decide) (by decide) (by decide) (by decide))
      exact OutP.step (fun K KX hk X hX => ⟨⟨hmm, ⟨hn.1, by omega⟩, by omega, by omega⟩, fun q => absurd q en, fun _ => h.sg sg40 (fun _ => ⟨fun q => absurd q (by decide), fun _ => ⟨⟨by omega, by omega⟩, h.sg sg40 (fun _ => ⟨⟨by omega, by omega⟩, fun q => absurd q (by decide), fun _ => u1 _ (hk X hX)⟩) (fun q => absurd e q)⟩⟩) (fun q => absurd e q)⟩) (fun K hk X hX => ⟨fun _ => ⟨fun q => absurd q en, fun _ => hk X hX⟩, fun q => absurd e q⟩) hl
    · by_cases e5 : m.1 16 = 59
      · exact OutP.bad frR.rf h.pm (by decide) (fun K KX hk X hX => ⟨⟨hmm, ⟨hn.1, by omega⟩, by omega, by omega⟩, fun q => absurd q en, fun _ => h.sg sg40 (fun q => absurd q e) (fun _ => ⟨fun _ => h.sg sg59 (fun _ => ⟨fun q => absurd q (by decide), fun _ => ⟨⟨by omega, by omega⟩, h.sg sg40 (fun q => absurd q e) (fun _ => ⟨⟨by omega, by omega⟩, fun _ => hk, fun q => absurd rfl q⟩)⟩⟩) (fun q => absurd e5 q), fun q => absurd rfl q⟩)⟩) (fun K hk X hX => ⟨fun q => absurd q e, fun _ => ⟨fun q => absurd q en, fun _ => ⟨fun _ => c_errs ⟨fun _ => hk, fun q => absurd rfl q⟩, fun q => absurd e5 q⟩⟩⟩)
      · by_cases e0 : m.1 16 = 0
        · have e1 := stp.mp e0
          exact OutP.bad frR.rf h.pm (by decide) (fun K KX hk X hX => ⟨⟨hmm, ⟨hn.1, by omega⟩, by omega, by omega⟩, fun q => absurd q en, fun _ => h.sg sg40 (fun q => absurd q e) (fun _ => ⟨fun _ => h.sg sg59 (fun q => absurd q e5) (fun _ => ⟨fun _ => ⟨fun _ => ⟨⟨by omega, by omega⟩, h.sg sg40 (fun q => absurd q e) (fun _ => ⟨⟨by omega, by omega⟩, fun _ => hk, fun q => absurd rfl q⟩)⟩, fun q => absurd e1 q⟩, fun q => absurd rfl q⟩), fun q => absurd rfl q⟩)⟩) (fun K hk X hX => ⟨fun q => absurd q e, fun _ => ⟨fun q => absurd q en, fun _ => ⟨fun q => absurd q e5, fun _ => ⟨fun _ => c_errs ⟨fun _ => hk, fun q => absurd rfl q⟩, fun q => absurd e0 q⟩⟩⟩⟩)
        · have e1 : ¬ r.1 4 = 1 := fun q => e0 (stp.mpr q)
          exact OutP.bad frR.rf h.pm (by decide) (fun K KX hk X hX => ⟨⟨hmm, ⟨hn.1, by omega⟩, by omega, by omega⟩, fun q => absurd q en, fun _ => h.sg sg40 (fun q => absurd q e) (fun _ => ⟨fun _ => h.sg sg59 (fun q => absurd q e5) (fun _ => ⟨fun _ => ⟨fun q => absurd q e1, fun _ => ⟨⟨by omega, by omega⟩, hk⟩⟩, fun q => absurd rfl q⟩), fun q => absurd rfl q⟩)⟩) (fun K hk X hX => ⟨fun q => absurd q e, fun _ => ⟨fun q => absurd q en, fun _ => ⟨fun q => absurd q e5, fun _ => ⟨fun q => absurd q e0, fun _ => c_errs ⟨fun _ => hk, fun q => absurd rfl q⟩⟩⟩⟩⟩)
