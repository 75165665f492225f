/-! THE PURE PART, 22: the system's sheet that stands: unites, hangs -/
set_option maxRecDepth 100000
theorem rn_unites {s : XS} {a b n : Int} (hT : Tr s) (hn : (s.2 4).1 1 = n) (h24 : 0 ≤ n ∧ n ≤ 24) (a0 : 0 ≤ a) (a1 : a < n) (b0 : 0 ≤ b) (b1 : b < n) (hroom : trl s + 72 ≤ 9600) : ∃ s', Rn (fun kc ks K => C_X3_unites_N kc ks a b s K) s s' ∧ Pt s s' ∧ trl s' ≤ trl s + 72 ∧ (∀ k, k ≠ 3 → k ≠ 20 → (s'.2 4).1 k = (s.2 4).1 k) ∧ ∀ j, j < 100 → (s'.2 4).2 j = if j = 0 then un n ((s.2 4).2 0) a b else (s.2 4).2 j := by
  have L : ∀ lo hi k, 0 ≤ k → k ≤ n → ∀ s1 : XS, Tr s1 → (s1.2 4).1 1 = n → trl s1 + 3 * (n - k) ≤ 9600 → ∃ s', (xq s1 ≤ xq s' ∧ ∀ (K : XS → Prop) (X : Int → Int → Int → Nat → Nat → XS → Prop), (∀ x3 x4 x5 kc ks s0, B_X3_unites_N_36 X K x3 x4 x5 kc ks s0 → X x3 x4 x5 kc ks s0) → ∀ kc ks, xq s' - xq s1 ≤ kc → xtl (xq s' + 1) - xtl (xq s1 + 1) ≤ ks → K s' → X lo hi k kc ks s1) ∧ Pt s1 s' ∧ trl s' ≤ trl s1 + 3 * (n - k) ∧ (∀ k, k ≠ 3 → k ≠ 20 → (s'.2 4).1 k = (s1.2 4).1 k) ∧ ∀ j, j < 100 → (s'.2 4).2 j = if j = 0 then (fun i => if (k ≤ i ∧ i < n) ∧ (s1.2 4).2 0 i = hi then lo else (s1.2 4).2 0 i) else (s1.2 4).2 j := by
    intro lo hi
    refine upto (P := fun k => ∀ s1 : XS, Tr s1 → (s1.2 4).1 1 = n → trl s1 + 3 * (n - k) ≤ 9600 → ∃ s', (xq s1 ≤ xq s' ∧ ∀ (K : XS → Prop) (X : Int → Int → Int → Nat → Nat → XS → Prop), (∀ x3 x4 x5 kc ks s0, B_X3_unites_N_36 X K x3 x4 x5 kc ks s0 → X x3 x4 x5 kc ks s0) → ∀ kc ks, xq s' - xq s1 ≤ kc → xtl (xq s' + 1) - xtl (xq s1 + 1) ≤ ks → K s' → X lo hi k kc ks s1) ∧ Pt s1 s' ∧ trl s' ≤ trl s1 + 3 * (n - k) ∧ (∀ k, k ≠ 3 → k ≠ 20 → (s'.2 4).1 k = (s1.2 4).1 k) ∧ ∀ j, j < 100 → (s'.2 4).2 j = if j = 0 then (fun i => if (k ≤ i ∧ i < n) ∧ (s1.2 4).2 0 i = hi then lo else (s1.2 4).2 0 i) else (s1.2 4).2 j) (fun k k0 k1 ih s1 hT1 hn1 hr1 => ?_)
    by_cases hk : n ≤ k
    · refine ⟨s1, ⟨Nat.le_refl _, fun K X hX kc ks _ _ hK => hX _ _ _ _ _ _ ⟨fun _ => hK, fun q => absurd (by rw [hn1]; exact hk) q⟩⟩, Pt.rf hT1, by omega, fun _ _ _ => rfl, fun j hj => ?_⟩
      by_cases e : j = 0
      · rw [if_pos e, e]
        funext i
        rw [if_neg (by omega)]
      · rw [if_neg e]
    · by_cases e : (s1.2 4).2 0 k = hi
      · obtain ⟨s2, r1, p1, x1, x2, x3⟩ := rn_puts (a := 0) (b := 0) (c := k) (e := lo) hT1 (Or.inl rfl) rfl ⟨k0, by omega⟩ (by omega)
        obtain ⟨s3, ⟨r2, r3⟩, p2, y1, y2, y3⟩ := ih (by omega) s2 p1.2.2.2.2.2.2 (by rw [x1 1 (by decide) (by decide)]; exact hn1) (by omega)
        have m1 := xtl_mono (show xq s1 + 1 ≤ xq s2 + 1 by have := r1.1; omega)
        have m2 := xtl_mono (show xq s2 + 1 ≤ xq s3 + 1 by omega)
        refine ⟨s3, ⟨Nat.le_trans r1.1 r2, fun K X hX kc ks h1 h2 hK => hX _ _ _ _ _ _ ⟨fun q => absurd (by rw [hn1] at q; exact q) hk, fun _ => ⟨⟨k0, by omega⟩, fun _ => ?_, fun q => absurd e q⟩⟩⟩, p1.tr p2, by omega, fun k h1 h2 => (y2 k h1 h2).trans (x1 k h1 h2), fun j hj => ?_⟩
        · exact rn_use (R := fun kc ks s6 => inI (k + 1) ∧ X lo hi (k + 1) kc ks s6) r1 r2 h1 h2 (fun kc' ks' h3 h4 => ⟨inI_s (by omega), r3 K X hX kc' ks' h3 h4 hK⟩)
        · rw [y3 j hj]
          by_cases e2 : j = 0
          · rw [if_pos e2, if_pos e2, x3 0 (by decide), if_pos rfl]
            funext i
            by_cases e3 : i = k
            · rw [e3, if_neg (by omega), iup_at, if_pos ⟨⟨Int.le_refl _, by omega⟩, e⟩]
            · rw [iup_ne e3]
              by_cases e4 : k ≤ i ∧ i < n
              · by_cases e5 : (s1.2 4).2 0 i = hi
                · rw [if_pos ⟨⟨by omega, e4.2⟩, e5⟩, if_pos ⟨e4, e5⟩]
                · rw [if_neg (fun q => e5 q.2), if_neg (fun q => e5 q.2)]
              · rw [if_neg (by omega), if_neg (by omega)]
          · rw [if_neg e2, if_neg e2, x3 j hj, if_neg e2]
      · obtain ⟨s3, ⟨r2, r3⟩, p2, y1, y2, y3⟩ := ih (by omega) s1 hT1 hn1 (by omega)
        refine ⟨s3, ⟨r2, fun K X hX kc ks h1 h2 hK => hX _ _ _ _ _ _ ⟨fun q => absurd (by rw [hn1] at q; exact q) hk, fun _ => ⟨⟨k0, by omega⟩, fun q => absurd q e, fun _ => ⟨inI_s (by omega), r3 K X hX kc ks h1 h2 hK⟩⟩⟩⟩, p2, by omega, y2, fun j hj => ?_⟩
        rw [y3 j hj]
        by_cases e2 : j = 0
        · rw [if_pos e2, if_pos e2]
          funext i
          by_cases e3 : i = k
          · rw [e3, if_neg (by omega), if_neg (fun q => e q.2)]
          · by_cases e4 : k ≤ i ∧ i < n
            · by_cases e5 : (s1.2 4).2 0 i = hi
              · rw [if_pos ⟨⟨by omega, e4.2⟩, e5⟩, if_pos ⟨e4, e5⟩]
              · rw [if_neg (fun q => e5 q.2), if_neg (fun q => e5 q.2)]
            · rw [if_neg (by omega), if_neg (by omega)]
        · rw [if_neg e2, if_neg e2]
  obtain ⟨s', ⟨r1, r2⟩, p, y1, y2, y3⟩ := L (min ((s.2 4).2 0 a) ((s.2 4).2 0 b)) (max ((s.2 4).2 0 a) ((s.2 4).2 0 b)) 0 (by omega) h24.1 s hT hn (by omega)
  refine ⟨s', ⟨r1, fun kc ks K h1 h2 hK X hX => ?_⟩, p, by omega, y2, fun j hj => ?_⟩
  · unfold B_X3_unites_N_E
    rw [jmin_min, jmax_max]
    exact ⟨⟨a0, by omega⟩, ⟨b0, by omega⟩, ⟨a0, by omega⟩, ⟨b0, by omega⟩, r2 K X hX kc ks h1 h2 hK⟩
  · rw [y3 j hj]
    by_cases e : j = 0
    · rw [if_pos e, if_pos e]
      rfl
    · rw [if_neg e, if_neg e]
/-- none, as the system writes it -/
def cv (x : Int) : Int := if x = -2 then -1 else x
theorem cv_n {x : Int} (h : x ≠ -2) : cv x = x := if_neg h
theorem cv_y : cv (-2) = -1 := rfl
theorem rn_hangs {n : Int} {rk : Int → Int} (hn : n ≤ 24) (hrk : ∀ t, 0 ≤ t → t < n → 0 ≤ rk t) : ∀ (k : Nat) (u h : Int → Int) (one on l : Int) (s : XS), Tr s → 0 ≤ one → one < n → 0 ≤ on → on < n → 0 ≤ l → l < 24 → (∀ t, 0 ≤ t → t < n → (s.2 4).2 5 t = cv (u t) ∧ (u t ≠ -2 → (s.2 4).2 6 t = h t)) → (∀ t, 0 ≤ t → t < n → rk t ≤ rk one → u t ≠ -2 → (0 ≤ u t ∧ u t < n) ∧ (0 ≤ h t ∧ h t < 24) ∧ rk (u t) < rk t) → rk one < k → trl s + 6 * (rk one + 1) ≤ 9600 →
    ∃ s', Rn (fun kc ks K => C_X5_hangs_Nf (k + 16) kc ks one on l s K) s s' ∧ Pt s s' ∧ trl s' ≤ trl s + 6 * (rk one + 1) ∧ (∀ k, k ≠ 3 → k ≠ 20 → (s'.2 4).1 k = (s.2 4).1 k) ∧ (∀ j, j < 100 → j ≠ 5 → j ≠ 6 → (s'.2 4).2 j = (s.2 4).2 j) ∧ (∀ t, 0 ≤ t → t < n → (s'.2 4).2 5 t = cv ((rev k u h one on l).1 t) ∧ ((rev k u h one on l).1 t ≠ -2 → (s'.2 4).2 6 t = (rev k u h one on l).2 t)) ∧ ∀ t, ¬ (0 ≤ t ∧ t < n) → (s'.2 4).2 5 t = (s.2 4).2 5 t := by
  intro k
  induction k with
  | zero => exact fun u h one on l s _ o0 o1 _ _ _ _ _ _ q => by have := hrk one o0 o1; omega
  | succ k ih =>
    intro u h one on l s hT o0 o1 n0 n1 l0 l1 hrow hr hk hroom
    have hro := hrk one o0 o1
    obtain ⟨s2, r1, p1, x1, x2, x3⟩ := rn_puts (a := 5) (b := 1) (c := one) (e := on) hT (Or.inr (Or.inl rfl)) rfl ⟨o0, by omega⟩ (by omega)
    obtain ⟨s3, r2, p2, y1, y2, y3⟩ := rn_puts (a := 6) (b := 2) (c := one) (e := l) p1.2.2.2.2.2.2 (Or.inr (Or.inr rfl)) rfl ⟨o0, by omega⟩ (by omega)
    have row3 : ∀ t, 0 ≤ t → t < n → (s3.2 4).2 5 t = cv (iup u one on t) ∧ (iup u one on t ≠ -2 → (s3.2 4).2 6 t = iup h one l t) := by
      intro t t0 t1
      rw [y3 5 (by decide), if_neg (by decide), x3 5 (by decide), if_pos rfl, y3 6 (by decide), if_pos rfl, x3 6 (by decide), if_neg (by decide)]
      by_cases e : t = one
      · rw [e, iup_at, iup_at, iup_at, iup_at, cv_n (by omega)]
        exact ⟨rfl, fun _ => rfl⟩
      · rw [iup_ne e, iup_ne e, iup_ne e, iup_ne e]
        exact hrow t t0 t1
    have out3 : ∀ t, ¬ (0 ≤ t ∧ t < n) → (s3.2 4).2 5 t = (s.2 4).2 5 t := by
      intro t ht
      rw [y3 5 (by decide), if_neg (by decide), x3 5 (by decide), if_pos rfl, iup_ne (by omega)]
    have oth3 : ∀ j, j < 100 → j ≠ 5 → j ≠ 6 → (s3.2 4).2 j = (s.2 4).2 j := by
      intro j h1 h2 h3
      rw [y3 j h1, if_neg h3, x3 j h1, if_neg h2]
    have int3 : ∀ k, k ≠ 3 → k ≠ 20 → (s3.2 4).1 k = (s.2 4).1 k := fun k h1 h2 => (y1 k h1 h2).trans (x1 k h1 h2)
    have hone := hrow one o0 o1
    have m12 := r1.1
    have m23 := r2.1
    by_cases hu : u one = -2
    · have e : rev (k + 1) u h one on l = (iup u one on, iup h one l) := if_pos hu
      refine ⟨s3, ⟨by omega, fun kc ks K h1 h2 hK => ?_⟩, p1.tr p2, by omega, int3, oth3, ?_, out3⟩
      · show B_X5_hangs_N_E (C_X5_hangs_Nf (k + 16)) K one on l kc ks s
        unfold B_X5_hangs_N_E
        rw [hone.1, hu, cv_y]
        refine ⟨⟨o0, by omega⟩, ⟨o0, by omega⟩, ?_⟩
        refine rn_use (R := fun kc ks s4 => ∃ mc13c mc13s, mc13c ≤ kc ∧ mc13s ≤ ks ∧ C_X3_puts_N mc13c mc13s 6 2 one l s4 (fun s10 => (((-1 : Int) = -1 → K s10) ∧ (¬ (-1 : Int) = -1 → (∃ mc19c mc19s, mc19c ≤ (kc - mc13c) ∧ mc19s ≤ (ks - mc13s) ∧ C_X5_hangs_Nf (k + 16) mc19c mc19s (-1) one ((s.2 4).2 6 one) s10 (fun s16 => K s16)))))) r1 m23 h1 h2 (fun kc' ks' h3 h4 => ?_)
        exact rn_use (R := fun kc ks s10 => (((-1 : Int) = -1 → K s10) ∧ (¬ (-1 : Int) = -1 → (∃ mc19c mc19s, mc19c ≤ kc ∧ mc19s ≤ ks ∧ C_X5_hangs_Nf (k + 16) mc19c mc19s (-1) one ((s.2 4).2 6 one) s10 (fun s16 => K s16))))) r2 (Nat.le_refl _) h3 h4 (fun kc' ks' h3 h4 => ⟨fun _ => hK, fun q => absurd rfl q⟩)
      · rw [e]; exact row3
    · have e : rev (k + 1) u h one on l = rev k (iup u one on) (iup h one l) (u one) one (h one) := if_neg hu
      obtain ⟨g1, g2, g3⟩ := hr one o0 o1 (Int.le_refl _) hu
      have hg0 := hrk _ g1.1 g1.2
      obtain ⟨s4, r3, p3, z1, z2, z3, z4, z5⟩ := ih (iup u one on) (iup h one l) (u one) one (h one) s3 p2.2.2.2.2.2.2 g1.1 g1.2 o0 o1 g2.1 g2.2 row3 (fun t t0 t1 q => by
        have : t ≠ one := fun q2 => by rw [q2] at q; omega
        rw [iup_ne this, iup_ne this]
        exact hr t t0 t1 (by omega)) (by omega) (by omega)
      have m34 := r3.1
      refine ⟨s4, ⟨by omega, fun kc ks K h1 h2 hK => ?_⟩, (p1.tr p2).tr p3, by omega, fun k h1 h2 => (z2 k h1 h2).trans (int3 k h1 h2), fun j h1 h2 h3 => (z3 j h1 h2 h3).trans (oth3 j h1 h2 h3), ?_, fun t ht => (z5 t ht).trans (out3 t ht)⟩
      · show B_X5_hangs_N_E (C_X5_hangs_Nf (k + 16)) K one on l kc ks s
        unfold B_X5_hangs_N_E
        rw [hone.1, cv_n hu, hone.2 hu]
        refine ⟨⟨o0, by omega⟩, ⟨o0, by omega⟩, ?_⟩
        refine rn_use (R := fun kc ks s4 => ∃ mc13c mc13s, mc13c ≤ kc ∧ mc13s ≤ ks ∧ C_X3_puts_N mc13c mc13s 6 2 one l s4 (fun s10 => ((u one = -1 → K s10) ∧ (¬ u one = -1 → (∃ mc19c mc19s, mc19c ≤ (kc - mc13c) ∧ mc19s ≤ (ks - mc13s) ∧ C_X5_hangs_Nf (k + 16) mc19c mc19s (u one) one (h one) s10 (fun s16 => K s16)))))) r1 (Nat.le_trans m23 m34) h1 h2 (fun kc' ks' h3 h4 => ?_)
        refine rn_use (R := fun kc ks s10 => ((u one = -1 → K s10) ∧ (¬ u one = -1 → (∃ mc19c mc19s, mc19c ≤ kc ∧ mc19s ≤ ks ∧ C_X5_hangs_Nf (k + 16) mc19c mc19s (u one) one (h one) s10 (fun s16 => K s16))))) r2 m34 h3 h4 (fun kc' ks' h3 h4 => ⟨fun q => by omega, fun _ => ?_⟩)
        exact rn_use (R := fun _ _ s16 => K s16) r3 (Nat.le_refl _) h3 h4 (fun _ _ _ _ => hK)
      · rw [e]; exact z4
