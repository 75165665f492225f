/-! ReasonCloser.text, by hand -/
set_option maxRecDepth 100000
/-- a handler takes what is thrown -/
theorem ex_catch {M : EM} {d kc ks : Nat} {Q : AO → AH → Prop} {pc a b hp ct : Nat} {lv : List (Nat × AV)} {h : AH} {E name : String} {i : EId} (htb : M.2.2.2.2 = [(a, b, hp, ct)]) (hcov : (tableOf [(a, b, hp, ct)]).all (fun x => covers x pc) = true) (h0 : ct ≠ 0) (hi : i.1 ≠ 8) (w1 : Cond.classLink M.1.cls ct name ∈ lw_all) (w2 : Cond.castable E name ∈ lw_tbl) (k : EW M d kc ks Q hp lv [aR (some i)] h) : EX M d kc ks Q pc lv h E i := by
  intro D p l e R s m args below meth c Z A ad0 h0' G EZ H locs cells slots ad ls rest q ce I hin hce hcv hcl
  obtain ⟨hq, hok⟩ := hin hi
  subst hq
  have ht := G.1.2.2.2.2.2.2.2.1
  rw [htb] at ht
  refine vx_catch (own := M.1.cls) (name := name) G.1.2.2.2.2.2.1 [] _ [] ht (fun z hz => by cases hz) (List.all_eq_true.mp hcov _ List.mem_cons_self) h0 (G.2.1.1 _ w1) (G.2.1.2.1.use w2 rfl) hce hcv hcl ?_
  exact k D p l e R s m args below meth c Z A ad0 h0' G EZ H locs cells slots ad ls I (fun v hv => by rw [List.mem_singleton.mp hv]; exact hok)
/-- fields beyond a class's count don't matter -/
theorem ew_cong {M : EM} {d kc ks : Nat} {Q : AO → AH → Prop} {pc ci : Nat} {lv : List (Nat × AV)} {st : List AV} {h : AH} {i : EId} {fs fs' : Nat → AV} {r : vw_C} (hi : h i = some (kO ci fs)) (hr : e_cl[ci]? = some r) (he : ∀ k, k < r.2.2 → fs' k = fs k) (k : EW M d kc ks Q pc lv st (hup h i (kO ci fs'))) : EW M d kc ks Q pc lv st h := by
  have hn : ∀ j, h j ≠ none → hup h i (kO ci fs') j ≠ none := fun j hj => by
    by_cases e : j = i
    · rw [e, hup_self]; exact fun q => by cases q
    · rw [hup_ne e]; exact hj
  have hn' : ∀ j, hup h i (kO ci fs') j ≠ none → h j ≠ none := fun j hj => by
    by_cases e : j = i
    · rw [e, hi]; exact fun q => by cases q
    · rw [hup_ne e] at hj; exact hj
  intro D p l e R s m args below meth c Z A ad0 h0 G EZ H locs cells slots ad ls I hst
  obtain ⟨⟨hR, hX, hdm, hS⟩, ⟨lo, hl⟩, r1⟩ := I
  refine k D p l e R s m args below meth c Z A ad0 h0 G EZ H locs cells slots ad ls ⟨⟨⟨fun j c' hj => ?_, fun a b ha hb e => hR.2 a b (hn' a ha) (hn' b hb) e⟩, hX, fun j hj => hn j (hdm j hj), hS⟩, ⟨fun q hq => (lo q hq).mono hn, hl⟩, r1⟩ (fun v hv => (hst v hv).mono hn)
  by_cases e : j = i
  · subst e
    rw [hup_self] at hj
    cases hj
    obtain ⟨⟨r', a1, a2⟩, b, c9, d9⟩ := hR.1 j _ hi
    cases (e_cx_of hr).symm.trans a1
    refine ⟨⟨r, a1, ?_⟩, b, fun k r' hr' hk => ?_, d9⟩
    · obtain ⟨cell, q1, q2, q3, q4⟩ := a2
      exact ⟨cell, q1, q2, q3, fun k hk => by show _ = some (e_v ad (fs' k)); rw [he k hk]; exact q4 k hk⟩
    · cases a1.symm.trans hr'
      rw [he k hk]
      exact (c9 k r a1 hk).mono hn
  · rw [hup_ne e] at hj
    obtain ⟨a1, a2, a3, a4⟩ := hR.1 j _ hj
    exact ⟨a1, a2, a3.mono hn, a4⟩
def xregD (V : XV) (i : EId) : Decidable (xreg V i) := by unfold xreg; exact inferInstance
/-- the names in hand -/
def okG (V : XV) (N : Nat) (g : AH) : Prop := xfree V g ∧ (∀ j, V j < N) ∧ (∀ i : EId, 10 + N ≤ i.1 → g i = none) ∧ ∀ i : EId, i.1 = 1 ∨ i.1 = 2 ∨ i.1 = 3 → g i = none
def V1of (V : XV) (N : Nat) : XV := fun j => if j = 0 ∨ j = 1 then V j else N
def xjoin (s : XS) (r : MS) : XS := ((fun k => if k < 30 then s.1.1 k else r.1 k, fun k => if k < 30 then s.1.2 k else r.2 k), fun j => if j < 2 then s.2 j else sr0)
def tg1 (V : XV) (N : Nat) (s : XS) (g : AH) (r : MS) : AH := fun i => @ite _ (xreg (V1of V N) i) (xregD _ _) none (rh (V1of V N) r (xh V s g) i)
theorem xreg_lt {V : XV} {N : Nat} (hV : ∀ j, V j < N) {i : EId} (h : xreg V i) : i.1 < 10 + N := by
  rcases h with h | h | h | h
  · omega
  · have := hV 9
    omega
  · have := hV (i.2.1 - 20)
    omega
  · have := hV (i.2.1 - 30)
    omega
theorem okG.out {V : XV} {N : Nat} {g : AH} (h : okG V N g) {s : XS} {i : EId} (hi : 10 + N ≤ i.1) : xh V s g i = none := by
  rw [xh_g]
  · exact h.2.2.1 i hi
  · cases hc : xC V s i with
    | none => rfl
    | some c =>
      have := xreg_lt h.2.1 (xC_reg (i := i) (by rw [hc]; exact fun q => by cases q))
      omega
theorem xC_low {V : XV} {s : XS} {i : EId} (h : i.1 < 10) (h2 : ¬ (i.1 = 0 ∧ i.2.1 = 2)) : xC V s i = none := by
  cases hc : xC V s i with
  | none => rfl
  | some c =>
    have := xC_reg (i := i) (by rw [hc]; exact fun q => by cases q)
    unfold xreg at this
    omega
theorem xCx_same {V V' : XV} {r r' : MS} (h : r'.2 = r.2) {k : Nat} (hk : k ≠ 99) : xCx V' r' k = xCx V r k := by
  unfold xCx
  rw [h]
  split <;> first | rfl | exact absurd rfl hk
theorem xC_same {V : XV} {s s' : XS} (h1 : ∀ k, 30 ≤ k → s'.1.1 k = s.1.1 k) (h2 : s'.1.2 = s.1.2) (h3 : s'.2 = s.2) {i : EId} (hi : i ≠ xT) : xC V s' i = xC V s i := by
  unfold xC
  rw [h3, bC_cong (V := V) h1 (fun k _ => by rw [h2])]
  split
  · next e =>
    have hk : i.2.2 ≠ 99 := fun q => hi (by obtain ⟨a, b, c⟩ := i; simp at e q; simp [e, q])
    exact xCx_same h2 hk
  · rfl
theorem refs_x {V : XV} {s : XS} : e_refs (fun r => xC V s r ≠ none) (kO 0 (xF V s.1)) := by
  have hx : ∀ k, xCx V s.1 k ≠ none → xC V s (0, 2, k) ≠ none := fun k h => by rw [xC_x]; exact h
  have hs : ∀ j, j < 5 → xC V s (sI V j 99) ≠ none := fun j hj => by rw [xC_s hj]; exact fun q => by cases q
  have hb : xC V s (bI V 1 0) ≠ none := by rw [xC_b (by decide)]; exact fun q => by cases q
  intro k i h
  unfold xF at h
  split at h <;> first | (cases h; done) | (cases h; first | exact hx _ (fun q => by cases q) | exact hs _ (by decide) | exact hb)
section TX
variable {V : XV} {N j k : Nat} {s : XS} {g : AH} {r : MS} {i : EId}
theorem V1_lt (hV : ∀ j, V j < N) (j : Nat) : V1of V N j < N + 1 := by
  unfold V1of
  split
  · have := hV j; omega
  · omega
/-- away from the new names nothing is new -/
theorem tg1_o (hi : ¬ xreg (V1of V N) i) (h2 : i ≠ rT) : tg1 V N s g r i = xh V s g i := by
  unfold tg1
  rw [if_neg hi, rh_g]
  unfold rC
  rw [if_neg h2, if_neg (fun q => hi (Or.inr (Or.inl q)))]
theorem tg1_free : xfree (V1of V N) (tg1 V N s g r) := fun i hi => if_pos hi
theorem tg1_t (hk : okG V N g) : xf 48 (tg1 V N s g r) := fun i hi _ => by
  rw [tg1_o (fun q => by unfold xreg at q; omega) (fun q => by rw [q] at hi; exact absurd hi (by decide)), xh_g (xC_1 hi)]
  exact hk.2.2.2 i (Or.inl hi)
theorem rh_out (hk : okG V N g) {j k : Nat} (hj : 2 ≤ j ∧ j < 5) : rh (V1of V N) r (xh V s g) (sI (V1of V N) j k) = none := by
  rw [rh_g, hk.out (by show 10 + N ≤ 10 + V1of V N j; unfold V1of; rw [if_neg (by omega)]; exact Nat.le_refl _)]
  unfold rC
  rw [if_neg (fun q => by have := congrArg (fun i : EId => i.1) q; simp at this; omega), if_neg (fun q => by have := q.2; simp at this; omega)]
theorem rh_outt (hk : okG V N g) {j k : Nat} (hj : 2 ≤ j ∧ j < 5) : rh (V1of V N) r (xh V s g) (tI (V1of V N) j k) = none := by
  rw [rh_g, hk.out (by show 10 + N ≤ 10 + V1of V N j; unfold V1of; rw [if_neg (by omega)]; exact Nat.le_refl _)]
  unfold rC
  rw [if_neg (fun q => by have := congrArg (fun i : EId => i.1) q; simp at this; omega), if_neg (fun q => by have := q.2; simp at this; omega)]
theorem xh_rfr (hk : okG V N g) : rfr (V1of V N) (xh V s g) := fun reg k _ => hk.out (by show 10 + N ≤ 10 + V1of V N 9; unfold V1of; rw [if_neg (by decide)]; exact Nat.le_refl _)
/-- the heap after the constructors -/
def tH (V : XV) (N : Nat) (s : XS) (g : AH) (r : MS) : AH := hup (sset (V1of V N) 3 sr0 (sset (V1of V N) 2 sr0 (sset (V1of V N) 4 sr0 (rh (V1of V N) r (xh V s g))))) xT (kO 0 (fup (fup (fup (fup (xF V s.1) 5 (aR (some (bI (V1of V N) 1 0)))) 6 (aR (some (sI (V1of V N) 4 99)))) 7 (aR (some (sI (V1of V N) 2 99)))) 8 (aR (some (sI (V1of V N) 3 99)))))
theorem rh_s (hj : j < 2) : rh (V1of V N) r (xh V s g) (sI V j k) = bor (sC V (s.2 j) j k) (g (sI V j k)) := by
  rw [rh_g]
  · cases h : sC V (s.2 j) j k with
    | none => exact xh_g ((xC_s (by omega)).trans h)
    | some c => exact xh_of ((xC_s (by omega)).trans h)
  · unfold rC
    rw [if_neg (fun q => by have := congrArg (fun i : EId => i.1) q; simp at this; omega), if_neg (fun q => by have := q.2; simp at this; omega)]
theorem rh_t (hj : j < 2) : rh (V1of V N) r (xh V s g) (tI V j k) = bor (tC (s.2 j) j k) (g (tI V j k)) := by
  rw [rh_g]
  · cases h : tC (s.2 j) j k with
    | none => exact xh_g ((xC_t (by omega)).trans h)
    | some c => exact xh_of ((xC_t (by omega)).trans h)
  · unfold rC
    rw [if_neg (fun q => by have := congrArg (fun i : EId => i.1) q; simp at this; omega), if_neg (fun q => by have := q.2; simp at this; omega)]
theorem V1_s (hj : j < 2) : (sI (V1of V N) j k : EId) = sI V j k := by
  show ((10 + V1of V N j, 20 + j, k) : EId) = (10 + V j, 20 + j, k)
  unfold V1of
  rw [if_pos (by omega)]
theorem V1_t (hj : j < 2) : (tI (V1of V N) j k : EId) = tI V j k := by
  show ((10 + V1of V N j, 30 + j, k) : EId) = (10 + V j, 30 + j, k)
  unfold V1of
  rw [if_pos (by omega)]
theorem tH_s (hj : j < 2) : tH V N s g r (sI (V1of V N) j k) = bor (sC V (s.2 j) j k) (g (sI V j k)) := by
  unfold tH
  rw [lx_s rfl, sset_ss (by omega), sset_ss (by omega), sset_ss (by omega), V1_s hj, rh_s hj]
theorem tH_t (hj : j < 2) : tH V N s g r (tI (V1of V N) j k) = bor (tC (s.2 j) j k) (g (tI V j k)) := by
  unfold tH
  rw [lx_t rfl, sset_tt (by omega), sset_tt (by omega), sset_tt (by omega), V1_t hj, rh_t hj]
theorem sC_V {V V' : XV} {r : MS} {j k : Nat} (h : k ≠ 99) : sC V r j k = sC V' r j k := by
  unfold sC
  split <;> first | rfl | exact absurd rfl h
theorem tH_eq (hk : okG V N g) : hup (hup (tH V N s g r) (sI (V1of V N) 0 99) (kO 3 (sF (V1of V N) (s.2 0) 0))) (sI (V1of V N) 1 99) (kO 3 (sF (V1of V N) (s.2 1) 1)) = xh (V1of V N) (xjoin s r) (tg1 V N s g r) := by
  funext i
  have hgs : ∀ j k, j < 2 → g (sI V j k) = none := fun j k hj => hk.1 _ (Or.inr (Or.inr (Or.inl ⟨⟨by show 20 ≤ 20 + j; omega, by show 20 + j < 25; omega⟩, by show 10 + V j = 10 + V (20 + j - 20); rw [show 20 + j - 20 = j by omega]⟩)))
  have hgt : ∀ j k, j < 2 → g (tI V j k) = none := fun j k hj => hk.1 _ (Or.inr (Or.inr (Or.inr ⟨⟨by show 30 ≤ 30 + j; omega, by show 30 + j < 35; omega⟩, by show 10 + V j = 10 + V (30 + j - 30); rw [show 30 + j - 30 = j by omega]⟩)))
  by_cases c1 : i.1 = 0 ∧ i.2.1 = 2
  · have hg : tg1 V N s g r i = none := if_pos (Or.inl c1)
    obtain ⟨a, b, k⟩ := i
    obtain ⟨rfl, rfl⟩ : a = 0 ∧ b = 2 := c1
    rw [hup_ne (fun e => by simp at e), hup_ne (fun e => by simp at e)]
    unfold tH
    by_cases e99 : k = 99
    · subst e99
      rw [hup_self, xh_of xC_x]
      refine congrArg (fun f => some (kO 0 f)) (funext fun x => ?_)
      by_cases hx : x < 19
      · rcases (show x = 0 ∨ x = 1 ∨ x = 2 ∨ x = 3 ∨ x = 4 ∨ x = 5 ∨ x = 6 ∨ x = 7 ∨ x = 8 ∨ x = 9 ∨ x = 10 ∨ x = 11 ∨ x = 12 ∨ x = 13 ∨ x = 14 ∨ x = 15 ∨ x = 16 ∨ x = 17 ∨ x = 18 by omega) with rfl | rfl | rfl | rfl | rfl | rfl | rfl | rfl | rfl | rfl | rfl | rfl | rfl | rfl | rfl | rfl | rfl | rfl | rfl <;> rfl
      · rw [fup_ne (by omega), fup_ne (by omega), fup_ne (by omega), fup_ne (by omega)]
        obtain ⟨y, rfl⟩ : ∃ y, x = y + 19 := ⟨x - 19, by omega⟩
        rfl
    · rw [hup_ne (fun e => e99 (by simpa using e)), sset_o (Or.inl rfl), sset_o (Or.inl rfl), sset_o (Or.inl rfl), rh_g (rC_0 rfl)]
      have hc : xCx (V1of V N) (xjoin s r).1 k = xCx V s.1 k := by
        unfold xCx
        split <;> first | rfl | exact absurd rfl e99
      have hg9 : g (0, 2, k) = none := hk.1 _ (Or.inl ⟨rfl, rfl⟩)
      cases h : xCx V s.1 k with
      | none => rw [xh_g (xC_x.trans h), xh_g (xC_x.trans (hc.trans h)), hg, hg9]
      | some c => rw [xh_of (xC_x.trans h), xh_of (xC_x.trans (hc.trans h))]
  · have nx : i ≠ xT := fun e => c1 (by rw [e]; exact ⟨rfl, rfl⟩)
    by_cases hi : breg (V1of V N) i
    · obtain ⟨reg, k, hg9, rfl⟩ : ∃ reg k, reg < 20 ∧ i = bI (V1of V N) reg k := ⟨i.2.1, i.2.2, hi.2, breg_eq hi⟩
      have hg : tg1 V N s g r (bI (V1of V N) reg k) = none := if_pos (Or.inr (Or.inl hi))
      have R : xh (V1of V N) (xjoin s r) (tg1 V N s g r) (bI (V1of V N) reg k) = bor (bC (V1of V N) (xjoin s r).1 reg k) (tg1 V N s g r (bI (V1of V N) reg k)) := (bkH_x (V := V1of V N) (y := (xjoin s r).2)).1 (xjoin s r).1 _ reg k hg9
      rw [R, hg, bC_cong (r := r) (r' := (xjoin s r).1) (fun k h => if_neg (by omega)) (fun k h => if_neg (by omega))]
      rw [hup_ne (b_ns hg9), hup_ne (b_ns hg9)]
      unfold tH
      rw [lx_b rfl, sset_o (Or.inr (bI_reg hg9)), sset_o (Or.inr (bI_reg hg9)), sset_o (Or.inr (bI_reg hg9)), bkH_r.1 _ _ _ _ hg9, xh_rfr hk _ _ hg9]
    · by_cases c3 : ∃ j k, j < 5 ∧ i = sI (V1of V N) j k
      · obtain ⟨j, k, hj, rfl⟩ := c3
        have hg : tg1 V N s g r (sI (V1of V N) j k) = none := if_pos (Or.inr (Or.inr (Or.inl ⟨⟨by show 20 ≤ 20 + j; omega, by show 20 + j < 25; omega⟩, by show 10 + V1of V N j = 10 + V1of V N (20 + j - 20); rw [show 20 + j - 20 = j by omega]⟩)))
        have R : xh (V1of V N) (xjoin s r) (tg1 V N s g r) (sI (V1of V N) j k) = bor (sC (V1of V N) ((xjoin s r).2 j) j k) none := by
          rw [← hg]
          cases h : sC (V1of V N) ((xjoin s r).2 j) j k with
          | none => exact xh_g ((xC_s hj).trans h)
          | some c => exact xh_of ((xC_s hj).trans h)
        rw [R]
        rcases (show j = 0 ∨ j = 1 ∨ j = 2 ∨ j = 3 ∨ j = 4 by omega) with rfl | rfl | rfl | rfl | rfl
        · rw [hup_ne (fun e => by simp only [sI, Prod.mk.injEq] at e; omega)]
          by_cases e99 : k = 99
          · subst e99
            rw [hup_self]
            rfl
          · rw [hup_ne (sI_ne e99), tH_s (by decide), hgs 0 k (by decide), sC_V e99]
            rfl
        · by_cases e99 : k = 99
          · subst e99
            rw [hup_self]
            rfl
          · rw [hup_ne (sI_ne e99), hup_ne (fun e => by simp only [sI, Prod.mk.injEq] at e; omega), tH_s (by decide), hgs 1 k (by decide), sC_V e99]
            rfl
        · rw [hup_ne (fun e => by simp only [sI, Prod.mk.injEq] at e; omega), hup_ne (fun e => by simp only [sI, Prod.mk.injEq] at e; omega)]
          unfold tH
          rw [lx_s rfl, sset_ss (by decide), sset_s, sset_ss (by decide), rh_out hk (by decide)]
          rfl
        · rw [hup_ne (fun e => by simp only [sI, Prod.mk.injEq] at e; omega), hup_ne (fun e => by simp only [sI, Prod.mk.injEq] at e; omega)]
          unfold tH
          rw [lx_s rfl, sset_s, sset_ss (by decide), sset_ss (by decide), rh_out hk (by decide)]
          rfl
        · rw [hup_ne (fun e => by simp only [sI, Prod.mk.injEq] at e; omega), hup_ne (fun e => by simp only [sI, Prod.mk.injEq] at e; omega)]
          unfold tH
          rw [lx_s rfl, sset_ss (by decide), sset_ss (by decide), sset_s, rh_out hk (by decide)]
          rfl
      · by_cases c4 : ∃ j k, j < 5 ∧ i = tI (V1of V N) j k
        · obtain ⟨j, k, hj, rfl⟩ := c4
          have hg : tg1 V N s g r (tI (V1of V N) j k) = none := if_pos (Or.inr (Or.inr (Or.inr ⟨⟨by show 30 ≤ 30 + j; omega, by show 30 + j < 35; omega⟩, by show 10 + V1of V N j = 10 + V1of V N (30 + j - 30); rw [show 30 + j - 30 = j by omega]⟩)))
          have R : xh (V1of V N) (xjoin s r) (tg1 V N s g r) (tI (V1of V N) j k) = bor (tC ((xjoin s r).2 j) j k) none := by
            rw [← hg]
            cases h : tC ((xjoin s r).2 j) j k with
            | none => exact xh_g ((xC_t hj).trans h)
            | some c => exact xh_of ((xC_t hj).trans h)
          rw [R, hup_ne (fun e => c3 ⟨1, 99, by decide, e⟩), hup_ne (fun e => c3 ⟨0, 99, by decide, e⟩)]
          rcases (show j = 0 ∨ j = 1 ∨ j = 2 ∨ j = 3 ∨ j = 4 by omega) with rfl | rfl | rfl | rfl | rfl
          · rw [tH_t (by decide), hgt 0 k (by decide)]
            rfl
          · rw [tH_t (by decide), hgt 1 k (by decide)]
            rfl
          · unfold tH
            rw [lx_t rfl, sset_tt (by decide), sset_t, sset_tt (by decide), rh_outt hk (by decide)]
            rfl
          · unfold tH
            rw [lx_t rfl, sset_t, sset_tt (by decide), sset_tt (by decide), rh_outt hk (by decide)]
            rfl
          · unfold tH
            rw [lx_t rfl, sset_tt (by decide), sset_tt (by decide), sset_t, rh_outt hk (by decide)]
            rfl
        · have ns : ∀ j, j < 5 → sC2 (V1of V N) sr0 j i = none := fun j hj => sC2_n (fun k e => c3 ⟨j, k, hj, e⟩) (fun k e => c4 ⟨j, k, hj, e⟩)
          have h3 : ¬ ((20 ≤ i.2.1 ∧ i.2.1 < 25) ∧ i.1 = 10 + V1of V N (i.2.1 - 20)) := fun w => c3 ⟨i.2.1 - 20, i.2.2, by omega, by obtain ⟨a, b, c⟩ := i; simp at w; simp only [sI, Prod.mk.injEq]; exact ⟨w.2, by omega, trivial⟩⟩
          have h4 : ¬ ((30 ≤ i.2.1 ∧ i.2.1 < 35) ∧ i.1 = 10 + V1of V N (i.2.1 - 30)) := fun w => c4 ⟨i.2.1 - 30, i.2.2, by omega, by obtain ⟨a, b, c⟩ := i; simp at w; simp only [tI, Prod.mk.injEq]; exact ⟨w.2, by omega, trivial⟩⟩
          have hx : ¬ xreg (V1of V N) i := fun q => by
            rcases q with q | q | q | q
            · exact c1 q
            · exact hi q
            · exact h3 q
            · exact h4 q
          have R : xh (V1of V N) (xjoin s r) (tg1 V N s g r) i = rh (V1of V N) r (xh V s g) i := (xh_g (by
            unfold xC
            rw [if_neg c1, if_neg (show ¬ (i.1 = 10 + V1of V N 9 ∧ i.2.1 < 20) from hi), if_neg h3, if_neg h4])).trans (if_neg hx)
          rw [R, hup_ne (fun e => c3 ⟨1, 99, by decide, e⟩), hup_ne (fun e => c3 ⟨0, 99, by decide, e⟩)]
          unfold tH
          rw [hup_ne nx, show ∀ h : AH, sset (V1of V N) 3 sr0 h i = h i from fun h => by unfold sset; rw [ns 3 (by decide)]; rfl, show ∀ h : AH, sset (V1of V N) 2 sr0 h i = h i from fun h => by unfold sset; rw [ns 2 (by decide)]; rfl, show ∀ h : AH, sset (V1of V N) 4 sr0 h i = h i from fun h => by unfold sset; rw [ns 4 (by decide)]; rfl]
end TX
/-- what is known as text's frame ends -/
def txR (V : XV) (N : Nat) (s0 s2 : XS) (g : AH) (K : Int → XS → Prop) : AO → AH → Prop := fun o h => (∃ n s, o = Sum.inl (some (aI n)) ∧ h = xh V s g ∧ K n s) ∨
  (∃ s h', o = Sum.inl (some (aI (-1))) ∧ h = xh V s h' ∧ ((∀ k, 30 ≤ k → s.1.1 k = s0.1.1 k) ∧ s.1.2 = s0.1.2 ∧ s.2 = s0.2) ∧ (∀ i, ¬ rreg (V1of V N) i → xh V s2 g i ≠ none → h' i = xh V s2 g i) ∧ K (-1) s) ∨
  ∃ n s r G, o = Sum.inl (some (aI n)) ∧ h = xh (V1of V N) s G ∧ eX (tg1 V N s2 g r) G ∧ K n s
/-- text's end: the system stands under names of its own, the rest is as before -/
def txQ (g : AH) (K : Int → XS → Prop) : AO → AH → Prop := fun o h => ∃ n s V' N' g', o = Sum.inl (some (aI n)) ∧ h = xh V' s g' ∧ okG V' N' g' ∧ (∀ i : EId, i.1 < 10 → g' i = g i) ∧ K n s
theorem txQ_x {V : XV} {N : Nat} {s0 s2 : XS} {g : AH} {K : Int → XS → Prop} (hk : okG V N g) (h1 : ∀ k, 30 ≤ k → s2.1.1 k = s0.1.1 k) (h2 : s2.1.2 = s0.1.2) (h3 : s2.2 = s0.2) : ∀ o h, txR V N s0 s2 g K o h → (∃ o' h1, o = Sum.inl o' ∧ e_plain o' ∧ (∀ i c, h1 i = some c → h i = some c) ∧ ((∀ i, xh V s0 g i ≠ none → h i ≠ none) → ∀ i, xh V s0 g i ≠ none → h1 i ≠ none) ∧ (∀ i c, h1 i = some c → xh V s0 g i = some c ∨ e_refs (fun r => h r ≠ none → h1 r ≠ none) c) ∧ txQ g K o h1) := by
  have hsame : ∀ i, i ≠ xT → xh V s2 g i = xh V s0 g i := fun i hi => by unfold xh; rw [xC_same h1 h2 h3 hi]
  rintro o h (⟨n, s, rfl, rfl, hK⟩ | ⟨s, h', rfl, rfl, ⟨e1, e2, e3⟩, hh, hK⟩ | ⟨n, s, r, G, rfl, rfl, hX, hK⟩)
  · exact ⟨_, xh V s g, rfl, trivial, fun i c hi => hi, fun hd => hd, fun i c hi => Or.inr (by
      match c with
      | Sum.inl _ => trivial
      | Sum.inr (Sum.inl _) => trivial
      | Sum.inr (Sum.inr (Sum.inl (_, _, f))) => exact fun j r _ h => h
      | Sum.inr (Sum.inr (Sum.inr (_, f))) => exact fun j r _ h => h), n, s, V, N, g, rfl, rfl, hk, fun _ _ => rfl, hK⟩
  · have hx : ∀ i, i ≠ xT → xC V s i = xC V s0 i := fun i hi => xC_same e1 e2 e3 hi
    refine ⟨_, xh V s g, rfl, trivial, fun i c hi => ?_, fun hd i hi => ?_, fun i c hi => ?_, -1, s, V, N, g, rfl, rfl, hk, fun _ _ => rfl, hK⟩
    · cases hc : xC V s i with
      | some c' => rw [xh_of hc] at hi ⊢; exact hi
      | none =>
        rw [xh_g hc] at hi
        have hne : i ≠ xT := fun e => by rw [e, xC_x] at hc; cases hc
        have hc2 : xC V s2 i = none := by rw [xC_same h1 h2 h3 hne, ← hx i hne]; exact hc
        have hr : ¬ rreg (V1of V N) i := fun q => by
          rcases q with q | q | q
          · rw [hk.2.2.2 i (by rw [q]; exact Or.inr (Or.inl rfl))] at hi; cases hi
          · rw [hk.2.2.2 i (by rw [q]; exact Or.inr (Or.inr rfl))] at hi; cases hi
          · rw [hk.2.2.1 i (by rw [q.1]; show 10 + N ≤ 10 + V1of V N 9; unfold V1of; rw [if_neg (by decide)]; exact Nat.le_refl _)] at hi; cases hi
        rw [xh_g hc, hh i hr (by rw [xh_g hc2, hi]; exact fun q => by cases q), xh_g hc2]
        exact hi
    · by_cases hne : i = xT
      · rw [hne, xh_of xC_x]; exact fun q => by cases q
      · unfold xh at hi ⊢
        rw [hx i hne]
        exact hi
    · by_cases hne : i = xT
      · subst hne
        rw [xh_of xC_x] at hi
        cases hi
        exact Or.inr (e_refs_mono refs_x fun r hr _ => by
          cases hc : xC V s r with
          | none => exact absurd hc hr
          | some c => rw [xh_of hc]; exact fun q => by cases q)
      · refine Or.inl ?_
        unfold xh at hi ⊢
        rw [← hx i hne]
        exact hi
  · have hG : ∀ i : EId, i.1 ≠ 1 → G i = tg1 V N s2 g r i := fun i hi => hX i (Or.inl hi)
    have ho : ∀ i : EId, ¬ (i.1 = 1 ∨ i.1 = 2 ∨ i.1 = 3) → ¬ xreg (V1of V N) i → tg1 V N s2 g r i = xh V s0 g i := fun i h1 h2 => by
      rw [tg1_o h2 (fun e => h1 (by rw [e]; exact Or.inr (Or.inl rfl))), hsame i (fun e => h2 (by rw [e]; exact Or.inl ⟨rfl, rfl⟩))]
    refine ⟨_, xh (V1of V N) s (fun i => if i.1 = 1 ∨ i.1 = 2 ∨ i.1 = 3 then none else tg1 V N s2 g r i), rfl, trivial, fun i c hi => ?_, fun hd i hi => ?_, fun i c hi => ?_, n, s, V1of V N, N + 1, _, rfl, rfl, ⟨fun i hi => ?_, V1_lt hk.2.1, fun i hi => ?_, fun i hi => if_pos hi⟩, fun i hi => ?_, hK⟩
    · cases hc : xC (V1of V N) s i with
      | some c' => rw [xh_of hc] at hi ⊢; exact hi
      | none =>
        rw [xh_g hc] at hi ⊢
        by_cases ht : i.1 = 1 ∨ i.1 = 2 ∨ i.1 = 3
        · rw [if_pos ht] at hi; cases hi
        · rw [if_neg ht] at hi
          rw [hG i (fun e => ht (Or.inl e))]
          exact hi
    · have h9 := hd i hi
      cases hc : xC (V1of V N) s i with
      | some c' => rw [xh_of hc]; exact fun q => by cases q
      | none =>
        rw [xh_g hc] at h9 ⊢
        by_cases ht : i.1 = 1 ∨ i.1 = 2 ∨ i.1 = 3
        · exfalso
          refine hi ?_
          rw [xh_g (xC_low (by omega) (by omega))]
          exact hk.2.2.2 i ht
        · rw [if_neg ht, ← hG i (fun e => ht (Or.inl e))]
          exact h9
    · cases hc : xC (V1of V N) s i with
      | some c' =>
        rw [xh_of hc] at hi
        cases hi
        refine Or.inr (e_refs_mono (xC_good hc) fun r' hg h9 => ?_)
        cases hcr : xC (V1of V N) s r' with
        | some c => rw [xh_of hcr]; exact fun q => by cases q
        | none =>
          rw [xh_g hcr] at h9 ⊢
          have ht : ¬ (r'.1 = 1 ∨ r'.1 = 2 ∨ r'.1 = 3) := by unfold xgood at hg; omega
          rw [if_neg ht, ← hG r' (fun e => ht (Or.inl e))]
          exact h9
      | none =>
        rw [xh_g hc] at hi
        by_cases ht : i.1 = 1 ∨ i.1 = 2 ∨ i.1 = 3
        · rw [if_pos ht] at hi; cases hi
        · rw [if_neg ht] at hi
          by_cases hx : xreg (V1of V N) i
          · rw [tg1_free i hx] at hi; cases hi
          · rw [ho i ht hx] at hi
            exact Or.inl hi
    · by_cases ht : i.1 = 1 ∨ i.1 = 2 ∨ i.1 = 3
      · exact if_pos ht
      · exact (if_neg ht).trans (tg1_free i hi)
    · have ht : ¬ (i.1 = 1 ∨ i.1 = 2 ∨ i.1 = 3) := by omega
      refine (if_neg ht).trans ?_
      by_cases hx : xreg (V1of V N) i
      · exact tg1_free i hx
      · rw [ho i ht hx]
        exact hk.out (by omega)
    · by_cases ht : i.1 = 1 ∨ i.1 = 2 ∨ i.1 = 3
      · exact (if_pos ht).trans (hk.2.2.2 i ht).symm
      · refine (if_neg ht).trans ?_
        by_cases hx : xreg (V1of V N) i
        · rw [tg1_free i hx]
          unfold xreg at hx
          exact (hk.1 i (Or.inl (by omega))).symm
        · rw [ho i ht hx]
          exact xh_g (xC_low hi (fun q => hx (Or.inl q)))
def C_X1_text (kr sr kl sl : Nat) (a : Int) (s0 : XS) (K : Int → XS → Prop) : Prop := C_X1_isIn a 0 (s0.1.1 3) (fun r1 => (r1 = 0 → C_X1_refused 2 s0 K) ∧ (¬ r1 = 0 → ∀ s2, s2 = xs (xs s0 3 0) 4 0 → C_X8_read kr sr (s2.1.2 2) (rr0 a)
  (fun r => C_X1_textL kl sl (xjoin s2 r) K)
  (fun kd pl => ∀ s3, s3 = xs s2 4 kd → C_X1_refused 4 s3 (fun _ s4 => ((∀ k, 30 ≤ k → s4.1.1 k = s3.1.1 k) ∧ s4.1.2 = s3.1.2 ∧ s4.2 = s3.2) ∧ K (-1) (xs s4 1 pl)))))
theorem tf_6 : e_fd [7] 6 "ReasonCloser$Fault" "kind" "I" true := e_fd1 (r := (RX9, TX9, 8)) rfl (by decide) rfl
theorem tf_7 : e_fd [7] 7 "ReasonCloser$Fault" "place" "I" true := e_fd1 (r := (RX9, TX9, 8)) rfl (by decide) rfl
theorem r9_1 : (rT : EId).1 ≠ 9 := by decide
set_option maxHeartbeats 4000000 in
theorem S_X1_text {d : Nat} {V : XV} {N : Nat} {g : AH} {K : Int → XS → Prop} {a : Int} {s0 : XS} {kr sr kl sl : Nat} (hk : okG V N g) (H : C_X1_text kr sr kl sl a s0 K) : Sp mm_X1_text (d + 48) (kr + kl + 29) (sr + sl + 624) [aR (some xT), aI a] (xh V s0 g) (txQ g K) := by
  refine Sp.forgetF (txQ_x (s2 := xs (xs s0 3 0) 4 0) hk (fun k hk => (ms_n (by omega)).trans (ms_n (by omega))) rfl rfl) ?_
  refine ew_sp rfl (Nat.le_of_ble_eq_true rfl) ?_
  unfold C_X1_text at H
  refine ew_iload_n dX1_text_0 rfl lm1 ?_
  refine ew_iconst dX1_text_1 (inI_of rfl) ?_
  refine ew_aload_n dX1_text_2 rfl lm0 ?_
  refine xw_get (v := aI (s0.1.1 3)) dX1_text_3 (e_fl.a q331) xf_3 rfl ?_
  refine ew_callS (d := d + 47) (as := [aI a, aI 0, aI (s0.1.1 3)]) rfl dX1_text_6 me_X1_isIn rfl (Or.inl q403) q404 (Nat.le_of_ble_eq_true rfl) (Nat.zero_le _) (Nat.zero_le _) (S_X1_isIn (d := d + 47) H) (fun o h' hq3 _ => ?_) (fun E i h' q _ => (cQ_no q).elim)
  obtain ⟨r2, E4, rfl, H⟩ := hq3
  cases E4
  refine ew_if_ne (tgt := 18) dX1_text_9 (by decide) (fun c5 => ?_) (fun c5 => ?_)
  rotate_left
  · replace H := H.1 c5
    refine ew_aload_n dX1_text_12 rfl lm0 ?_
    refine ew_iconst dX1_text_13 (inI_of rfl) ?_
    refine ew_callV (d := d + 47) (as := [aI 2]) rfl dX1_text_14 me_X1_refused rfl (ci := 0) rfl rfl xh_x (Or.inl q406) q408 qs1 (Nat.le_of_ble_eq_true rfl) (Nat.zero_le _) (Nat.zero_le _) (S_X1_refused (d := d + 47) H) (fun o h' hq _ => ?_) (fun E i h' q _ => (xQi_no q).elim)
    obtain ⟨n, s, E6, rfl, H⟩ := hq
    cases E6
    exact ew_ret (o := some (aI n)) rfl (Or.inl ⟨n, s, rfl, rfl, H⟩) ⟨dX1_text_17, .int, rfl, Or.inl rfl, rfl⟩
  replace H := H.2 c5 _ rfl
  have hT : ∀ k, okG V N g → ∀ i : EId, i.1 = 2 ∨ i.1 = 3 → xh V k g i = none := fun k hk i hi => (xh_g (xC_low (by omega) (by omega))).trans (hk.2.2.2 i (Or.inr hi))
  refine ew_aload_n dX1_text_18 rfl lm0 ?_
  refine ew_iconst dX1_text_19 (inI_of rfl) ?_
  refine xw_put dX1_text_20 (e_fl.a q331) xf_3 rfl (by decide +kernel) (fun s1 e1 => ?_)
  refine ew_aload_n dX1_text_23 rfl lm0 ?_
  refine ew_iconst dX1_text_24 (inI_of rfl) ?_
  refine xw_put dX1_text_25 (e_fl.a q332) xf_4 rfl (by decide +kernel) (fun s2 e2 => ?_)
  subst e1
  rw [← e2] at H ⊢
  refine ew_aload_n dX1_text_28 rfl lm0 ?_
  refine ew_newB (i := rT) (ci := 6) (n := 8) (fs := rd0) (r := (RX8, TX8, 8)) dX1_text_29 rfl rfl q410 q411 q118 (fun k hk => ⟨tyX8 k, tyX8_ok k hk, ?_⟩) (hT _ hk _ (Or.inl rfl)) r9_1 (by omega) (by omega) ?_
  · rcases (show k = 0 ∨ k = 1 ∨ k = 2 ∨ k = 3 ∨ k = 4 ∨ k = 5 ∨ k = 6 ∨ k = 7 by omega) with rfl | rfl | rfl | rfl | rfl | rfl | rfl | rfl <;> rfl
  refine ew_dup dX1_text_32 rfl ?_
  refine ew_aload_n dX1_text_33 rfl lm0 ?_
  refine ew_iload_n dX1_text_34 rfl lm1 ?_
  refine ew_callI (d := d + 47) (as := [aR (some xT), aI a]) rfl dX1_text_35 me_X8_init rfl rfl rfl (Or.inl q412) q413 (Nat.le_of_ble_eq_true rfl) (by omega) (by omega) (S_new_rd (d := d + 42) (V := V1of V N) (xh_rfr hk)) (fun o h' hq _ => ?_) (fun E i h' q _ => by cases q.1)
  obtain ⟨E1, rfl⟩ := hq
  cases E1
  refine ew_room (d' := d + 48) (kc' := kr + kl + 17) (ks' := sr + sl + 568) (Nat.le_refl _) (by omega) (by omega) ?_
  refine ew_callV (d := d + 47) (as := []) rfl dX1_text_38 me_X8_read rfl (ci := 6) rfl rfl rh_T (Or.inl q443) q444 q445 (Nat.le_of_ble_eq_true rfl) (mc := kr) (ms := sr) (by omega) (by omega) (S_X8_read (d := d + 37) ⟨xF V s2.1, xh_x, rfl, xh_of xC_x⟩ (hT _ hk _ (Or.inr rfl)) (xh_rfr hk) H) (fun o h' hq _ => ?_) (fun E i h' hq _ => ?_)
  · obtain ⟨r, E6, rfl, H⟩ := rQb_n hq
    cases E6
    refine ew_room (d' := d + 48) (kc' := kl + 17) (ks' := sl + 568) (Nat.le_refl _) (by omega) (by omega) ?_
    have hS2 : ∀ j, 2 ≤ j ∧ j < 5 → sfr (V1of V N) j (rh (V1of V N) r (xh V s2 g)) := fun j hj => ⟨fun k => rh_out hk hj, fun k => rh_outt hk hj⟩
    have hB : rh (V1of V N) r (xh V s2 g) (bI (V1of V N) 1 0) = some (kO 2 (bF (V1of V N))) := rxh_of ((rxC_b (by decide)).trans rfl)
    refine ew_put dX1_text_41 (e_fl.a q333) xf_5 ((rh_g (rC_0 rfl)).trans xh_x) lm0 (ty := .object "ReasonCloser$Book") (by decide +kernel) e_fitR ?_
    refine ew_goto (tgt := 72) dX1_text_44 (by decide) ?_
    refine ew_aload_n dX1_text_72 rfl lm0 ?_
    refine ew_newB (i := sI (V1of V N) 4 99) (ci := 5) (n := 14) (fs := sf0 (V1of V N) 4 14) (r := (RX6, TX6, 14)) dX1_text_73 rfl rfl q213 q214 q116 (fun k hk => ⟨tyX6 k, tyX6_ok k hk, ?_⟩) ((lx_s rfl).trans ((hS2 4 (by decide)).1 _)) s9 (by omega) (by omega) ?_
    · rcases (show k = 0 ∨ k = 1 ∨ k = 2 ∨ k = 3 ∨ k = 4 ∨ k = 5 ∨ k = 6 ∨ k = 7 ∨ k = 8 ∨ k = 9 ∨ k = 10 ∨ k = 11 ∨ k = 12 ∨ k = 13 by omega) with rfl | rfl | rfl | rfl | rfl | rfl | rfl | rfl | rfl | rfl | rfl | rfl | rfl | rfl <;> rfl
    refine ew_dup dX1_text_76 rfl ?_
    refine ew_aload_n dX1_text_77 rfl lm0 ?_
    refine ew_get dX1_text_78 (e_fl.a q333) xf_5 ((hup_ne x_ns).trans (hup_self _ _ _)) lm0 ?_
    refine ew_get (fs := bF (V1of V N)) dX1_text_81 (e_fl.c q191) bf_1 ((hup_ne b_ns).trans ((lx_b rfl).trans hB)) lm0 ?_
    refine ew_callI (d := d + 47) (as := [aR (some (bI (V1of V N) 2 1))]) rfl dX1_text_84 me_X6_init rfl rfl rfl (Or.inl q215) q216 (Nat.le_of_ble_eq_true rfl) (by omega) (by omega) (S_new_re (d := d + 43) (V := V1of V N) rfl ⟨fun k => ((lx_s rfl).trans ((hS2 4 (by decide)).1 _)), fun q => ((lx_t rfl).trans ((hS2 4 (by decide)).2 _))⟩) (fun o h' hq _ => ?_) (fun E i h' q _ => by cases q.1)
    obtain ⟨E1, rfl⟩ := hq
    cases E1
    rw [sset_hup rfl]
    refine ew_put dX1_text_87 (e_fl.a q334) xf_6 (hup_self _ _ _) lm0 (ty := .object "ReasonCloser$Reasons") (by decide +kernel) e_fitR ?_
    rw [hup_hup]
    refine ew_aload_n dX1_text_90 rfl lm0 ?_
    refine ew_newB (i := sI (V1of V N) 2 99) (ci := 4) (n := 5) (fs := sf0 (V1of V N) 2 5) (r := (RX4, TX4, 5)) dX1_text_91 rfl rfl q304 q305 q114 (fun k hk => ⟨tyX4 k, tyX4_ok k hk, ?_⟩) ((lx_s rfl).trans ((sset_ss (by decide)).trans ((hS2 2 (by decide)).1 _))) s9 (by omega) (by omega) ?_
    · rcases (show k = 0 ∨ k = 1 ∨ k = 2 ∨ k = 3 ∨ k = 4 by omega) with rfl | rfl | rfl | rfl | rfl <;> rfl
    refine ew_dup dX1_text_94 rfl ?_
    refine ew_aload_n dX1_text_95 rfl lm0 ?_
    refine ew_get dX1_text_96 (e_fl.a q333) xf_5 ((hup_ne x_ns).trans (hup_self _ _ _)) lm0 ?_
    refine ew_get (fs := bF (V1of V N)) dX1_text_99 (e_fl.c q191) bf_1 ((hup_ne b_ns).trans ((lx_b rfl).trans ((sset_o (Or.inr (bI_reg (by decide)))).trans hB))) lm0 ?_
    refine ew_callI (d := d + 47) (as := [aR (some (bI (V1of V N) 2 1))]) rfl dX1_text_102 me_X4_init_2 rfl rfl rfl (Or.inl q306) q307 (Nat.le_of_ble_eq_true rfl) (by omega) (by omega) (S_new_cl (d := d + 44) (V := V1of V N) (Or.inl rfl) ⟨fun k => ((lx_s rfl).trans ((sset_ss (by decide)).trans ((hS2 2 (by decide)).1 _))), fun q => ((lx_t rfl).trans ((sset_tt (by decide)).trans ((hS2 2 (by decide)).2 _)))⟩) (fun o h' hq _ => ?_) (fun E i h' q _ => by cases q.1)
    obtain ⟨E1, rfl⟩ := hq
    cases E1
    rw [sset_hup rfl]
    refine ew_put dX1_text_105 (e_fl.a q335) xf_7 (hup_self _ _ _) lm0 (ty := .object "ReasonCloser$Closed") (by decide +kernel) e_fitR ?_
    rw [hup_hup]
    refine ew_aload_n dX1_text_108 rfl lm0 ?_
    refine ew_newB (i := sI (V1of V N) 3 99) (ci := 4) (n := 5) (fs := sf0 (V1of V N) 3 5) (r := (RX4, TX4, 5)) dX1_text_109 rfl rfl q304 q305 q114 (fun k hk => ⟨tyX4 k, tyX4_ok k hk, ?_⟩) ((lx_s rfl).trans ((sset_ss (by decide)).trans ((sset_ss (by decide)).trans ((hS2 3 (by decide)).1 _)))) s9 (by omega) (by omega) ?_
    · rcases (show k = 0 ∨ k = 1 ∨ k = 2 ∨ k = 3 ∨ k = 4 by omega) with rfl | rfl | rfl | rfl | rfl <;> rfl
    refine ew_dup dX1_text_112 rfl ?_
    refine ew_aload_n dX1_text_113 rfl lm0 ?_
    refine ew_get dX1_text_114 (e_fl.a q333) xf_5 ((hup_ne x_ns).trans (hup_self _ _ _)) lm0 ?_
    refine ew_get (fs := bF (V1of V N)) dX1_text_117 (e_fl.c q191) bf_1 ((hup_ne b_ns).trans ((lx_b rfl).trans ((sset_o (Or.inr (bI_reg (by decide)))).trans ((sset_o (Or.inr (bI_reg (by decide)))).trans hB)))) lm0 ?_
    refine ew_callI (d := d + 47) (as := [aR (some (bI (V1of V N) 2 1))]) rfl dX1_text_120 me_X4_init_2 rfl rfl rfl (Or.inl q306) q307 (Nat.le_of_ble_eq_true rfl) (by omega) (by omega) (S_new_cl (d := d + 44) (V := V1of V N) (Or.inr rfl) ⟨fun k => ((lx_s rfl).trans ((sset_ss (by decide)).trans ((sset_ss (by decide)).trans ((hS2 3 (by decide)).1 _)))), fun q => ((lx_t rfl).trans ((sset_tt (by decide)).trans ((sset_tt (by decide)).trans ((hS2 3 (by decide)).2 _))))⟩) (fun o h' hq _ => ?_) (fun E i h' q _ => by cases q.1)
    obtain ⟨E1, rfl⟩ := hq
    cases E1
    rw [sset_hup rfl]
    refine ew_put dX1_text_123 (e_fl.a q336) xf_8 (hup_self _ _ _) lm0 (ty := .object "ReasonCloser$Closed") (by decide +kernel) e_fitR ?_
    rw [hup_hup]
    refine ew_room (d' := d + 48) (kc' := kl + 1) (ks' := sl + 4) (Nat.le_refl _) (by omega) (by omega) ?_
    have hg0 : ∀ j, j < 2 → g (sI V j 99) = none := fun j hj => hk.1 _ (Or.inr (Or.inr (Or.inl ⟨⟨by show 20 ≤ 20 + j; omega, by show 20 + j < 25; omega⟩, by show 10 + V j = 10 + V (20 + j - 20); rw [show 20 + j - 20 = j by omega]⟩)))
    refine ew_cong (h := tH V N s2 g r) (i := sI (V1of V N) 0 99) (ci := 3) (fs := sF V (s2.2 0) 0) (fs' := sF (V1of V N) (s2.2 0) 0) (r := (RX3, TX3, 4)) (tH_s (by decide)) rfl (fun k hk => ?_) ?_
    · rcases (show k = 0 ∨ k = 1 ∨ k = 2 ∨ k = 3 by have h4 : k < 4 := hk; omega) with rfl | rfl | rfl | rfl <;> rfl
    refine ew_cong (i := sI (V1of V N) 1 99) (ci := 3) (fs := sF V (s2.2 1) 1) (fs' := sF (V1of V N) (s2.2 1) 1) (r := (RX3, TX3, 4)) ((hup_ne (fun e => by simp only [sI, Prod.mk.injEq] at e; omega)).trans (tH_s (by decide))) rfl (fun k hk => ?_) ?_
    · rcases (show k = 0 ∨ k = 1 ∨ k = 2 ∨ k = 3 by have h4 : k < 4 := hk; omega) with rfl | rfl | rfl | rfl <;> rfl
    rw [tH_eq hk]
    refine ew_aload_n dX1_text_126 rfl lm0 ?_
    refine xw_get (v := aR (some (bI (V1of V N) 1 0))) dX1_text_127 (e_fl.a q333) xf_5 rfl ?_
    refine xw_book dX1_text_130 (e_fl.c q200) bf_4 ?_
    refine iw_new (d := d + 45) (j := 4) (I := (1, 48, 0)) dX1_text_133 (by decide) q874 rfl (tg1_t hk _ rfl (Nat.le_refl _)) (Nat.le_of_ble_eq_true rfl) (by omega) (by omega) ?_
    refine ew_astore_n dX1_text_138 rfl (by decide) (lv' := [(2, aR (some (1, 48, 0))), (0, aR (some xT)), (1, aI a)]) rfl ?_
    refine ew_sub (lv' := [(0, aR (some xT)), (2, aR (some (1, 48, 0)))]) (List.forall_mem_cons.mpr ⟨lm1, (List.forall_mem_cons.mpr ⟨lm0, e_nm⟩)⟩) ?_
    refine ew_room (d' := d + 48) (kc' := kl) (ks' := sl) (Nat.le_refl _) (by omega) (by omega) ?_
    refine ew_post (Q := tQi (V1of V N) (tg1 V N s2 g r) K) (fun o h q => ?_) (H _ _ (fun x2 kc ks s0 H => T_X1_text_139 d (V1of V N) (tg1 V N s2 g r) (tg1_t hk) tg1_free K x2 kc ks s0 H) (fun x2 kc ks s0 H g1 hx => T_X1_text_227 d (V1of V N) (tg1 V N s2 g r) (tg1_t hk) tg1_free K x2 kc ks s0 g1 hx H))
    obtain ⟨n, s, G, q1, q2, q3, q4⟩ := q
    exact Or.inr (Or.inr ⟨n, s, r, G, q1, q2, q3, q4⟩)
  · obtain ⟨kd, pl, fs, E6, h1, h2, h3, H⟩ := rQb_x hq
    obtain ⟨rfl, rfl⟩ : E = RX9 ∧ i = fI := by
      injection E6 with e
      exact ⟨congrArg Prod.fst e, congrArg Prod.snd e⟩
    replace H := H _ rfl
    refine ex_catch (a := 28) (b := 44) (hp := 47) (ct := 114) rfl (by decide) (by decide) (by decide) q402 q592 ?_
    have hh : h' = xh V s2 h' := by
      funext i
      cases hc : xC V s2 i with
      | none => exact (xh_g hc).symm
      | some c =>
        rw [xh_of hc]
        have hr : ¬ rreg (V1of V N) i := fun q => by
          have hx := xC_reg (V := V) (s := s2) (i := i) (by rw [hc]; exact fun q => by cases q)
          have h9 := xreg_lt hk.2.1 hx
          rcases q with q | q | q
          · rw [q] at hx; unfold xreg at hx; simp at hx; omega
          · rw [q] at hx; unfold xreg at hx; simp at hx; omega
          · have : i.1 = 10 + N := q.1.trans (by unfold V1of; rw [if_neg (by decide)])
            omega
        rw [h3 i hr (by rw [xh_of hc]; exact fun q => by cases q), xh_of hc]
    have hf : ∀ s, xh V s h' fI = some (kO 7 fs) := fun s => (xh_g (xC_low (by decide) (by decide))).trans h1
    rw [hh]
    refine ew_astore_n dX1_text_47 rfl (by decide) (lv' := [(2, aR (some fI)), (0, aR (some xT)), (1, aI a)]) rfl ?_
    refine ew_aload_n dX1_text_48 rfl lm1 ?_
    refine ew_aload_n dX1_text_49 rfl lm0 ?_
    refine ew_get dX1_text_50 (e_fl.c q638) tf_6 (hf _) lm0 ?_
    rw [h2.1]
    refine xw_put dX1_text_53 (e_fl.a q332) xf_4 rfl (by decide +kernel) (fun s3 e3 => ?_)
    rw [← e3] at H
    refine ew_aload_n dX1_text_56 rfl lm1 ?_
    refine ew_iconst dX1_text_57 (inI_of rfl) ?_
    refine ew_callV (d := d + 47) (as := [aI 4]) rfl dX1_text_58 me_X1_refused rfl (ci := 0) rfl rfl xh_x (Or.inl q406) q408 qs1 (Nat.le_of_ble_eq_true rfl) (Nat.zero_le _) (Nat.zero_le _) (S_X1_refused (d := d + 47) H) (fun o h' hq _ => ?_) (fun E i h' q _ => (xQi_no q).elim)
    obtain ⟨n, s4, E6, rfl, ⟨⟨m1, m2, m3⟩, H⟩⟩ := hq
    cases E6
    refine ew_pop dX1_text_61 rfl ?_
    refine ew_aload_n dX1_text_62 rfl lm1 ?_
    refine ew_aload_n dX1_text_63 rfl lm0 ?_
    refine ew_get dX1_text_64 (e_fl.c q640) tf_7 (hf _) lm0 ?_
    rw [h2.2]
    refine xw_put dX1_text_67 (e_fl.a q328) xf_1 rfl (by decide +kernel) (fun s5 e5 => ?_)
    rw [← e5] at H
    refine ew_iconst dX1_text_70 (inI_of rfl) ?_
    refine ew_ret (o := some (aI (-1))) rfl (Or.inr (Or.inl ⟨s5, _, rfl, rfl, ⟨fun k hk => ?_, ?_, ?_⟩, h3, H⟩)) ⟨dX1_text_71, .int, rfl, Or.inl rfl, rfl⟩
    · rw [e5, show (xs s4 1 pl).1.1 k = s4.1.1 k from ms_n (by omega), m1 k hk, e3, show (xs s2 4 kd).1.1 k = s2.1.1 k from ms_n (by omega), e2]
      exact (ms_n (by omega)).trans (ms_n (by omega))
    · rw [e5]
      show s4.1.2 = s0.1.2
      rw [m2, e3]
      show s2.1.2 = s0.1.2
      rw [e2]
      rfl
    · rw [e5]
      show s4.2 = s0.2
      rw [m3, e3]
      show s2.2 = s0.2
      rw [e2]
