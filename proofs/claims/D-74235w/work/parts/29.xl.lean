/-! THE SYSTEM's METHODS: lists grow and shrink -/
set_option maxRecDepth 100000
theorem xh_upl {V : XV} {s : XS} {r : MS} {g : AH} {j q : Nat} {c1 c2 : ACell} (hj : j < 5) (hx : xCx V r = xCx V s.1) (h1 : bC V r 2 j = some c1) (h2 : bC V r (3 + j) q = some c2) (h3 : ∀ reg k, ¬ (reg = 2 ∧ k = j) → ¬ (reg = 3 + j ∧ k = q) → bC V r reg k = bC V s.1 reg k) :
    hup (hup (xh V s g) (bI V (3 + j) q) c2) (bI V 2 j) c1 = xh V (r, s.2) g := by
  funext i
  by_cases e1 : i = bI V 2 j
  · subst e1
    rw [hup_self, xh_of ((xC_b (by omega)).trans h1)]
  · rw [hup_ne e1]
    by_cases e2 : i = bI V (3 + j) q
    · subst e2
      rw [hup_self, xh_of ((xC_b (by omega)).trans h2)]
    · rw [hup_ne e2]
      have e3 : xC V (r, s.2) i = xC V s i := by
        unfold xC
        split
        · rw [hx]
        · split
          · next e =>
            refine h3 _ _ (fun z => e1 ?_) (fun z => e2 ?_)
            · obtain ⟨a, b, c⟩ := i
              simp at e z
              simp only [bI, Prod.mk.injEq]
              exact ⟨e.1, z.1, z.2⟩
            · obtain ⟨a, b, c⟩ := i
              simp at e z
              simp only [bI, Prod.mk.injEq]
              exact ⟨e.1, z.1, z.2⟩
          · rfl
      unfold xh
      rw [e3]
theorem xec_eq {V : XV} {r r' : MS} {j q : Nat} (h50 : r'.1 (50 + j) = r.1 (50 + j)) (h30 : q = (r.1 (50 + j)).toNat → r'.1 (30 + j) = r.1 (30 + j)) (h44 : r'.2 44 = r.2 44) : xec V r' j q = xec V r j q := by
  have e : ∀ x, xel V r' j x = xel V r j x := fun x => by unfold xel; rw [h44]
  unfold xec
  by_cases c : q = (r.1 (50 + j)).toNat
  · rw [h50, h30 c]; simp only [e]
  · rw [h50]; simp only [if_neg c, e]
/-- list j is shorter by one -/
def yr (r : MS) (j : Nat) : MS := ms (ms r (30 + j) (r.1 (30 + j) - 1)) (70 + j) (r.1 (70 + j) + 1)
theorem yr_n {r : MS} {j k : Nat} (h1 : k ≠ 30 + j) (h2 : k ≠ 70 + j) : (yr r j).1 k = r.1 k := by unfold yr; rw [ms_n h2, ms_n h1]
theorem yr_30 {r : MS} {j : Nat} : (yr r j).1 (30 + j) = r.1 (30 + j) - 1 := by unfold yr; rw [ms_n (by omega), ms_1]
theorem yr_70 {r : MS} {j : Nat} : (yr r j).1 (70 + j) = r.1 (70 + j) + 1 := by unfold yr; rw [ms_1]
theorem xCx_yr {V : XV} {r : MS} {j : Nat} : xCx V (yr r j) = xCx V r := by
  funext k
  have hF : xF V (yr r j) = xF V r := by
    funext i
    unfold xF
    rw [yr_n (k := 0) (by omega) (by omega), yr_n (k := 1) (by omega) (by omega), yr_n (k := 3) (by omega) (by omega), yr_n (k := 4) (by omega) (by omega), yr_n (k := 12) (by omega) (by omega)]
  unfold xCx
  rw [hF]
  rfl
theorem bC_yr {V : XV} {r : MS} {j : Nat} (hj : j < 5) : ∀ reg k, ¬ (reg = 2 ∧ k = j) → ¬ (reg = 3 + j ∧ k = (r.1 (50 + j)).toNat) → bC V (yr r j) reg k = bC V r reg k := by
  intro reg k h1 h2
  have n5 : ∀ i, i < 5 → (yr r j).1 (50 + i) = r.1 (50 + i) := fun i hi => yr_n (by omega) (by omega)
  have n6 : ∀ i, i < 5 → (yr r j).1 (60 + i) = r.1 (60 + i) := fun i hi => yr_n (by omega) (by omega)
  have n4 : ∀ i, i < 5 → (yr r j).1 (40 + i) = r.1 (40 + i) := fun i hi => yr_n (by omega) (by omega)
  have xe : ∀ i, i < 5 → (reg = 3 + i) → xec V (yr r j) i k = xec V r i k := fun i hi hr => xec_eq (n5 i hi) (fun hq => by
    by_cases e : i = j
    · subst e
      exact absurd ⟨hr, hq⟩ h2
    · exact yr_n (by omega) (by omega)) rfl
  unfold bC
  split
  · rfl
  · by_cases hk : k < 5
    · rw [if_pos hk, if_pos hk]
      unfold xL
      have e : k ≠ j := fun q => h1 ⟨rfl, q⟩
      rw [n5 k hk, yr_n (k := 30 + k) (by omega) (by omega), yr_n (k := 70 + k) (by omega) (by omega)]
    · rw [if_neg hk, if_neg hk]
  · rw [n6 0 (by omega), n5 0 (by omega), xe 0 (by omega) rfl]
  · rw [n6 1 (by omega), n5 1 (by omega), xe 1 (by omega) rfl]
  · rw [n6 2 (by omega), n5 2 (by omega), xe 2 (by omega) rfl]
  · rw [n6 3 (by omega), n5 3 (by omega), xe 3 (by omega) rfl]
  · rw [n6 4 (by omega), n5 4 (by omega), xe 4 (by omega) rfl]
  · rw [n4 0 (by omega)]; rfl
  · rw [n4 1 (by omega)]; rfl
  · rw [n4 2 (by omega)]; rfl
  · rw [n4 3 (by omega)]; rfl
  · rw [n4 1 (by omega)]; rfl
  · rfl
theorem xec_yr {V : XV} {r : MS} {j : Nat} (h : 0 < r.1 (30 + j)) : iup (xec V r j (r.1 (50 + j)).toNat) (r.1 (30 + j) - 1) none = xec V (yr r j) j (r.1 (50 + j)).toNat := by
  funext x
  have e : xel V (yr r j) j x = xel V r j x := by unfold xel; rfl
  unfold iup
  unfold xec
  rw [yr_n (k := 50 + j) (by omega) (by omega), yr_30, if_pos rfl, if_pos rfl, e]
  by_cases c : x = r.1 (30 + j) - 1
  · rw [if_pos c, if_neg (by omega)]
  · rw [if_neg c]
    by_cases c2 : 0 ≤ x ∧ x < r.1 (30 + j)
    · rw [if_pos c2, if_pos ⟨c2.1, by omega⟩]
    · rw [if_neg c2, if_neg (fun q => c2 ⟨q.1, by omega⟩)]
theorem xcell_e {V : XV} {r : MS} {j : Nat} (hj : j < 5) (h : (r.1 (60 + j)).toNat ≤ (r.1 (50 + j)).toNat) : bC V r (3 + j) (r.1 (50 + j)).toNat = some (kQ 0 (xcap j (r.1 (50 + j)).toNat) (xec V r j (r.1 (50 + j)).toNat)) := by
  rcases (show j = 0 ∨ j = 1 ∨ j = 2 ∨ j = 3 ∨ j = 4 by omega) with rfl | rfl | rfl | rfl | rfl <;> exact if_pos ⟨h, Nat.le_refl _⟩
theorem xh_rem {V : XV} {s : XS} {g : AH} {j : Nat} (hj : j < 5) (h : xok s j) (h0 : 0 < s.1.1 (30 + j)) : hup (hup (xh V s g) (bI V (3 + j) (s.1.1 (50 + j)).toNat) (kQ 0 (xcap j (s.1.1 (50 + j)).toNat) (iup (xec V s.1 j (s.1.1 (50 + j)).toNat) (s.1.1 (30 + j) - 1) none))) (bI V 2 j) (kO 11 (al (bI V (3 + j) (s.1.1 (50 + j)).toNat) (s.1.1 (30 + j) - 1) (s.1.1 (70 + j) + 1))) = xh V (yr s.1 j, s.2) g := by
  refine xh_upl hj xCx_yr ?_ ?_ (bC_yr hj)
  · have e : bC V (yr s.1 j) 2 j = some (xL V (yr s.1 j) j) := if_pos hj
    rw [e]
    unfold xL
    rw [yr_30, yr_70, yr_n (k := 50 + j) (by omega) (by omega)]
  · have h2 := h.2.1
    have e := xcell_e (V := V) (r := yr s.1 j) hj (by rw [yr_n (k := 60 + j) (by omega) (by omega), yr_n (k := 50 + j) (by omega) (by omega)]; exact h2)
    rw [yr_n (k := 50 + j) (by omega) (by omega)] at e
    rw [e, xec_yr h0]
section LWR
variable {M : EM} {d kc ks : Nat} {Q : AO → AH → Prop} {pc idx j cnt : Nat} {lv : List (Nat × AV)} {rest : List AV} {V : XV} {s : XS} {g : AH} {x : Int}
theorem lw_rem (hd : decode M.2.1 pc = .ok (.invokeinterface idx cnt, 5)) (hj : j < 5) (w1 : Cond.methodLink M.1.cls idx ⟨"java/util/List", "remove", "(I)Ljava/lang/Object;"⟩ ∈ lw_all) (h8 : (rest.map fun v => if e_is2 v then 2 else 1).sum ≤ 8) (hx : x = s.1.1 (30 + j) - 1) (h0 : 0 < s.1.1 (30 + j)) (h2 : xok s j) (h3 : -1000000 ≤ s.1.1 (70 + j) ∧ s.1.1 (70 + j) ≤ 1000000) (kk : ∀ s1, s1 = (yr s.1 j, s.2) → EW M (d + 3) kc ks Q (pc + 5) lv (aR (some (xel V s.1 j x)) :: rest) (xh V s1 g)) : EW M (d + 3) kc ks Q pc lv (aI x :: aR (some (bI V 2 j)) :: rest) (xh V s g) := by
  have hne : bI V 2 j ≠ bI V (3 + j) (s.1.1 (50 + j)).toNat := fun q => by
    have := congrArg (fun i : EId => i.2.1) q
    simp at this
    omega
  refine ew_callF (x := ⟨"java/util/List", "remove", "(I)Ljava/lang/Object;"⟩) (d := d + 2) (as := [aI x]) (ci := 11) rfl hd me_J2_remove rfl rfl (xh_l hj) rfl w1 q1371 q1373 lm4 h8 (Nat.zero_le _) (Nat.zero_le _) (A_rem (d := d) (xh_l hj) (xh_e hj h2) hx h0 h2.1 h2.2.2 h3 hne) (fun o h' hq _ => ?_) (fun E i h' q _ => by cases q.1)
  obtain ⟨E1, rfl⟩ := hq
  cases E1
  rw [xec_in (by omega) (by omega)]
  subst hx
  rw [xh_rem hj h2 h0]
  exact kk _ rfl
end LWR
