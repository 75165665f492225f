/-! THE SYSTEM's METHODS: posts; what a method makes for itself is forgotten at its end -/
set_option maxRecDepth 100000
/-- g' has all of g, and more only under names that begin with 1 -/
def eX (g g' : AH) : Prop := ∀ i, (i.1 ≠ 1 ∨ g i ≠ none) → g' i = g i
theorem eX.rf {g : AH} : eX g g := fun _ _ => rfl
theorem eX.hup {g g' : AH} {i : EId} {c : ACell} (hx : eX g g') (h1 : i.1 = 1) (hf : g i = none) : eX g (hup g' i c) := fun j hj => by
  have e : j ≠ i := fun q => by
    rw [q] at hj
    rcases hj with hj | hj
    · exact hj h1
    · exact hj hf
  rw [hup_ne e]
  exact hx j hj
/-- no temps of levels up to L -/
def xf (L : Nat) (g : AH) : Prop := ∀ i : EId, i.1 = 1 → i.2.1 ≤ L → g i = none
theorem xf.hup {L L' : Nat} {g : AH} {k : Nat} {c : ACell} (h : xf L g) (hL : L' < L) : xf L' (hup g (1, L, k) c) := fun i h1 h2 => by
  rw [hup_ne (fun q => by rw [q] at h2; exact absurd h2 (by show ¬ L ≤ L'; omega))]
  exact h i h1 (by omega)
theorem xf.le {L L' : Nat} {g : AH} (h : xf L g) (hL : L' ≤ L) : xf L' g := fun i h1 h2 => h i h1 (by omega)
/-- the structure's regions -/
def xreg (V : XV) (i : EId) : Prop := (i.1 = 0 ∧ i.2.1 = 2) ∨ (i.1 = 10 + V 9 ∧ i.2.1 < 20) ∨ ((20 ≤ i.2.1 ∧ i.2.1 < 25) ∧ i.1 = 10 + V (i.2.1 - 20)) ∨ ((30 ≤ i.2.1 ∧ i.2.1 < 35) ∧ i.1 = 10 + V (i.2.1 - 30))
def xfree (V : XV) (g : AH) : Prop := ∀ i, xreg V i → g i = none
theorem xC_reg {V : XV} {s : XS} {i : EId} (h : xC V s i ≠ none) : xreg V i := by
  unfold xC at h
  unfold xreg
  split at h
  · exact Or.inl ‹_›
  · split at h
    · exact Or.inr (Or.inl ‹_›)
    · split at h
      · exact Or.inr (Or.inr (Or.inl ‹_›))
      · split at h
        · exact Or.inr (Or.inr (Or.inr ‹_›))
        · exact absurd rfl h
theorem xfree.hup {V : XV} {g : AH} {i : EId} {c : ACell} (h : xfree V g) (h1 : i.1 = 1) : xfree V (hup g i c) := fun j hj => by
  rw [hup_ne (fun q => by
    rw [q] at hj
    unfold xreg at hj
    omega)]
  exact h j hj
/-- no reference to a temp -/
def e_noT : ACell → Prop
  | Sum.inl _ => True
  | Sum.inr (Sum.inl _) => True
  | Sum.inr (Sum.inr (Sum.inl (_, _, f))) => ∀ j r, f j = some r → r.1 ≠ 1
  | Sum.inr (Sum.inr (Sum.inr (_, f))) => ∀ k r, f k = aR (some r) → r.1 ≠ 1
theorem noT_list {V : XV} {E : EId} {z m : Int} (hE : E.1 ≠ 1) : e_noT (kO 11 (al E z m)) := by
  intro k r h
  match k with
  | 0 => cases h
  | 1 => cases h; exact hE
  | 2 => cases h
  | n + 3 => cases h
theorem xec_or {V : XV} {r : MS} {j q : Nat} {x : Int} : xec V r j q x = none ∨ xec V r j q x = some (xel V r j x) := by
  unfold xec
  by_cases c : 0 ≤ x ∧ x < (if q = (r.1 (50 + j)).toNat then r.1 (30 + j) else (xcap j q : Int))
  · exact Or.inr (if_pos c)
  · exact Or.inl (if_neg c)
theorem xel_1 {V : XV} {r : MS} {j : Nat} {x : Int} : (xel V r j x).1 ≠ 1 := by
  unfold xel
  split
  · show 9 ≠ 1
    omega
  · show 10 + V 9 ≠ 1
    omega
theorem noT_xec {V : XV} {r : MS} {j q n : Nat} : e_noT (kQ 0 n (xec V r j q)) := by
  intro x i h
  rcases xec_or (V := V) (r := r) (j := j) (q := q) (x := x) with e | e
  · rw [e] at h; cases h
  · rw [e] at h; cases h; exact xel_1
theorem noT_x {V : XV} {r : MS} : e_noT (kO 0 (xF V r)) := by
  intro k i h
  unfold xF at h
  split at h <;> first | (cases h; done) | (cases h; first | decide | (show 10 + _ ≠ 1; omega))
theorem noT_s {V : XV} {r : MS} {j c : Nat} : e_noT (kO c (sF V r j)) := by
  intro k i h
  unfold sF at h
  split at h <;> first | (cases h; done) | (cases h; show 10 + _ ≠ 1; omega)
theorem noT_T {V : XV} {r : MS} {k : Nat} : e_noT (kO 9 (xfT V r k)) := by
  intro k i h
  unfold xfT at h
  split at h <;> first | (cases h; done) | (cases h; show 10 + _ ≠ 1; omega)
theorem noT_F {r : MS} {k : Nat} : e_noT (kO 8 (xfF r k)) := by
  intro k i h
  unfold xfF at h
  split at h <;> cases h
theorem noT_S {r : MS} {k : Nat} : e_noT (kO 10 (xfS r k)) := by
  intro k i h
  unfold xfS at h
  split at h <;> cases h
theorem noT_D {r : MS} {k : Nat} : e_noT (kO 10 (xfD r k)) := by
  intro k i h
  unfold xfD at h
  split at h <;> cases h
theorem noT_B {V : XV} : e_noT (kO 2 (bF V)) := by
  intro k i h
  cases h
  show 10 + V 9 ≠ 1
  omega
theorem xC_noT {V : XV} {s : XS} {i : EId} {c : ACell} (h : xC V s i = some c) : e_noT c := by
  unfold xC at h
  split at h
  · unfold xCx at h
    split at h <;> first | (cases h; trivial) | (cases h; exact noT_x) | cases h
  · split at h
    · unfold bC at h
      split at h <;> first | (split at h <;> first | (cases h; first | trivial | exact noT_B | exact noT_xec | exact noT_F | exact noT_T | exact noT_S | exact noT_D | (refine noT_list (V := V) ?_; show 10 + V 9 ≠ 1; omega)) | cases h) | cases h
    · split at h
      · unfold sC at h
        split at h <;> first | (split at h <;> first | (cases h; trivial) | cases h) | (cases h; trivial) | (cases h; exact noT_s) | cases h
      · split at h
        · unfold tC at h
          split at h <;> (split at h <;> first | (cases h; trivial) | cases h)
        · cases h
theorem e_okv_g {V : XV} {s : XS} {g g' : AH} {v : AV} (hx : eX g g') (hv : e_okv (xh V s g') v) (hn : ∀ r, v = aR (some r) → r.1 ≠ 1) : e_okv (xh V s g) v := by
  match v, hv with
  | Sum.inl n, hv => exact hv
  | Sum.inr (Sum.inl n), hv => exact hv
  | Sum.inr (Sum.inr none), _ => trivial
  | Sum.inr (Sum.inr (some i)), hv =>
    refine hv.imp (fun h => ?_) id
    have h1 := hn i rfl
    unfold xh at h ⊢
    cases hc : xC V s i with
    | some c => exact fun q => by cases q
    | none => rw [hc] at h; rw [← hx i (Or.inl h1)]; exact h
theorem e_okc_g {V : XV} {s : XS} {g g' : AH} {c : ACell} (hx : eX g g') (hv : e_okc (xh V s g') c) (hn : e_noT c) : e_okc (xh V s g) c := by
  match c, hv, hn with
  | Sum.inl (t, n, f), hv, _ => exact hv
  | Sum.inr (Sum.inl (n, f)), hv, _ => exact hv
  | Sum.inr (Sum.inr (Sum.inl (t, n, f))), hv, hn => exact fun j hj => e_okv_g hx (hv j hj) (fun r e => hn j r (by injection e with e; injection e))
  | Sum.inr (Sum.inr (Sum.inr (c, f))), hv, hn => exact fun k r hr hk => e_okv_g hx (hv k r hr hk) (fun r e => hn k r e)
theorem xh_dom {V : XV} {s s0 : XS} {g g' : AH} (hr : xfree V g) (hx : eX g g') (hd : ∀ i, xh V s0 g i ≠ none → xh V s g' i ≠ none) : ∀ i, xh V s0 g i ≠ none → xh V s g i ≠ none := by
  intro i hi
  have h1 := hd i hi
  unfold xh at h1 ⊢
  cases hc : xC V s i with
  | some c => exact fun q => by cases q
  | none =>
    rw [hc] at h1
    by_cases e : i.1 = 1
    · have : xh V s0 g i = g i := xh_g (xC_1 e)
      rw [this] at hi
      exact hi
    · rw [← hx i (Or.inl e)]; exact h1
theorem e_R.forget {D : ED} {ad ad0 : EA} {V : XV} {s s0 : XS} {g g' : AH} {A A0 : Nat → Prop} {H H0 : Heap} (hr : xfree V g) (hx : eX g g') (h0 : e_R D ad0 (xh V s0 g) A0 H0) (hd : ∀ i, xh V s0 g i ≠ none → xh V s g' i ≠ none) (hR : e_R D ad (xh V s g') A H) : e_R D ad (xh V s g) A H := by
  have sub : ∀ i c, xh V s g i = some c → xh V s g' i = some c := by
    intro i c h
    unfold xh at h ⊢
    cases hc : xC V s i with
    | some c' => rw [hc] at h; exact h
    | none =>
      rw [hc] at h
      show g' i = some c
      rw [hx i (Or.inr (by rw [show g i = some c from h]; exact fun q => by cases q))]
      exact h
  refine ⟨fun i c h => ?_, fun i j hi hj e => ?_⟩
  · obtain ⟨h1, h2, h3, h4⟩ := hR.1 i c (sub i c h)
    refine ⟨h1, h2, ?_, h4⟩
    cases hc : xC V s i with
    | some c' =>
      have : c' = c := Option.some.inj ((xh_of hc).symm.trans h)
      subst this
      exact e_okc_g hx h3 (xC_noT hc)
    | none =>
      have hg : g i = some c := (xh_g hc).symm.trans h
      have hc0 : xC V s0 i = none := by
        cases hq : xC V s0 i with
        | none => rfl
        | some c' => rw [hr i (xC_reg (by rw [hq]; exact fun q => by cases q))] at hg; cases hg
      exact (h0.1 i c ((xh_g hc0).trans hg)).2.2.1.mono (xh_dom hr hx hd)
  · refine hR.2 i j ?_ ?_ e
    · cases hc : xh V s g i with
      | none => exact absurd hc hi
      | some c => rw [sub i c hc]; exact fun q => by cases q
    · cases hc : xh V s g j with
      | none => exact absurd hc hj
      | some c => rw [sub j c hc]; exact fun q => by cases q
def e_plain : Option AV → Prop
  | none => True
  | some (Sum.inl _) => True
  | some (Sum.inr (Sum.inl _)) => True
  | _ => False
/-- a method's temps are forgotten -/
theorem Sp.forget {M : EM} {d kc ks : Nat} {as : List AV} {V : XV} {s0 : XS} {g : AH} {Q Q' : AO → AH → Prop} (hr : xfree V g) (hQ : ∀ o h, Q o h → ∃ o' s g', o = Sum.inl o' ∧ e_plain o' ∧ h = xh V s g' ∧ eX g g' ∧ Q' o (xh V s g)) (k : Sp M d kc ks as (xh V s0 g) Q) : Sp M d kc ks as (xh V s0 g) Q' := by
  intro D l ad sz hl hok
  have h1 := k D l ad sz hl hok
  refine MetFree.mono h1 (fun _ _ q => q) (fun _ _ _ _ _ _ => trivial) (fun a s o s' hP hq => ?_)
  obtain ⟨-, -, hR0, -⟩ := hP
  rcases hq with ⟨⟨⟨o', h', ad', e1, e2, e3, e4, e5, e6⟩, e7⟩, e8⟩ | ⟨q, eo, E, ce, L, ⟨⟨i, h', ad', e1, e2, e3⟩, e4⟩, e5⟩
  · obtain ⟨o2, s1, g', b1, b2, rfl, b4, b5⟩ := hQ _ _ e2
    refine Or.inl ⟨⟨⟨o', _, ad', e1, b5, e_R.forget hr b4 hR0 e5 e3, e4, xh_dom hr b4 e5, fun x hx => ?_⟩, e7⟩, e8⟩
    injection b1 with b1
    subst b1
    subst hx
    have := e6 x rfl
    match x, b2, this with
    | Sum.inl n, _, h => exact h
    | Sum.inr (Sum.inl n), _, h => exact h
  · obtain ⟨o2, s1, g', b1, -⟩ := hQ _ _ e2
    cases b1
def xQi (V : XV) (g : AH) (K : Int → XS → Prop) : AO → AH → Prop := fun o h => ∃ n s, o = Sum.inl (some (aI n)) ∧ h = xh V s g ∧ K n s
def xQl (V : XV) (g : AH) (K : Int → XS → Prop) : AO → AH → Prop := fun o h => ∃ n s, o = Sum.inl (some (aL n)) ∧ h = xh V s g ∧ K n s
def xQv (V : XV) (g : AH) (K : XS → Prop) : AO → AH → Prop := fun o h => ∃ s, o = Sum.inl none ∧ h = xh V s g ∧ K s
def xQp (V : XV) (g : AH) (K : XS → Prop) : AO → AH → Prop := fun o h => ∃ s, o = Sum.inl (some (aR (some (sI V 3 99)))) ∧ h = xh V s g ∧ K s
def cQa (V : XV) (j : Nat) (h0 : AH) (K : Nat → Prop) : AO → AH → Prop := fun o h => ∃ k, o = Sum.inl (some (aR (some (sI V j k)))) ∧ h = h0 ∧ K k
def tQi (V : XV) (g : AH) (K : Int → XS → Prop) : AO → AH → Prop := fun o h => ∃ n s g', o = Sum.inl (some (aI n)) ∧ h = xh V s g' ∧ eX g g' ∧ K n s
def tQv (V : XV) (g : AH) (K : XS → Prop) : AO → AH → Prop := fun o h => ∃ s g', o = Sum.inl none ∧ h = xh V s g' ∧ eX g g' ∧ K s
def tQc (V : XV) (s : XS) (g : AH) (K : Int → Prop) : AO → AH → Prop := fun o h => ∃ n g', o = Sum.inl (some (aI n)) ∧ h = xh V s g' ∧ eX g g' ∧ K n
theorem xQi_no {V : XV} {g : AH} {K : Int → XS → Prop} {x : String × EId} {h : AH} (q : xQi V g K (Sum.inr x) h) : False := by obtain ⟨n, s, e, -⟩ := q; cases e
theorem xQl_no {V : XV} {g : AH} {K : Int → XS → Prop} {x : String × EId} {h : AH} (q : xQl V g K (Sum.inr x) h) : False := by obtain ⟨n, s, e, -⟩ := q; cases e
theorem xQv_no {V : XV} {g : AH} {K : XS → Prop} {x : String × EId} {h : AH} (q : xQv V g K (Sum.inr x) h) : False := by obtain ⟨s, e, -⟩ := q; cases e
theorem xQp_no {V : XV} {g : AH} {K : XS → Prop} {x : String × EId} {h : AH} (q : xQp V g K (Sum.inr x) h) : False := by obtain ⟨s, e, -⟩ := q; cases e
theorem cQa_no {V : XV} {j : Nat} {h0 : AH} {K : Nat → Prop} {x : String × EId} {h : AH} (q : cQa V j h0 K (Sum.inr x) h) : False := by obtain ⟨s, e, -⟩ := q; cases e
theorem tQi_x {V : XV} {g : AH} {K : Int → XS → Prop} : ∀ o h, tQi V g K o h → ∃ o' s g', o = Sum.inl o' ∧ e_plain o' ∧ h = xh V s g' ∧ eX g g' ∧ xQi V g K o (xh V s g) := by
  rintro o h ⟨n, s, g', rfl, rfl, hx, hK⟩
  exact ⟨_, s, g', rfl, trivial, rfl, hx, n, s, rfl, rfl, hK⟩
theorem tQv_x {V : XV} {g : AH} {K : XS → Prop} : ∀ o h, tQv V g K o h → ∃ o' s g', o = Sum.inl o' ∧ e_plain o' ∧ h = xh V s g' ∧ eX g g' ∧ xQv V g K o (xh V s g) := by
  rintro o h ⟨s, g', rfl, rfl, hx, hK⟩
  exact ⟨_, s, g', rfl, trivial, rfl, hx, s, rfl, rfl, hK⟩
theorem tQc_x {V : XV} {s : XS} {g : AH} {K : Int → Prop} : ∀ o h, tQc V s g K o h → ∃ o' s' g', o = Sum.inl o' ∧ e_plain o' ∧ h = xh V s' g' ∧ eX g g' ∧ cQ (xh V s g) K o (xh V s' g) := by
  rintro o h ⟨n, g', rfl, rfl, hx, hK⟩
  exact ⟨_, s, g', rfl, trivial, rfl, hx, n, rfl, rfl, hK⟩
