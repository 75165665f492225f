/-! THE READER: posts; Fault -/
set_option maxRecDepth 100000
/-- where a Fault lies -/
abbrev fI : EId := (3, 0, 0)
/-- a Fault's fields: kind and place -/
def vFk (fs : Nat → AV) (kd pl : Int) : Prop := fs 6 = aI kd ∧ fs 7 = aI pl
/-- the reader's own names -/
def rreg (V : XV) (i : EId) : Prop := i = rT ∨ i = fI ∨ (i.1 = 10 + V 9 ∧ i.2.1 < 20)
def rX (V : XV) (g : AH) (KX : Int → Int → Prop) : AO → AH → Prop := fun o h => ∃ kd pl fs, o = Sum.inr (RX9, fI) ∧ h fI = some (kO 7 fs) ∧ vFk fs kd pl ∧ (∀ i, ¬ rreg V i → g i ≠ none → h i = g i) ∧ KX kd pl
def rQi (V : XV) (g : AH) (K : Int → MS → Prop) (KX : Int → Int → Prop) : AO → AH → Prop := fun o h => (∃ n r, o = Sum.inl (some (aI n)) ∧ h = rh V r g ∧ K n r) ∨ rX V g KX o h
def rQl (V : XV) (g : AH) (K : Int → MS → Prop) (KX : Int → Int → Prop) : AO → AH → Prop := fun o h => (∃ n r, o = Sum.inl (some (aL n)) ∧ h = rh V r g ∧ K n r) ∨ rX V g KX o h
def rQv (V : XV) (g : AH) (K : MS → Prop) (KX : Int → Int → Prop) : AO → AH → Prop := fun o h => (∃ r, o = Sum.inl none ∧ h = rh V r g ∧ K r) ∨ rX V g KX o h
def rQb (V : XV) (g : AH) (K : MS → Prop) (KX : Int → Int → Prop) : AO → AH → Prop := fun o h => (∃ r, o = Sum.inl (some (aR (some (bI V 1 0)))) ∧ h = rh V r g ∧ K r) ∨ rX V g KX o h
theorem rX_mono {V : XV} {g g' : AH} {KX : Int → Int → Prop} {o : AO} {h : AH} (hg : ∀ i, ¬ rreg V i → g i ≠ none → g' i = g i) (q : rX V g' KX o h) : rX V g KX o h := by
  obtain ⟨kd, pl, fs, h1, h2, h3, h4, h5⟩ := q
  exact ⟨kd, pl, fs, h1, h2, h3, fun i hr hi => by rw [h4 i hr (by rw [hg i hr hi]; exact hi), hg i hr hi], h5⟩
def nQi (V : XV) (g : AH) (K : Int → MS → Prop) : AO → AH → Prop := fun o h => ∃ n r, o = Sum.inl (some (aI n)) ∧ h = rh V r g ∧ K n r
def nQv (V : XV) (g : AH) (K : MS → Prop) : AO → AH → Prop := fun o h => ∃ r, o = Sum.inl none ∧ h = rh V r g ∧ K r
theorem nQi_no {V : XV} {g : AH} {K : Int → MS → Prop} {x : String × EId} {h : AH} (q : nQi V g K (Sum.inr x) h) : False := by obtain ⟨n, s, e, -⟩ := q; cases e
theorem nQv_no {V : XV} {g : AH} {K : MS → Prop} {x : String × EId} {h : AH} (q : nQv V g K (Sum.inr x) h) : False := by obtain ⟨s, e, -⟩ := q; cases e
