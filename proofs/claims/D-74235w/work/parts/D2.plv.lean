/-! THE PURE PART, 69: levels, the plain law -/
set_option maxRecDepth 100000
def eqvQ (Q : Int → Int → Prop) : Prop := (∀ t, Q t t) ∧ (∀ t u, Q t u → Q u t) ∧ ∀ t u v, Q t u → Q u v → Q t v
def subR (n : Int) (r : Int → Int) (Q : Int → Int → Prop) : Prop := ∀ t u, 0 ≤ t → t < n → 0 ≤ u → u < n → r t = r u → Q t u
theorem eqvQ_r {r : Int → Int} : eqvQ (fun x y => r x = r y) := ⟨fun _ => rfl, fun _ _ h => h.symm, fun _ _ _ h g => h.trans g⟩
theorem subR_rf {n : Int} {r : Int → Int} : subR n r (fun x y => r x = r y) := fun _ _ _ _ _ _ e => e
theorem un_sub {n : Int} {r : Int → Int} {Q : Int → Int → Prop} {t u : Int} (hQ : eqvQ Q) (h : subR n r Q) (t0 : 0 ≤ t) (t1 : t < n) (u0 : 0 ≤ u) (u1 : u < n) (hq : Q t u) : subR n (un n r t u) Q := by
  intro x y x0 x1 y0 y1 e
  rcases (un_iff x0 x1 y0 y1).mp e with e | ⟨e1, e2⟩ | ⟨e1, e2⟩
  · exact h x y x0 x1 y0 y1 e
  · exact hQ.2.2 _ _ _ (h x t x0 x1 t0 t1 e1) (hQ.2.2 _ _ _ hq (hQ.2.1 _ _ (h y u y0 y1 u0 u1 e2)))
  · exact hQ.2.2 _ _ _ (h x u x0 x1 u0 u1 e1) (hQ.2.2 _ _ _ (hQ.2.1 _ _ hq) (hQ.2.1 _ _ (h y t y0 y1 t0 t1 e2)))
/-- amid the pairs -/
def PI (b : PB) (n : Int) (r1 r0 : Int → Int) (i j : Int) (r : Int → Int) : Prop := lr n r ∧ subR n r1 (fun x y => r x = r y) ∧ (∀ t u, 0 ≤ t → t < u → u < n → (t < i ∨ (t = i ∧ u < j)) → alk b r0 t u → r t = r u) ∧ ∀ Q, eqvQ Q → subR n r1 Q → (∀ t u, 0 ≤ t → t < n → 0 ≤ u → u < n → alk b r0 t u → Q t u) → subR n r Q
def PC (b : PB) (n : Int) (r1 r0 r : Int → Int) : Prop := lr n r ∧ subR n r1 (fun x y => r x = r y) ∧ (∀ t u, 0 ≤ t → t < n → 0 ≤ u → u < n → alk b r0 t u → r t = r u) ∧ ∀ Q, eqvQ Q → subR n r1 Q → (∀ t u, 0 ≤ t → t < n → 0 ≤ u → u < n → alk b r0 t u → Q t u) → subR n r Q
theorem PI_0 {b : PB} {n : Int} {r1 r0 : Int → Int} (h : lr n r1) : PI b n r1 r0 0 1 r1 := ⟨h, subR_rf, fun t u t0 t1 u1 h => by omega, fun Q _ h2 _ => h2⟩
theorem PI_y {b : PB} {n : Int} {r1 r0 r : Int → Int} {i j : Int} (h : PI b n r1 r0 i j r) (i0 : 0 ≤ i) (ij : i < j) (jn : j < n) (ha : alk b r0 i j) : PI b n r1 r0 i (j + 1) (un n r i j) := by
  obtain ⟨h1, h2, h3, h4⟩ := h
  refine ⟨un_lr h1 i0 (by omega) (by omega) jn, fun x y x0 x1 y0 y1 e => un_keeps x0 x1 y0 y1 (h2 x y x0 x1 y0 y1 e), fun t u t0 tu u1 hb hal => ?_, fun Q hQ q1 q2 => un_sub hQ (h4 Q hQ q1 q2) i0 (by omega) (by omega) jn (q2 i j i0 (by omega) (by omega) jn ha)⟩
  by_cases e : t = i ∧ u = j
  · rw [e.1, e.2]; exact un_joins i0 (by omega) (by omega) jn
  · exact un_keeps t0 (by omega) (by omega) u1 (h3 t u t0 tu u1 (by omega) hal)
theorem PI_n {b : PB} {n : Int} {r1 r0 r : Int → Int} {i j : Int} (h : PI b n r1 r0 i j r) (ha : ¬ alk b r0 i j) : PI b n r1 r0 i (j + 1) r := by
  obtain ⟨h1, h2, h3, h4⟩ := h
  refine ⟨h1, h2, fun t u t0 tu u1 hb hal => ?_, h4⟩
  by_cases e : t = i ∧ u = j
  · rw [e.1, e.2] at hal; exact absurd hal ha
  · exact h3 t u t0 tu u1 (by omega) hal
theorem PI_row {b : PB} {n : Int} {r1 r0 r : Int → Int} {i j : Int} (h : PI b n r1 r0 i j r) (hj : n ≤ j) : PI b n r1 r0 (i + 1) (i + 1 + 1) r :=
  ⟨h.1, h.2.1, fun t u t0 tu u1 hb hal => h.2.2.1 t u t0 tu u1 (by omega) hal, h.2.2.2⟩
theorem PI_end {b : PB} {n : Int} {r1 r0 r : Int → Int} {i j : Int} (h : PI b n r1 r0 i j r) (hi : n ≤ i) : PC b n r1 r0 r := by
  refine ⟨h.1, h.2.1, fun t u t0 t1 u0 u1 hal => ?_, h.2.2.2⟩
  by_cases e : t < u
  · exact h.2.2.1 t u t0 e u1 (by omega) hal
  · by_cases e2 : u < t
    · exact (h.2.2.1 u t u0 e2 t1 (by omega) (alk_symm hal)).symm
    · rw [show t = u by omega]
/-- the sames alone -/
def SC (b : PB) (n k : Int) (r : Int → Int) : Prop := lr n r ∧ (∀ i, 0 ≤ i → i < k → r (b.sa i) = r (b.sb i)) ∧ ∀ Q, eqvQ Q → (∀ i, 0 ≤ i → i < k → Q (b.sa i) (b.sb i)) → subR n r Q
theorem SC_0 {b : PB} {n : Int} {r : Int → Int} (h : ∀ i, 0 ≤ i → i < n → r i = i) : SC b n 0 r := ⟨lr_id h, fun i i0 i1 => by omega, fun Q hQ _ t u t0 t1 u0 u1 e => by
  rw [h t t0 t1, h u u0 u1] at e
  rw [e]; exact hQ.1 u⟩
theorem SC_s {b : PB} {k : Int} {r : Int → Int} (hb : b.ok) (k0 : 0 ≤ k) (k1 : k < b.ns) (h : SC b b.nt k r) : SC b b.nt (k + 1) (un b.nt r (b.sa k) (b.sb k)) := by
  obtain ⟨h1, h2, h3⟩ := h
  have ha := hb.sa k k0 k1
  have hb' := hb.sb k k0 k1
  refine ⟨un_lr h1 ha.1 ha.2 hb'.1 hb'.2, fun i i0 i1 => ?_, fun Q hQ hq => un_sub hQ (h3 Q hQ (fun i i0 i1 => hq i i0 (by omega))) ha.1 ha.2 hb'.1 hb'.2 (hq k k0 (by omega))⟩
  by_cases e : i = k
  · rw [e]; exact un_joins ha.1 ha.2 hb'.1 hb'.2
  · have ha2 := hb.sa i i0 (by omega)
    have hb2 := hb.sb i i0 (by omega)
    exact un_keeps ha2.1 ha2.2 hb2.1 hb2.2 (h2 i i0 (by omega))
/-- a level by both -/
def LV (b : PB) (rM rS : Int → Int) : Prop := lr b.nt rM ∧ (∀ t u, 0 ≤ t → t < b.nt → 0 ≤ u → u < b.nt → (rS t = rS u ↔ rM t = rM u)) ∧ (∀ i, 0 ≤ i → i < b.ns → rM (b.sa i) = rM (b.sb i)) ∧ ∀ Q, eqvQ Q → (∀ i, 0 ≤ i → i < b.ns → Q (b.sa i) (b.sb i)) → (∀ t u, 0 ≤ t → t < b.nt → 0 ≤ u → u < b.nt → alk b rM t u → Q t u) → subR b.nt rM Q
theorem LV_0 {b : PB} {rM rS : Int → Int} (hb : b.ok) (h1 : SC b b.nt b.ns rM) (h2 : SC b b.nt b.ns rS) : LV b rM rS :=
  ⟨h1.1, fun t u t0 t1 u0 u1 => ⟨fun e => h2.2.2 _ (eqvQ_r (r := rM)) h1.2.1 t u t0 t1 u0 u1 e, fun e => h1.2.2 _ (eqvQ_r (r := rS)) h2.2.1 t u t0 t1 u0 u1 e⟩, h1.2.1, fun Q hQ q1 _ => h1.2.2 Q hQ q1⟩
theorem alk_mono {b : PB} {r r' : Int → Int} {t u : Int} (hb : b.ok) (h : subR b.nt r (fun x y => r' x = r' y)) (t0 : 0 ≤ t) (t1 : t < b.nt) (u0 : 0 ≤ u) (u1 : u < b.nt) (ha : alk b r t u) : alk b r' t u := by
  refine ⟨ha.1, fun k k0 k1 => ?_⟩
  have h1 := hb.pt t t0 t1 k k0 k1
  have h2 := hb.pt u u0 u1 k k0 (by rw [← ha.1]; exact k1)
  exact h _ _ h1.1 (by omega) h2.1 (by omega) (ha.2 k k0 k1)
theorem LV_s {b : PB} {rM rS rM' r1 rS' : Int → Int} (hb : b.ok) (h : LV b rM rS) (hM : PC b b.nt rM rM rM') (h1 : SC b b.nt b.ns r1) (hS : PC b b.nt r1 rS rS') : LV b rM' rS' := by
  obtain ⟨l1, l2, l3, l4⟩ := h
  have s1 : subR b.nt rM (fun x y => rS x = rS y) := fun t u t0 t1 u0 u1 e => (l2 t u t0 t1 u0 u1).mpr e
  have s2 : subR b.nt rS (fun x y => rM x = rM y) := fun t u t0 t1 u0 u1 e => (l2 t u t0 t1 u0 u1).mp e
  have hsS : ∀ i, 0 ≤ i → i < b.ns → rS' (b.sa i) = rS' (b.sb i) := fun i i0 i1 => hS.2.1 _ _ (hb.sa i i0 i1).1 (hb.sa i i0 i1).2 (hb.sb i i0 i1).1 (hb.sb i i0 i1).2 (h1.2.1 i i0 i1)
  have hsM : ∀ i, 0 ≤ i → i < b.ns → rM' (b.sa i) = rM' (b.sb i) := fun i i0 i1 => hM.2.1 _ _ (hb.sa i i0 i1).1 (hb.sa i i0 i1).2 (hb.sb i i0 i1).1 (hb.sb i i0 i1).2 (l3 i i0 i1)
  have haS : ∀ t u, 0 ≤ t → t < b.nt → 0 ≤ u → u < b.nt → alk b rM t u → rS' t = rS' u := fun t u t0 t1 u0 u1 ha => hS.2.2.1 t u t0 t1 u0 u1 (alk_mono hb s1 t0 t1 u0 u1 ha)
  have hMS : subR b.nt rM' (fun x y => rS' x = rS' y) := hM.2.2.2 _ eqvQ_r (l4 _ eqvQ_r hsS haS) haS
  have hSM : subR b.nt rS' (fun x y => rM' x = rM' y) := hS.2.2.2 _ eqvQ_r (h1.2.2 _ eqvQ_r hsM) (fun t u t0 t1 u0 u1 ha => hM.2.2.1 t u t0 t1 u0 u1 (alk_mono hb s2 t0 t1 u0 u1 ha))
  exact ⟨hM.1, fun t u t0 t1 u0 u1 => ⟨hSM t u t0 t1 u0 u1, hMS t u t0 t1 u0 u1⟩, hsM, fun Q hQ q1 q2 => hM.2.2.2 Q hQ (l4 Q hQ q1 (fun t u t0 t1 u0 u1 ha => q2 t u t0 t1 u0 u1 (alk_mono hb hM.2.1 t0 t1 u0 u1 ha))) (fun t u t0 t1 u0 u1 ha => q2 t u t0 t1 u0 u1 (alk_mono hb hM.2.1 t0 t1 u0 u1 ha))⟩
/-- fewer groups -/
theorem gr_lt {n : Int} {r r' : Int → Int} {x y : Int} (hl : lr n r) (hl' : lr n r') (hs : subR n r (fun x y => r' x = r' y)) (x0 : 0 ≤ x) (x1 : x < n) (y0 : 0 ≤ y) (y1 : y < n) (e' : r' x = r' y) (e : r x ≠ r y) : gr n r' < gr n r := by
  have hx := hl x x0 x1
  have hy := hl y y0 y1
  have hp : r' (r x) = r' x := hs (r x) x hx.1 (by omega) x0 x1 hx.2.2
  have hq : r' (r y) = r' y := hs (r y) y hy.1 (by omega) y0 y1 hy.2.2
  have hsub : ∀ k, 0 ≤ k → k < n → r' k = k → r k = k := fun k k0 k1 hk => by
    have h1 := hl k k0 k1
    have h2 := hl' (r k) h1.1 (by omega)
    have h3 : r' (r k) = r' k := hs (r k) k h1.1 (by omega) k0 k1 h1.2.2
    omega
  by_cases c : r' (r x) = r x
  · exact cn_lt (P := fun t => r' t = t) (Q := fun t => r t = t) (x := r y) hy.1 (by omega) hy.2.2 (fun g => e (by
      have g : r' (r y) = r y := g
      omega)) hsub
  · exact cn_lt (P := fun t => r' t = t) (Q := fun t => r t = t) (x := r x) hx.1 (by omega) hx.2.2 c hsub
/-- on the way there is always more to join -/
theorem LV_more {b : PB} {rM rS rM' R : Int → Int} {t u : Int} (hb : b.ok) (h : LV b rM rS) (hM : PC b b.nt rM rM rM') (hg : good b b.nt (sE b) R) (t0 : 0 ≤ t) (t1 : t < b.nt) (u0 : 0 ≤ u) (u1 : u < b.nt) (eR : R t = R u) (ne : rM t ≠ rM u) : gr b.nt rM' < gr b.nt rM := by
  by_cases hall : ∀ x y, 0 ≤ x → x < b.nt → 0 ≤ y → y < b.nt → rM' x = rM' y → rM x = rM y
  · refine absurd (hg.sound (fun x y => rM x = rM y) ⟨fun _ => rfl, fun _ _ e => e.symm, fun _ _ _ e g => e.trans g, fun x y ⟨k, k0, k1, ex, ey⟩ => by rw [ex, ey]; exact h.2.2.1 k k0 k1, fun x y x0 x1 y0 y1 ha => hall x y x0 x1 y0 y1 (hM.2.2.1 x y x0 x1 y0 y1 ha)⟩ t u t0 t1 u0 u1 eR) ne
  · by_cases hex : ∃ x y, (0 ≤ x ∧ x < b.nt) ∧ (0 ≤ y ∧ y < b.nt) ∧ rM' x = rM' y ∧ rM x ≠ rM y
    · obtain ⟨x, y, hx, hy, e1, e2⟩ := hex
      exact gr_lt h.1 hM.1 hM.2.1 hx.1 hx.2 hy.1 hy.2 e1 e2
    · exact absurd (fun x y x0 x1 y0 y1 e => Classical.byContradiction (fun g => hex ⟨x, y, ⟨x0, x1⟩, ⟨y0, y1⟩, e, g⟩)) hall
