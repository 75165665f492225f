/-! THE PURE PART, 19: what stands, step by step -/
set_option maxRecDepth 100000
def termZ (z : ZS) (f : Int) (p : Int → Int) : ZS :=
  (ms (maR (maR (maR (maR (maR z.1 28 (iup (z.1.2 28) (z.1.1 27) f)) 29 (fun i => if 3 * z.1.1 27 ≤ i ∧ i < 3 * z.1.1 27 + 3 then p (i - 3 * z.1.1 27) else z.1.2 29 i)) 36 (iup (z.1.2 36) (z.1.1 27) (z.1.1 27))) 37 (iup (z.1.2 37) (z.1.1 27) (-2))) 38 (iup (z.1.2 38) (z.1.1 27) (-1))) 27 (z.1.1 27 + 1), fun v i => if v = z.1.1 27 then false else z.2 v i)
def sameZ (z : ZS) (a b : Int) : ZS := (ms (maR (maR z.1 31 (iup (z.1.2 31) (z.1.1 30) a)) 32 (iup (z.1.2 32) (z.1.1 30) b)) 30 (z.1.1 30 + 1), z.2)
def diffZ (z : ZS) (a b : Int) : ZS := (ms (maR (maR z.1 34 (iup (z.1.2 34) (z.1.1 33) a)) 35 (iup (z.1.2 35) (z.1.1 33) b)) 33 (z.1.1 33 + 1), z.2)
noncomputable def stepZ (z : ZS) (w : Int → Int) : ZS :=
  if w 0 = 0 then closeZ 24 (termZ z (w 1) (fun k => w (2 + k))) else if w 0 = 1 then (if z.1.2 36 (w 1) = z.1.2 36 (w 2) then sameZ z (w 1) (w 2) else closeZ 24 (joinZ (sameZ z (w 1) (w 2)) (w 1) (w 2) (z.1.1 30))) else diffZ z (w 1) (w 2)
/-- a row that may come -/
def okW (z : ZS) (w : Int → Int) : Prop :=
  (w 0 = 0 → z.1.1 27 < 24 ∧ (0 ≤ w 1 ∧ w 1 < z.1.1 6) ∧ ∀ k, 0 ≤ k → k < z.1.2 7 (w 1) → 0 ≤ w (2 + k) ∧ w (2 + k) < z.1.1 27) ∧
  (w 0 = 1 → z.1.1 30 < 12 ∧ (0 ≤ w 1 ∧ w 1 < z.1.1 27) ∧ 0 ≤ w 2 ∧ w 2 < z.1.1 27) ∧
  (w 0 ≠ 0 → w 0 ≠ 1 → z.1.1 33 < 8 ∧ (0 ≤ w 1 ∧ w 1 < z.1.1 27) ∧ 0 ≤ w 2 ∧ w 2 < z.1.1 27)
def sE (b : PB) (x y : Int) : Prop := ∃ k, 0 ≤ k ∧ k < b.ns ∧ x = b.sa k ∧ y = b.sb k
abbrev fullZ (z : ZS) : Prop := wfZ z ∧ noFP (bkM z.1) (z.1.2 36) (z.1.1 27) ∧ sdZ (sE (bkM z.1)) z
theorem sE_in {b : PB} (hb : b.ok) : ∀ x y, sE b x y → (0 ≤ x ∧ x < b.nt) ∧ 0 ≤ y ∧ y < b.nt := by
  rintro x y ⟨k, k0, k1, rfl, rfl⟩
  exact ⟨hb.sa k k0 k1, hb.sb k k0 k1⟩
theorem fullZ.good {z : ZS} (h : fullZ z) : good (bkM z.1) (bkM z.1).nt (sE (bkM z.1)) (z.1.2 36) := ⟨h.1.lr, h.2.2.1, h.2.2.2, noFP_closed h.2.1⟩
/-! a term more -/
theorem termZ_ok {z : ZS} {f : Int} {p : Int → Int} (hb : (bkM z.1).ok) (hn : z.1.1 27 < 24) (hf : 0 ≤ f ∧ f < z.1.1 6) (hp : ∀ k, 0 ≤ k → k < z.1.2 7 f → 0 ≤ p k ∧ p k < z.1.1 27) : (bkM (termZ z f p).1).ok := by
  obtain ⟨b1, b2, b3, b4, b5, b6, b7, b8, b9, b10, b11⟩ := hb
  have b3 : 0 ≤ z.1.1 27 ∧ z.1.1 27 ≤ 24 := b3
  refine ⟨b1, b2, ?_, fun t t0 t1 => ?_, fun t t0 t1 k k0 k1 => ?_, b6, fun k k0 k1 => ?_, fun k k0 k1 => ?_, b9, fun k k0 k1 => ?_, fun k k0 k1 => ?_⟩
  · show 0 ≤ z.1.1 27 + 1 ∧ z.1.1 27 + 1 ≤ 24
    omega
  · have t1 : t < z.1.1 27 + 1 := t1
    show 0 ≤ iup (z.1.2 28) (z.1.1 27) f t ∧ iup (z.1.2 28) (z.1.1 27) f t < z.1.1 6
    by_cases e : t = z.1.1 27
    · rw [e, iup_at]; exact hf
    · rw [iup_ne e]; exact b4 t t0 (show t < z.1.1 27 by omega)
  · have t1 : t < z.1.1 27 + 1 := t1
    have k1 : k < z.1.2 7 (iup (z.1.2 28) (z.1.1 27) f t) := k1
    show 0 ≤ (if 3 * z.1.1 27 ≤ 3 * t + k ∧ 3 * t + k < 3 * z.1.1 27 + 3 then p (3 * t + k - 3 * z.1.1 27) else z.1.2 29 (3 * t + k)) ∧ (if 3 * z.1.1 27 ≤ 3 * t + k ∧ 3 * t + k < 3 * z.1.1 27 + 3 then p (3 * t + k - 3 * z.1.1 27) else z.1.2 29 (3 * t + k)) < t
    by_cases e : t = z.1.1 27
    · rw [e, iup_at] at k1
      have := b2 f hf.1 hf.2
      have : z.1.2 7 f ≤ 3 := this.2
      rw [e, if_pos (by omega), show 3 * z.1.1 27 + k - 3 * z.1.1 27 = k by omega]
      exact hp k k0 k1
    · rw [iup_ne e] at k1
      have t2 : t < z.1.1 27 := by omega
      have g1 := b4 t t0 t2
      have g2 := b2 _ g1.1 g1.2
      have g3 : z.1.2 7 (z.1.2 28 t) ≤ 3 := g2.2
      rw [if_neg (by omega)]
      exact b5 t t0 t2 k k0 k1
  · have := b7 k k0 k1
    exact ⟨this.1, show (bkM z.1).sa k < z.1.1 27 + 1 by have h2 : (bkM z.1).sa k < z.1.1 27 := this.2; omega⟩
  · have := b8 k k0 k1
    exact ⟨this.1, show (bkM z.1).sb k < z.1.1 27 + 1 by have h2 : (bkM z.1).sb k < z.1.1 27 := this.2; omega⟩
  · have := b10 k k0 k1
    exact ⟨this.1, show (bkM z.1).da k < z.1.1 27 + 1 by have h2 : (bkM z.1).da k < z.1.1 27 := this.2; omega⟩
  · have := b11 k k0 k1
    exact ⟨this.1, show (bkM z.1).db k < z.1.1 27 + 1 by have h2 : (bkM z.1).db k < z.1.1 27 := this.2; omega⟩
theorem termZ_fn {z : ZS} {f t : Int} {p : Int → Int} (h : t < z.1.1 27) : (bkM (termZ z f p).1).fn t = (bkM z.1).fn t := iup_ne (by omega)
theorem termZ_pt {z : ZS} {f t k : Int} {p : Int → Int} (h : t < z.1.1 27) (k1 : k < 3) : (bkM (termZ z f p).1).pt t k = (bkM z.1).pt t k := if_neg (by omega)
theorem termZ_wf {z : ZS} {f : Int} {p : Int → Int} (h : wfZ z) (hn : z.1.1 27 < 24) (hf : 0 ≤ f ∧ f < z.1.1 6) (hp : ∀ k, 0 ≤ k → k < z.1.2 7 f → 0 ≤ p k ∧ p k < z.1.1 27) : wfZ (termZ z f p) := by
  have hok := termZ_ok h.ok hn hf hp
  obtain ⟨hb, hl, ⟨⟨rk, f1⟩, f2, f3, f4, f5⟩, ⟨hj, hg⟩, hw⟩ := h
  have h24 : 0 ≤ z.1.1 27 ∧ z.1.1 27 ≤ 24 := hb.nt
  have el : ∀ t, t < z.1.1 27 → iup (z.1.2 36) (z.1.1 27) (z.1.1 27) t = z.1.2 36 t := fun t q => iup_ne (by omega)
  have eu : ∀ t, t < z.1.1 27 → iup (z.1.2 37) (z.1.1 27) (-2) t = z.1.2 37 t := fun t q => iup_ne (by omega)
  have eh : ∀ t, t < z.1.1 27 → iup (z.1.2 38) (z.1.1 27) (-1) t = z.1.2 38 t := fun t q => iup_ne (by omega)
  have es : ∀ t i, t < z.1.1 27 → (if t = z.1.1 27 then false else z.2 t i) = z.2 t i := fun t i q => if_neg (by omega)
  refine ⟨hok, ?_, ⟨⟨fun t => if t = z.1.1 27 then 0 else rk t, fun t t0 t1 => ?_⟩, fun t t0 t1 q => ?_, fun t t' t0 t1 u0 u1 q q' e => ?_, fun t t' t0 t1 u0 u1 q q' e => ?_, fun t i t0 t1 q => ?_⟩, ⟨hj, ?_⟩, fun j j0 j1 => ?_⟩
  · intro t t0 t1
    have t1 : t < z.1.1 27 + 1 := t1
    show 0 ≤ iup (z.1.2 36) (z.1.1 27) (z.1.1 27) t ∧ iup (z.1.2 36) (z.1.1 27) (z.1.1 27) t ≤ t ∧ iup (z.1.2 36) (z.1.1 27) (z.1.1 27) (iup (z.1.2 36) (z.1.1 27) (z.1.1 27) t) = iup (z.1.2 36) (z.1.1 27) (z.1.1 27) t
    by_cases e : t = z.1.1 27
    · rw [e, iup_at, iup_at]; exact ⟨h24.1, Int.le_refl _, rfl⟩
    · have := hl t t0 (by omega)
      rw [el t (by omega), el _ (by omega)]; exact this
  · have t1 : t < z.1.1 27 + 1 := t1
    show (0 ≤ (if t = z.1.1 27 then 0 else rk t) ∧ (if t = z.1.1 27 then 0 else rk t) < z.1.1 27 + 1) ∧ (iup (z.1.2 37) (z.1.1 27) (-2) t ≠ -2 → (if iup (z.1.2 37) (z.1.1 27) (-2) t = z.1.1 27 then 0 else rk (iup (z.1.2 37) (z.1.1 27) (-2) t)) < (if t = z.1.1 27 then 0 else rk t))
    by_cases e : t = z.1.1 27
    · rw [e, if_pos rfl, iup_at]; exact ⟨by omega, fun q => absurd rfl q⟩
    · have := f1 t t0 (by omega)
      rw [if_neg e, eu t (by omega)]
      refine ⟨by omega, fun q => ?_⟩
      have g := (f2 t t0 (by omega) q).1
      rw [if_neg (by omega)]
      exact this.2 q
  · have t1 : t < z.1.1 27 + 1 := t1
    have q : iup (z.1.2 37) (z.1.1 27) (-2) t ≠ -2 := q
    by_cases e : t = z.1.1 27
    · rw [e, iup_at] at q; exact absurd rfl q
    · rw [eu t (by omega)] at q
      obtain ⟨g1, g2, g3, g4⟩ := f2 t t0 (by omega) q
      show (0 ≤ iup (z.1.2 37) (z.1.1 27) (-2) t ∧ iup (z.1.2 37) (z.1.1 27) (-2) t < z.1.1 27 + 1) ∧ (0 ≤ iup (z.1.2 38) (z.1.1 27) (-1) t ∧ iup (z.1.2 38) (z.1.1 27) (-1) t < z.1.1 39) ∧ (∀ i, (if t = z.1.1 27 then false else z.2 t i) ≠ (if iup (z.1.2 37) (z.1.1 27) (-2) t = z.1.1 27 then false else z.2 (iup (z.1.2 37) (z.1.1 27) (-2) t) i) ↔ i = iup (z.1.2 38) (z.1.1 27) (-1) t) ∧ iup (z.1.2 36) (z.1.1 27) (z.1.1 27) t = iup (z.1.2 36) (z.1.1 27) (z.1.1 27) (iup (z.1.2 37) (z.1.1 27) (-2) t)
      rw [eu t (by omega), eh t (by omega), el t (by omega), el _ g1.2]
      refine ⟨⟨g1.1, by omega⟩, g2, fun i => ?_, g4⟩
      rw [if_neg e, if_neg (by omega)]
      exact g3 i
  · have t1 : t < z.1.1 27 + 1 := t1
    have u1 : t' < z.1.1 27 + 1 := u1
    have q : iup (z.1.2 37) (z.1.1 27) (-2) t ≠ -2 := q
    have q' : iup (z.1.2 37) (z.1.1 27) (-2) t' ≠ -2 := q'
    have n1 : t ≠ z.1.1 27 := fun e => by rw [e, iup_at] at q; exact q rfl
    have n2 : t' ≠ z.1.1 27 := fun e => by rw [e, iup_at] at q'; exact q' rfl
    have e : iup (z.1.2 38) (z.1.1 27) (-1) t = iup (z.1.2 38) (z.1.1 27) (-1) t' := e
    rw [eu t (by omega)] at q
    rw [eu t' (by omega)] at q'
    rw [eh t (by omega), eh t' (by omega)] at e
    exact f3 t t' t0 (by omega) u0 (by omega) q q' e
  · have t1 : t < z.1.1 27 + 1 := t1
    have u1 : t' < z.1.1 27 + 1 := u1
    have q : iup (z.1.2 37) (z.1.1 27) (-2) t = -2 := q
    have q' : iup (z.1.2 37) (z.1.1 27) (-2) t' = -2 := q'
    have e : iup (z.1.2 36) (z.1.1 27) (z.1.1 27) t = iup (z.1.2 36) (z.1.1 27) (z.1.1 27) t' := e
    by_cases n1 : t = z.1.1 27 <;> by_cases n2 : t' = z.1.1 27
    · rw [n1, n2]
    · rw [n1, iup_at, el t' (by omega)] at e
      have := hl t' u0 (by omega)
      omega
    · rw [n2, iup_at, el t (by omega)] at e
      have := hl t t0 (by omega)
      omega
    · rw [eu t (by omega)] at q
      rw [eu t' (by omega)] at q'
      rw [el t (by omega), el t' (by omega)] at e
      exact f4 t t' t0 (by omega) u0 (by omega) q q' e
  · have t1 : t < z.1.1 27 + 1 := t1
    have q : (if t = z.1.1 27 then false else z.2 t i) = true := q
    by_cases e : t = z.1.1 27
    · rw [if_pos e] at q; exact absurd q (by decide)
    · rw [if_neg e] at q; exact f5 t i t0 (by omega) q
  · show z.1.1 39 + gr (z.1.1 27 + 1) (iup (z.1.2 36) (z.1.1 27) (z.1.1 27)) = z.1.1 27 + 1
    rw [gr_y h24.1 iup_at, gr_congr (r' := z.1.2 36) (fun t t0 t1 => el t t1)]
    omega
  · obtain ⟨⟨w1, w1'⟩, w2, w3⟩ := hw j j0 j1
    have a1 : z.1.2 40 j < z.1.1 27 := w1.2
    have a2 : z.1.2 41 j < z.1.1 27 := w1'.2
    refine ⟨⟨⟨w1.1, ?_⟩, ⟨w1'.1, ?_⟩⟩, w2, fun q => ?_⟩
    · show z.1.2 40 j < z.1.1 27 + 1
      omega
    · show z.1.2 41 j < z.1.1 27 + 1
      omega
    · obtain ⟨v1, v2, v3⟩ := w3 q
      have e1 : (bkM (termZ z f p).1).fn (z.1.2 40 j) = (bkM z.1).fn (z.1.2 40 j) := termZ_fn a1
      have e2 : (bkM (termZ z f p).1).fn (z.1.2 41 j) = (bkM z.1).fn (z.1.2 41 j) := termZ_fn a2
      have g1 := hb.fn _ w1.1 w1.2
      have g2 := hb.tk _ g1.1 g1.2
      have e3 : ∀ k, 0 ≤ k → k < (bkM z.1).tk ((bkM z.1).fn (z.1.2 40 j)) → ((bkM (termZ z f p).1).pt (z.1.2 40 j) k = (bkM z.1).pt (z.1.2 40 j) k ∧ (bkM (termZ z f p).1).pt (z.1.2 41 j) k = (bkM z.1).pt (z.1.2 41 j) k) ∧ (bkM z.1).pt (z.1.2 40 j) k < z.1.1 27 ∧ (bkM z.1).pt (z.1.2 41 j) k < z.1.1 27 := fun k k0 k1 => by
        have p1 := hb.pt _ w1.1 w1.2 k k0 k1
        have p2 := hb.pt _ w1'.1 w1'.2 k k0 (by rw [← v1]; exact k1)
        exact ⟨⟨termZ_pt a1 (by omega), termZ_pt a2 (by omega)⟩, by omega, by omega⟩
      show (bkM (termZ z f p).1).fn (z.1.2 40 j) = (bkM (termZ z f p).1).fn (z.1.2 41 j) ∧ (∀ k, 0 ≤ k → k < (bkM z.1).tk ((bkM (termZ z f p).1).fn (z.1.2 40 j)) → iup (z.1.2 36) (z.1.1 27) (z.1.1 27) ((bkM (termZ z f p).1).pt (z.1.2 40 j) k) = iup (z.1.2 36) (z.1.1 27) (z.1.1 27) ((bkM (termZ z f p).1).pt (z.1.2 41 j) k) ∧ ∀ i, (if (bkM (termZ z f p).1).pt (z.1.2 40 j) k = z.1.1 27 then false else z.2 ((bkM (termZ z f p).1).pt (z.1.2 40 j) k) i) ≠ (if (bkM (termZ z f p).1).pt (z.1.2 41 j) k = z.1.1 27 then false else z.2 ((bkM (termZ z f p).1).pt (z.1.2 41 j) k) i) → i < j) ∧ z.1.2 43 j = orb (fun k => orb (z.1.2 43) (wayP (fun v i => if v = z.1.1 27 then false else z.2 v i) ((bkM (termZ z f p).1).pt (z.1.2 40 j) k) ((bkM (termZ z f p).1).pt (z.1.2 41 j) k)) j) (fun _ => true) ((bkM z.1).tk ((bkM (termZ z f p).1).fn (z.1.2 40 j)))
      rw [e1, e2]
      refine ⟨v1, fun k k0 k1 => ?_, ?_⟩
      · obtain ⟨⟨c1, c2⟩, c3, c4⟩ := e3 k k0 k1
        rw [c1, c2, el _ c3, el _ c4]
        refine ⟨(v2 k k0 k1).1, fun i => ?_⟩
        rw [es _ i c3, es _ i c4]
        exact (v2 k k0 k1).2 i
      · rw [v3]
        refine orb_congr (fun k k0 k1 => ⟨rfl, fun _ => orb_congr (fun i i0 i1 => ⟨?_, fun _ => rfl⟩)⟩)
        obtain ⟨⟨c1, c2⟩, c3, c4⟩ := e3 k k0 k1
        rw [c1, c2]
        show (_ ^^ _) = ((if _ = z.1.1 27 then false else z.2 _ i) ^^ (if _ = z.1.1 27 then false else z.2 _ i))
        rw [es _ i c3, es _ i c4]
theorem termZ_sd {z : ZS} {f : Int} {p : Int → Int} (h : wfZ z) (hs : sdZ (sE (bkM z.1)) z) : sdZ (sE (bkM (termZ z f p).1)) (termZ z f p) := by
  have hb := h.ok
  have h24 : 0 ≤ z.1.1 27 ∧ z.1.1 27 ≤ 24 := hb.nt
  have el : ∀ t, t < z.1.1 27 → iup (z.1.2 36) (z.1.1 27) (z.1.1 27) t = z.1.2 36 t := fun t q => iup_ne (by omega)
  have hl := h.lr
  refine ⟨fun Q hQ t u t0 t1 u0 u1 e => ?_, fun x y hxy => ?_⟩
  · have t1 : t < z.1.1 27 + 1 := t1
    have u1 : u < z.1.1 27 + 1 := u1
    have e : iup (z.1.2 36) (z.1.1 27) (z.1.1 27) t = iup (z.1.2 36) (z.1.1 27) (z.1.1 27) u := e
    have hQ' : cg (bkM z.1) (z.1.1 27) (sE (bkM z.1)) Q := by
      refine ⟨hQ.1, hQ.2.1, hQ.2.2.1, hQ.2.2.2.1, fun t u t0 t1 u0 u1 ha => hQ.2.2.2.2 t u t0 (show t < z.1.1 27 + 1 by omega) u0 (show u < z.1.1 27 + 1 by omega) ⟨?_, fun k k0 k1 => ?_⟩⟩
      · rw [termZ_fn t1, termZ_fn u1]; exact ha.1
      · have g1 := hb.fn t t0 t1
        have g2 := hb.tk _ g1.1 g1.2
        rw [termZ_fn t1] at k1
        have k1 : k < (bkM z.1).tk ((bkM z.1).fn t) := k1
        rw [termZ_pt t1 (by omega), termZ_pt u1 (by omega)]
        exact ha.2 k k0 k1
    by_cases n1 : t = z.1.1 27 <;> by_cases n2 : u = z.1.1 27
    · rw [n1, n2]; exact hQ.1 _
    · rw [n1, iup_at, el u (by omega)] at e
      have := hl u u0 (by omega)
      omega
    · rw [n2, iup_at, el t (by omega)] at e
      have := hl t t0 (by omega)
      omega
    · rw [el t (by omega), el u (by omega)] at e
      exact hs.1 Q hQ' t u t0 (by omega) u0 (by omega) e
  · have := sE_in hb x y hxy
    have e := hs.2 x y hxy
    show iup (z.1.2 36) (z.1.1 27) (z.1.1 27) x = iup (z.1.2 36) (z.1.1 27) (z.1.1 27) y
    have x1 : x < z.1.1 27 := this.1.2
    have y1 : y < z.1.1 27 := this.2.2
    rw [el x x1, el y y1]
    exact e
/-! a same, a difference more -/
theorem sameZ_wf {z : ZS} {a b : Int} (h : wfZ z) (hn : z.1.1 30 < 12) (ha : 0 ≤ a ∧ a < z.1.1 27) (hb : 0 ≤ b ∧ b < z.1.1 27) : wfZ (sameZ z a b) := by
  obtain ⟨⟨b1, b2, b3, b4, b5, b6, b7, b8, b9, b10, b11⟩, hr⟩ := h
  have b6 : 0 ≤ z.1.1 30 ∧ z.1.1 30 ≤ 12 := b6
  refine ⟨⟨b1, b2, b3, b4, b5, ?_, fun k k0 k1 => ?_, fun k k0 k1 => ?_, b9, b10, b11⟩, hr⟩
  · show 0 ≤ z.1.1 30 + 1 ∧ z.1.1 30 + 1 ≤ 12
    omega
  · have k1 : k < z.1.1 30 + 1 := k1
    show 0 ≤ iup (z.1.2 31) (z.1.1 30) a k ∧ iup (z.1.2 31) (z.1.1 30) a k < z.1.1 27
    by_cases e : k = z.1.1 30
    · rw [e, iup_at]; exact ha
    · rw [iup_ne e]; exact b7 k k0 (show k < z.1.1 30 by omega)
  · have k1 : k < z.1.1 30 + 1 := k1
    show 0 ≤ iup (z.1.2 32) (z.1.1 30) b k ∧ iup (z.1.2 32) (z.1.1 30) b k < z.1.1 27
    by_cases e : k = z.1.1 30
    · rw [e, iup_at]; exact hb
    · rw [iup_ne e]; exact b8 k k0 (show k < z.1.1 30 by omega)
theorem sameZ_E {z : ZS} {a b : Int} (hn : 0 ≤ z.1.1 30) (x y : Int) : sE (bkM (sameZ z a b).1) x y ↔ E1 (sE (bkM z.1)) a b x y := by
  constructor
  · rintro ⟨k, k0, k1, rfl, rfl⟩
    have k1 : k < z.1.1 30 + 1 := k1
    show E1 (sE (bkM z.1)) a b (iup (z.1.2 31) (z.1.1 30) a k) (iup (z.1.2 32) (z.1.1 30) b k)
    by_cases e : k = z.1.1 30
    · rw [e, iup_at, iup_at]; exact Or.inr ⟨rfl, rfl⟩
    · rw [iup_ne e, iup_ne e]; exact Or.inl ⟨k, k0, show k < z.1.1 30 by omega, rfl, rfl⟩
  · rintro (⟨k, k0, k1, rfl, rfl⟩ | ⟨rfl, rfl⟩)
    · have k1 : k < z.1.1 30 := k1
      refine ⟨k, k0, show k < z.1.1 30 + 1 by omega, ?_, ?_⟩
      · show _ = iup (z.1.2 31) (z.1.1 30) a k
        rw [iup_ne (by omega)]; rfl
      · show _ = iup (z.1.2 32) (z.1.1 30) b k
        rw [iup_ne (by omega)]; rfl
    · refine ⟨z.1.1 30, hn, show z.1.1 30 < z.1.1 30 + 1 by omega, ?_, ?_⟩
      · show _ = iup (z.1.2 31) (z.1.1 30) x (z.1.1 30)
        rw [iup_at]
      · show _ = iup (z.1.2 32) (z.1.1 30) y (z.1.1 30)
        rw [iup_at]
theorem sameZ_noFP {z : ZS} {a b n : Int} {r : Int → Int} (h : noFP (bkM z.1) r n) : noFP (bkM (sameZ z a b).1) r n := h
theorem diffZ_wf {z : ZS} {a b : Int} (h : wfZ z) (hn : z.1.1 33 < 8) (ha : 0 ≤ a ∧ a < z.1.1 27) (hb : 0 ≤ b ∧ b < z.1.1 27) : wfZ (diffZ z a b) := by
  obtain ⟨⟨b1, b2, b3, b4, b5, b6, b7, b8, b9, b10, b11⟩, hr⟩ := h
  have b9 : 0 ≤ z.1.1 33 ∧ z.1.1 33 ≤ 8 := b9
  refine ⟨⟨b1, b2, b3, b4, b5, b6, b7, b8, ?_, fun k k0 k1 => ?_, fun k k0 k1 => ?_⟩, hr⟩
  · show 0 ≤ z.1.1 33 + 1 ∧ z.1.1 33 + 1 ≤ 8
    omega
  · have k1 : k < z.1.1 33 + 1 := k1
    show 0 ≤ iup (z.1.2 34) (z.1.1 33) a k ∧ iup (z.1.2 34) (z.1.1 33) a k < z.1.1 27
    by_cases e : k = z.1.1 33
    · rw [e, iup_at]; exact ha
    · rw [iup_ne e]; exact b10 k k0 (show k < z.1.1 33 by omega)
  · have k1 : k < z.1.1 33 + 1 := k1
    show 0 ≤ iup (z.1.2 35) (z.1.1 33) b k ∧ iup (z.1.2 35) (z.1.1 33) b k < z.1.1 27
    by_cases e : k = z.1.1 33
    · rw [e, iup_at]; exact hb
    · rw [iup_ne e]; exact b11 k k0 (show k < z.1.1 33 by omega)
theorem sdZ_E {E E' : Int → Int → Prop} {z : ZS} (h : ∀ x y, E x y ↔ E' x y) (hs : sdZ E z) : sdZ E' z := ⟨sound_mono (fun t u e => (h t u).mp e) hs.1, fun x y e => hs.2 x y ((h x y).mpr e)⟩
theorem stepZ_full {z : ZS} {w : Int → Int} (h : fullZ z) (hw : okW z w) : fullZ (stepZ z w) := by
  obtain ⟨h1, h2, h3⟩ := h
  have h24 : 0 ≤ z.1.1 27 ∧ z.1.1 27 ≤ 24 := h1.ok.nt
  have h12 : 0 ≤ z.1.1 30 ∧ z.1.1 30 ≤ 12 := h1.ok.ns
  unfold stepZ
  by_cases e0 : w 0 = 0
  · rw [if_pos e0]
    obtain ⟨a1, a2, a3⟩ := hw.1 e0
    have hT := termZ_wf (p := fun k => w (2 + k)) h1 a1 a2 a3
    have hS := termZ_sd (f := w 1) (p := fun k => w (2 + k)) h1 h3
    have hg := (cn_b (P := fun t => (termZ z (w 1) (fun k => w (2 + k))).1.2 36 t = t) (n := (termZ z (w 1) (fun k => w (2 + k))).1.1 27) hT.nt.1).2
    have hn := hT.nt
    obtain ⟨g1, g2, g3, g4, g5⟩ := closeZ_spec 24 _ hT (Int.le_trans hg hn.2)
    refine ⟨g1, ?_, ?_⟩
    · rw [g3.2.2, g3.1 27 (by decide)]; exact g2
    · rw [g3.2.2]; exact g5 _ (sE_in hT.ok) hS
  · rw [if_neg e0]
    by_cases e1 : w 0 = 1
    · rw [if_pos e1]
      obtain ⟨a1, a2, a3⟩ := hw.2.1 e1
      have hT := sameZ_wf h1 a1 a2 a3
      have hE := sameZ_E (z := z) (a := w 1) (b := w 2) h12.1
      have hEin : ∀ x y, E1 (sE (bkM z.1)) (w 1) (w 2) x y → (0 ≤ x ∧ x < z.1.1 27) ∧ 0 ≤ y ∧ y < z.1.1 27 := by
        rintro x y (q | ⟨rfl, rfl⟩)
        · exact sE_in h1.ok x y q
        · exact ⟨a2, a3⟩
      by_cases e2 : z.1.2 36 (w 1) = z.1.2 36 (w 2)
      · rw [if_pos e2]
        refine ⟨hT, h2, sdZ_E (fun x y => (hE x y).symm) ⟨sound_mono (fun _ _ q => Or.inl q) h3.1, fun x y q => ?_⟩⟩
        rcases q with q | ⟨rfl, rfl⟩
        · exact h3.2 x y q
        · exact e2
      · rw [if_neg e2]
        have hJ := joinZ_wf (c := z.1.1 30) hT a2.1 a2.2 a3.1 a3.2 e2 (Or.inr ⟨h12.1, h12.2⟩)
        have hs1 : sdZ (E1 (sE (bkM z.1)) (w 1) (w 2)) (joinZ (sameZ z (w 1) (w 2)) (w 1) (w 2) (z.1.1 30)) := by
          refine ⟨?_, fun x y q => ?_⟩
          · exact un_sound (sound_mono (fun _ _ q => Or.inl q) h3.1) a2.1 a2.2 a3.1 a3.2 (fun Q hQ => hQ.has _ _ (Or.inr ⟨rfl, rfl⟩))
          · rcases q with q | ⟨rfl, rfl⟩
            · have q2 := sE_in h1.ok x y q
              exact un_keeps q2.1.1 q2.1.2 q2.2.1 q2.2.2 (h3.2 x y q)
            · exact un_joins a2.1 a2.2 a3.1 a3.2
        have hg := (cn_b (P := fun t => (joinZ (sameZ z (w 1) (w 2)) (w 1) (w 2) (z.1.1 30)).1.2 36 t = t) (n := (joinZ (sameZ z (w 1) (w 2)) (w 1) (w 2) (z.1.1 30)).1.1 27) hJ.nt.1).2
        have hn := hJ.nt
        obtain ⟨g1, g2, g3, g4, g5⟩ := closeZ_spec 24 _ hJ (Int.le_trans hg hn.2)
        refine ⟨g1, ?_, ?_⟩
        · rw [g3.2.2, g3.1 27 (by decide)]; exact g2
        · rw [g3.2.2]
          exact sdZ_E (fun x y => (hE x y).symm) (g5 _ hEin hs1)
    · rw [if_neg e1]
      obtain ⟨a1, a2, a3⟩ := hw.2.2 e0 e1
      exact ⟨diffZ_wf h1 a1 a2 a3, h2, h3⟩
