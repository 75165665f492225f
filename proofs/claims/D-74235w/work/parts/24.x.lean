/-! THE SYSTEM's OBJECTS: state, heap -/
set_option maxRecDepth 100000
/-- the object and its book (ints and arrays by number), the sheets by number -/
abbrev XS : Type := MS × (Nat → MS)
abbrev XV : Type := Nat → Nat
abbrev sI (V : XV) (j k : Nat) : EId := (10 + V j, 20 + j, k)
abbrev tI (V : XV) (j q : Nat) : EId := (10 + V j, 30 + j, q)
abbrev bI (V : XV) (r k : Nat) : EId := (10 + V 9, r, k)
abbrev xT : EId := (0, 2, 99)
def xcap (j : Nat) : Nat → Nat
  | 0 => if j = 1 ∨ j = 4 then 8 else 4
  | q + 1 => al_N (xcap j q)
def xF (V : XV) (r : MS) (k : Nat) : AV := match k with
  | 0 => aI (r.1 0)
  | 1 => aI (r.1 1)
  | 2 => aR (some (0, 2, 2))
  | 3 => aI (r.1 3)
  | 4 => aI (r.1 4)
  | 5 => aR (some (bI V 1 0))
  | 6 => aR (some (sI V 4 99))
  | 7 => aR (some (sI V 2 99))
  | 8 => aR (some (sI V 3 99))
  | 9 => aR (some (0, 2, 9))
  | 10 => aR (some (0, 2, 10))
  | 11 => aR (some (0, 2, 11))
  | 12 => aI (r.1 12)
  | 13 => aR (some (0, 2, 13))
  | 14 => aR (some (0, 2, 14))
  | 15 => aR (some (sI V 0 99))
  | 16 => aR (some (sI V 1 99))
  | 17 => aR (some (0, 2, 17))
  | 18 => aR (some (0, 2, 18))
  | _ => aR (some (0, 2, 19))
def xCx (V : XV) (r : MS) (k : Nat) : Option ACell := match k with
  | 2 => some (kI 2 500 (r.2 2))
  | 9 => some (kI 0 44 (r.2 9))
  | 10 => some (kI 0 44 (r.2 10))
  | 11 => some (kI 0 44 (r.2 11))
  | 13 => some (kI 0 24 (r.2 13))
  | 14 => some (kI 1 4096 (r.2 14))
  | 17 => some (kL 576 (r.2 17))
  | 18 => some (kL 576 (r.2 18))
  | 19 => some (kL 576 (r.2 19))
  | 99 => some (kO 0 (xF V r))
  | _ => none
/-- the element at a place of list j -/
def xel (V : XV) (r : MS) (j : Nat) (x : Int) : EId := if j = 4 then (9, 12, (r.2 44 x + 128).toNat) else bI V (10 + j) x.toNat
def xec (V : XV) (r : MS) (j q : Nat) : Int → Option EId := fun x => if 0 ≤ x ∧ x < (if q = (r.1 (50 + j)).toNat then r.1 (30 + j) else (xcap j q : Int)) then some (xel V r j x) else none
def bF (V : XV) (k : Nat) : AV := aR (some (bI V 2 k))
def xfF (r : MS) (k i : Nat) : AV := match i with
  | 0 => aL (r.2 30 k)
  | 1 => aI (r.2 31 k)
  | _ => aI 0
def xfT (V : XV) (r : MS) (k i : Nat) : AV := match i with
  | 0 => aL (r.2 32 k)
  | 1 => aR (some (bI V 10 (r.2 33 k).toNat))
  | 2 => aI (r.2 33 k)
  | 3 => aR (some (bI V 14 k))
  | _ => aI 0
def xfS (r : MS) (k i : Nat) : AV := match i with
  | 0 => aI (r.2 40 k)
  | 1 => aI (r.2 41 k)
  | _ => aI 0
def xfD (r : MS) (k i : Nat) : AV := match i with
  | 0 => aI (r.2 42 k)
  | 1 => aI (r.2 43 k)
  | _ => aI 0
def xL (V : XV) (r : MS) (j : Nat) : ACell := kO 11 (al (bI V (3 + j) (r.1 (50 + j)).toNat) (r.1 (30 + j)) (r.1 (70 + j)))
def bC (V : XV) (r : MS) (reg k : Nat) : Option ACell := match reg with
  | 1 => if k = 0 then some (kO 2 (bF V)) else none
  | 2 => if k < 5 then some (xL V r k) else none
  | 3 => if (r.1 60).toNat ≤ k ∧ k ≤ (r.1 50).toNat then some (kQ 0 (xcap 0 k) (xec V r 0 k)) else none
  | 4 => if (r.1 61).toNat ≤ k ∧ k ≤ (r.1 51).toNat then some (kQ 0 (xcap 1 k) (xec V r 1 k)) else none
  | 5 => if (r.1 62).toNat ≤ k ∧ k ≤ (r.1 52).toNat then some (kQ 0 (xcap 2 k) (xec V r 2 k)) else none
  | 6 => if (r.1 63).toNat ≤ k ∧ k ≤ (r.1 53).toNat then some (kQ 0 (xcap 3 k) (xec V r 3 k)) else none
  | 7 => if (r.1 64).toNat ≤ k ∧ k ≤ (r.1 54).toNat then some (kQ 0 (xcap 4 k) (xec V r 4 k)) else none
  | 10 => if k < (r.1 40).toNat then some (kO 8 (xfF r k)) else none
  | 11 => if k < (r.1 41).toNat then some (kO 9 (xfT V r k)) else none
  | 12 => if k < (r.1 42).toNat then some (kO 10 (xfS r k)) else none
  | 13 => if k < (r.1 43).toNat then some (kO 10 (xfD r k)) else none
  | 14 => if k < (r.1 41).toNat then some (kI 0 (r.2 34 k).toNat (r.2 (100 + k))) else none
  | _ => none
def scl (j : Nat) : Nat := if j < 2 then 3 else if j < 4 then 4 else 5
/-- the fields of sheet j -/
def sF (V : XV) (r : MS) (j k : Nat) : AV := match k with
  | 0 => aR (some (sI V j 0))
  | 1 => aI (r.1 1)
  | 2 => aR (some (tI V j (r.1 20).toNat))
  | 3 => aI (r.1 3)
  | 4 => aR (some (bI V 2 1))
  | 5 => aR (some (sI V j 5))
  | 6 => aR (some (sI V j 6))
  | 7 => aR (some (sI V j 7))
  | 8 => aR (some (sI V j 8))
  | 9 => aR (some (sI V j 9))
  | 10 => aI (r.1 10)
  | 11 => aR (some (sI V j 11))
  | 12 => aR (some (sI V j 12))
  | 13 => aI (r.1 13)
  | _ => aI 0
def sC (V : XV) (r : MS) (j k : Nat) : Option ACell := match k with
  | 0 => some (kI 0 24 (r.2 0))
  | 5 => if j = 4 then some (kI 0 24 (r.2 5)) else none
  | 6 => if j = 4 then some (kI 0 24 (r.2 6)) else none
  | 7 => if j = 4 then some (kI 0 24 (r.2 7)) else none
  | 8 => if j = 4 then some (kI 0 24 (r.2 8)) else none
  | 9 => if j = 4 then some (kI 0 24 (r.2 9)) else none
  | 11 => if j = 4 then some (kI 1 24 (r.2 11)) else none
  | 12 => if j = 4 then some (kI 1 24 (r.2 12)) else none
  | 99 => some (kO (scl j) (sF V r j))
  | _ => none
def xtl (q : Nat) : Nat := 300 * 2 ^ q
/-- the trails of sheet j, the last one is in use -/
def tC (r : MS) (j q : Nat) : Option ACell := if j = 4 then (if q ≤ (r.1 20).toNat then some (kI 0 (xtl q) (r.2 (100 + q))) else none) else (if q = (r.1 20).toNat then some (kI 0 0 (fun _ => 0)) else none)
def xC (V : XV) (s : XS) (i : EId) : Option ACell :=
  if i.1 = 0 ∧ i.2.1 = 2 then xCx V s.1 i.2.2
  else if i.1 = 10 + V 9 ∧ i.2.1 < 20 then bC V s.1 i.2.1 i.2.2
  else if (20 ≤ i.2.1 ∧ i.2.1 < 25) ∧ i.1 = 10 + V (i.2.1 - 20) then sC V (s.2 (i.2.1 - 20)) (i.2.1 - 20) i.2.2
  else if (30 ≤ i.2.1 ∧ i.2.1 < 35) ∧ i.1 = 10 + V (i.2.1 - 30) then tC (s.2 (i.2.1 - 30)) (i.2.1 - 30) i.2.2
  else none
def xh (V : XV) (s : XS) (g : AH) : AH := fun i => match xC V s i with
  | some c => some c
  | none => g i
theorem xh_of {V : XV} {s : XS} {g : AH} {i : EId} {c : ACell} (h : xC V s i = some c) : xh V s g i = some c := by unfold xh; rw [h]
theorem xh_g {V : XV} {s : XS} {g : AH} {i : EId} (h : xC V s i = none) : xh V s g i = g i := by unfold xh; rw [h]
theorem xC_x {V : XV} {s : XS} {k : Nat} : xC V s (0, 2, k) = xCx V s.1 k := by unfold xC; rw [if_pos ⟨rfl, rfl⟩]
theorem xC_b {V : XV} {s : XS} {r k : Nat} (hr : r < 20) : xC V s (bI V r k) = bC V s.1 r k := by
  unfold xC
  rw [if_neg (fun q => by have := q.1; simp at this), if_pos ⟨rfl, hr⟩]
theorem xC_s {V : XV} {s : XS} {j k : Nat} (hj : j < 5) : xC V s (sI V j k) = sC V (s.2 j) j k := by
  unfold xC
  rw [if_neg (fun q => by have := q.1; simp at this), if_neg (fun q => by have := q.2; simp at this; omega), if_pos ⟨⟨by simp, by simp; omega⟩, by simp⟩]
  simp
theorem xC_t {V : XV} {s : XS} {j k : Nat} (hj : j < 5) : xC V s (tI V j k) = tC (s.2 j) j k := by
  unfold xC
  rw [if_neg (fun q => by have := q.1; simp at this), if_neg (fun q => by have := q.2; simp at this; omega), if_neg (fun q => by have := q.1.2; simp at this; omega), if_pos ⟨⟨by simp, by simp; omega⟩, by simp⟩]
  simp
theorem xC_1 {V : XV} {s : XS} {i : EId} (h : i.1 = 1) : xC V s i = none := by
  unfold xC
  rw [if_neg (fun q => by omega), if_neg (fun q => by omega), if_neg (fun q => by omega), if_neg (fun q => by omega)]
theorem xh_up {V : XV} {s s' : XS} {g : AH} {i : EId} {c : ACell} (h1 : xC V s' i = some c) (h2 : ∀ j, j ≠ i → xC V s' j = xC V s j) : hup (xh V s g) i c = xh V s' g := by
  funext j
  by_cases e : j = i
  · subst e
    rw [hup_self, xh_of h1]
  · rw [hup_ne e]
    unfold xh
    rw [h2 j e]
/-- a cell that is not of the structure -/
theorem xh_upg {V : XV} {s : XS} {g : AH} {i : EId} {c : ACell} (h1 : xC V s i = none) : hup (xh V s g) i c = xh V s (hup g i c) := by
  funext j
  by_cases e : j = i
  · subst e
    rw [hup_self, xh_g h1, hup_self]
  · rw [hup_ne e]
    unfold xh
    rw [hup_ne e]
/-- a change of the object alone -/
theorem xh_upx {V : XV} {s : XS} {r : MS} {g : AH} {k : Nat} {c : ACell} (h1 : xCx V r k = some c) (h2 : ∀ k', k' ≠ k → xCx V r k' = xCx V s.1 k') (h3 : bC V r = bC V s.1) : hup (xh V s g) (0, 2, k) c = xh V (r, s.2) g := by
  refine xh_up (by rw [xC_x]; exact h1) fun j hj => ?_
  unfold xC
  split
  · next e => exact h2 _ fun q => hj (by obtain ⟨a, b, c⟩ := j; simp at e q; simp [e, q])
  · rw [h3]
/-- a change of a sheet alone -/
theorem xh_ups {V : XV} {s : XS} {r : MS} {g : AH} {j k : Nat} {c : ACell} (hj : j < 5) (h1 : sC V r j k = some c) (h2 : ∀ k', k' ≠ k → sC V r j k' = sC V (s.2 j) j k') (h3 : ∀ k', tC r j k' = tC (s.2 j) j k') : hup (xh V s g) (sI V j k) c = xh V (s.1, fun i => if i = j then r else s.2 i) g := by
  refine xh_up (by rw [xC_s hj]; simp only [if_true]; exact h1) fun i hi => ?_
  unfold xC
  split
  · rfl
  · split
    · rfl
    · split
      · next e =>
        by_cases e2 : i.2.1 - 20 = j
        · simp only [e2, if_true]
          refine h2 _ fun q => hi ?_
          obtain ⟨a, b, c⟩ := i
          simp at e e2 q
          simp only [sI, Prod.mk.injEq]
          refine ⟨?_, by omega, q⟩
          rw [e.2, e2]
        · simp only [e2, if_false]
      · split
        · next e =>
          by_cases e2 : i.2.1 - 30 = j
          · simp only [e2, if_true]
            exact h3 _
          · simp only [e2, if_false]
        · rfl
/-- a change of a trail alone -/
theorem xh_upt {V : XV} {s : XS} {r : MS} {g : AH} {j k : Nat} {c : ACell} (hj : j < 5) (h1 : tC r j k = some c) (h2 : ∀ k', k' ≠ k → tC r j k' = tC (s.2 j) j k') (h3 : ∀ k', sC V r j k' = sC V (s.2 j) j k') : hup (xh V s g) (tI V j k) c = xh V (s.1, fun i => if i = j then r else s.2 i) g := by
  refine xh_up (by rw [xC_t hj]; simp only [if_true]; exact h1) fun i hi => ?_
  unfold xC
  split
  · rfl
  · split
    · rfl
    · split
      · next e =>
        by_cases e2 : i.2.1 - 20 = j
        · simp only [e2, if_true]
          exact h3 _
        · simp only [e2, if_false]
      · split
        · next e =>
          by_cases e2 : i.2.1 - 30 = j
          · simp only [e2, if_true]
            refine h2 _ fun q => hi ?_
            obtain ⟨a, b, c⟩ := i
            simp at e e2 q
            simp only [tI, Prod.mk.injEq]
            refine ⟨?_, by omega, q⟩
            rw [e.2, e2]
          · simp only [e2, if_false]
        · rfl
