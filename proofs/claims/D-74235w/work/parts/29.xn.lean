/-! THE SYSTEM's METHODS: a fact more (gen/facts.py) -/
set_option maxRecDepth 100000
def yf2 (r : MS) (a b : Int) : MS := (fun k => if k = 32 then r.1 32 + 1 else if k = 42 then r.1 42 + 1 else if k = 72 then r.1 72 + 1 else if k = 52 then (if r.1 32 = (xcap 2 (r.1 52).toNat : Int) then r.1 52 + 1 else r.1 52) else r.1 k, fun k => if k = 40 then iup (r.2 40) (r.1 32) a else if k = 41 then iup (r.2 41) (r.1 32) b else r.2 k)
theorem yf2_q0 {r : MS} {a b : Int} (h : ¬ r.1 32 = (xcap 2 (r.1 52).toNat : Int)) : (yf2 r a b).1 52 = r.1 52 := if_neg h
theorem yf2_q1 {r : MS} {a b : Int} (h : r.1 32 = (xcap 2 (r.1 52).toNat : Int)) : (yf2 r a b).1 52 = r.1 52 + 1 := if_pos h
theorem xCx_yf2 {V : XV} {r : MS} {a b : Int} : xCx V (yf2 r a b) = xCx V r := rfl
theorem yf2_arr {r : MS} {a b : Int} {k : Nat} (h : 100 ≤ k) : (yf2 r a b).2 k = r.2 k := by
  show (if k = 40 then _ else if k = 41 then _ else _) = _
  rw [if_neg (by omega), if_neg (by omega)]
theorem xfS_yf2 {r : MS} {a b : Int} {k : Nat} (h : (k : Int) ≠ r.1 32) : xfS (yf2 r a b) k = xfS r k := by
  have e1 : (yf2 r a b).2 40 k = r.2 40 k := if_neg h
  have e2 : (yf2 r a b).2 41 k = r.2 41 k := if_neg h
  unfold xfS
  rw [e1, e2]
theorem bC_yf2 {V : XV} {r : MS} {a b : Int} (hz : 0 ≤ r.1 32) (hm : r.1 42 = r.1 32) (hq : 0 ≤ r.1 52) : ∀ reg k, ¬ (reg = 2 ∧ k = 2) → ¬ (reg = 3 + 2 ∧ k = ((yf2 r a b).1 52).toNat) → ¬ (reg = 10 + 2 ∧ k = (r.1 32).toNat) → bC V (yf2 r a b) reg k = bC V r reg k := by
  intro reg k h1 h2 h3
  unfold bC
  split
  · rfl
  · by_cases hk : k < 5
    · rw [if_pos hk, if_pos hk]
      have e : k ≠ 2 := fun z => h1 ⟨rfl, z⟩
      rcases (show k = 0 ∨ k = 1 ∨ k = 3 ∨ k = 4 by omega) with rfl | rfl | rfl | rfl <;> rfl
    · rw [if_neg hk, if_neg hk]
  · rfl
  · rfl
  · have hb : (yf2 r a b).1 62 = r.1 62 := rfl
    by_cases c : r.1 32 = (xcap 2 (r.1 52).toNat : Int)
    · have e := yf2_q1 (a := a) (b := b) c
      rw [e] at h2
      have hk : k ≠ (r.1 52 + 1).toNat := fun q => h2 ⟨rfl, q⟩
      have hx : xec V (yf2 r a b) 2 k = xec V r 2 k := by
        unfold xec
        rw [show (yf2 r a b).1 (50 + 2) = r.1 52 + 1 from e, if_neg hk]
        by_cases c2 : k = (r.1 52).toNat
        · rw [if_pos c2, show r.1 (30 + 2) = (xcap 2 k : Int) by rw [c2]; exact c]
          rfl
        · rw [if_neg c2]
          rfl
      rw [hx, hb, e]
      have hi : ((r.1 62).toNat ≤ k ∧ k ≤ (r.1 52 + 1).toNat) ↔ ((r.1 62).toNat ≤ k ∧ k ≤ (r.1 52).toNat) := by omega
      simp only [hi]
    · have e := yf2_q0 (a := a) (b := b) c
      rw [e] at h2
      have hx : xec V (yf2 r a b) 2 k = xec V r 2 k := xec_eq e (fun q => absurd ⟨rfl, q⟩ h2) rfl
      rw [hx, hb, e]
  · rfl
  · rfl
  · rfl
  · rfl
  · have hk : k ≠ (r.1 32).toNat := fun q => h3 ⟨rfl, q⟩
    have e : (yf2 r a b).1 42 = r.1 42 + 1 := rfl
    rw [xfS_yf2 (by omega), e]
    have hi : (k < (r.1 42 + 1).toNat) ↔ (k < (r.1 42).toNat) := by omega
    simp only [hi]
  · rfl
  · rw [yf2_arr (k := 100 + k) (by omega)]
    rfl
  · rfl

def yf3 (r : MS) (a b : Int) : MS := (fun k => if k = 33 then r.1 33 + 1 else if k = 43 then r.1 43 + 1 else if k = 73 then r.1 73 + 1 else if k = 53 then (if r.1 33 = (xcap 3 (r.1 53).toNat : Int) then r.1 53 + 1 else r.1 53) else r.1 k, fun k => if k = 42 then iup (r.2 42) (r.1 33) a else if k = 43 then iup (r.2 43) (r.1 33) b else r.2 k)
theorem yf3_q0 {r : MS} {a b : Int} (h : ¬ r.1 33 = (xcap 3 (r.1 53).toNat : Int)) : (yf3 r a b).1 53 = r.1 53 := if_neg h
theorem yf3_q1 {r : MS} {a b : Int} (h : r.1 33 = (xcap 3 (r.1 53).toNat : Int)) : (yf3 r a b).1 53 = r.1 53 + 1 := if_pos h
theorem xCx_yf3 {V : XV} {r : MS} {a b : Int} : xCx V (yf3 r a b) = xCx V r := rfl
theorem yf3_arr {r : MS} {a b : Int} {k : Nat} (h : 100 ≤ k) : (yf3 r a b).2 k = r.2 k := by
  show (if k = 42 then _ else if k = 43 then _ else _) = _
  rw [if_neg (by omega), if_neg (by omega)]
theorem xfD_yf3 {r : MS} {a b : Int} {k : Nat} (h : (k : Int) ≠ r.1 33) : xfD (yf3 r a b) k = xfD r k := by
  have e1 : (yf3 r a b).2 42 k = r.2 42 k := if_neg h
  have e2 : (yf3 r a b).2 43 k = r.2 43 k := if_neg h
  unfold xfD
  rw [e1, e2]
theorem bC_yf3 {V : XV} {r : MS} {a b : Int} (hz : 0 ≤ r.1 33) (hm : r.1 43 = r.1 33) (hq : 0 ≤ r.1 53) : ∀ reg k, ¬ (reg = 2 ∧ k = 3) → ¬ (reg = 3 + 3 ∧ k = ((yf3 r a b).1 53).toNat) → ¬ (reg = 10 + 3 ∧ k = (r.1 33).toNat) → bC V (yf3 r a b) reg k = bC V r reg k := by
  intro reg k h1 h2 h3
  unfold bC
  split
  · rfl
  · by_cases hk : k < 5
    · rw [if_pos hk, if_pos hk]
      have e : k ≠ 3 := fun z => h1 ⟨rfl, z⟩
      rcases (show k = 0 ∨ k = 1 ∨ k = 2 ∨ k = 4 by omega) with rfl | rfl | rfl | rfl <;> rfl
    · rw [if_neg hk, if_neg hk]
  · rfl
  · rfl
  · rfl
  · have hb : (yf3 r a b).1 63 = r.1 63 := rfl
    by_cases c : r.1 33 = (xcap 3 (r.1 53).toNat : Int)
    · have e := yf3_q1 (a := a) (b := b) c
      rw [e] at h2
      have hk : k ≠ (r.1 53 + 1).toNat := fun q => h2 ⟨rfl, q⟩
      have hx : xec V (yf3 r a b) 3 k = xec V r 3 k := by
        unfold xec
        rw [show (yf3 r a b).1 (50 + 3) = r.1 53 + 1 from e, if_neg hk]
        by_cases c2 : k = (r.1 53).toNat
        · rw [if_pos c2, show r.1 (30 + 3) = (xcap 3 k : Int) by rw [c2]; exact c]
          rfl
        · rw [if_neg c2]
          rfl
      rw [hx, hb, e]
      have hi : ((r.1 63).toNat ≤ k ∧ k ≤ (r.1 53 + 1).toNat) ↔ ((r.1 63).toNat ≤ k ∧ k ≤ (r.1 53).toNat) := by omega
      simp only [hi]
    · have e := yf3_q0 (a := a) (b := b) c
      rw [e] at h2
      have hx : xec V (yf3 r a b) 3 k = xec V r 3 k := xec_eq e (fun q => absurd ⟨rfl, q⟩ h2) rfl
      rw [hx, hb, e]
  · rfl
  · rfl
  · rfl
  · rfl
  · have hk : k ≠ (r.1 33).toNat := fun q => h3 ⟨rfl, q⟩
    have e : (yf3 r a b).1 43 = r.1 43 + 1 := rfl
    rw [xfD_yf3 (by omega), e]
    have hi : (k < (r.1 43 + 1).toNat) ↔ (k < (r.1 43).toNat) := by omega
    simp only [hi]
  · rw [yf3_arr (k := 100 + k) (by omega)]
    rfl
  · rfl

theorem xec_A2 {V : XV} {r : MS} {a b : Int} (hz : 0 ≤ r.1 32) (c : ¬ r.1 32 = (xcap 2 (r.1 52).toNat : Int)) : iup (xec V r 2 (r.1 52).toNat) (r.1 32) (some (bI V 12 (r.1 32).toNat)) = xec V (yf2 r a b) 2 (r.1 52).toNat := by
  have e := yf2_q0 (a := a) (b := b) c
  funext x
  unfold iup xec
  rw [show (yf2 r a b).1 (50 + 2) = r.1 52 from e, if_pos rfl, if_pos rfl, show (yf2 r a b).1 (30 + 2) = r.1 32 + 1 from rfl]
  show (if x = r.1 32 then some (bI V 12 (r.1 32).toNat) else if 0 ≤ x ∧ x < r.1 32 then some (bI V 12 x.toNat) else none) = if 0 ≤ x ∧ x < r.1 32 + 1 then some (bI V 12 x.toNat) else none
  by_cases e1 : x = r.1 32
  · rw [if_pos e1, if_pos ⟨by omega, by omega⟩, e1]
  · rw [if_neg e1]
    by_cases e2 : 0 ≤ x ∧ x < r.1 32
    · rw [if_pos e2, if_pos ⟨e2.1, by omega⟩]
    · rw [if_neg e2, if_neg (fun w => e2 ⟨w.1, by omega⟩)]
theorem xec_B2 {V : XV} {r : MS} {a b : Int} (hz : 0 ≤ r.1 32) (hq : 0 ≤ r.1 52) (c : r.1 32 = (xcap 2 (r.1 52).toNat : Int)) : iup (icpy (xec V r 2 (r.1 52).toNat) (fun _ => none) 0 0 (xcap 2 (r.1 52).toNat)) (r.1 32) (some (bI V 12 (r.1 32).toNat)) = xec V (yf2 r a b) 2 ((r.1 52).toNat + 1) := by
  have e := yf2_q1 (a := a) (b := b) c
  rw [← c]
  funext x
  unfold iup icpy xec
  rw [show (yf2 r a b).1 (50 + 2) = r.1 52 + 1 from e, if_pos rfl, show (r.1 52 + 1).toNat = (r.1 52).toNat + 1 by omega, if_pos rfl, show (yf2 r a b).1 (30 + 2) = r.1 32 + 1 from rfl]
  show (if x = r.1 32 then some (bI V 12 (r.1 32).toNat) else if 0 ≤ x ∧ x < 0 + r.1 32 then (if 0 ≤ 0 + (x - 0) ∧ 0 + (x - 0) < r.1 32 then some (bI V 12 (0 + (x - 0)).toNat) else none) else none) = if 0 ≤ x ∧ x < r.1 32 + 1 then some (bI V 12 x.toNat) else none
  have ex : 0 + (x - 0) = x := by omega
  rw [ex, Int.zero_add]
  by_cases e1 : x = r.1 32
  · rw [if_pos e1, if_pos ⟨by omega, by omega⟩, e1]
  · rw [if_neg e1]
    by_cases e2 : 0 ≤ x ∧ x < r.1 32
    · rw [if_pos e2, if_pos e2, if_pos ⟨e2.1, by omega⟩]
    · rw [if_neg e2, if_neg (fun w => e2 ⟨w.1, by omega⟩)]
theorem yf2_el {V : XV} {r : MS} {a b : Int} (hz : 0 ≤ r.1 32) (hm : r.1 42 = r.1 32) : bC V (yf2 r a b) 12 (r.1 32).toNat = some (kO 10 (fup (fup (fun _ => aI 0) 0 (aI a)) 1 (aI b))) := by
  have e : (yf2 r a b).1 42 = r.1 42 + 1 := rfl
  have h1 : bC V (yf2 r a b) 12 (r.1 32).toNat = some (kO 10 (xfS (yf2 r a b) (r.1 32).toNat)) := if_pos (by rw [e]; omega)
  rw [h1]
  congr 3
  have ez : (((r.1 32).toNat : Nat) : Int) = r.1 32 := by omega
  have ea : (yf2 r a b).2 40 ((r.1 32).toNat : Nat) = a := by rw [ez]; exact if_pos rfl
  have eb : (yf2 r a b).2 41 ((r.1 32).toNat : Nat) = b := by rw [ez]; exact if_pos rfl
  funext i
  match i with
  | 0 => exact congrArg aI ea
  | 1 => exact congrArg aI eb
  | n + 2 => rfl
theorem xh_fA2 {V : XV} {s : XS} {g : AH} {a b : Int} (hz : 0 ≤ s.1.1 32) (hm : s.1.1 42 = s.1.1 32) (hq : 0 ≤ s.1.1 52) (hok : xok s 2) (c : ¬ s.1.1 32 = (xcap 2 (s.1.1 52).toNat : Int)) :
    hup (hup (xh V s (hup g (bI V 12 (s.1.1 32).toNat) (kO 10 (fup (fup (fun _ => aI 0) 0 (aI a)) 1 (aI b))))) (bI V 5 (s.1.1 52).toNat) (kQ 0 (xcap 2 (s.1.1 52).toNat) (iup (xec V s.1 2 (s.1.1 52).toNat) (s.1.1 32) (some (bI V 12 (s.1.1 32).toNat))))) (bI V 2 2) (kO 11 (al (bI V 5 (s.1.1 52).toNat) (s.1.1 32 + 1) (s.1.1 72 + 1))) = xh V (yf2 s.1 a b, s.2) g := by
  have e := yf2_q0 (a := a) (b := b) c
  refine xh_upl3 (j := 2) (q := (s.1.1 52).toNat) (m := (s.1.1 32).toNat) (by omega) xCx_yf2 ?_ ?_ (yf2_el hz hm) (bC_none (j := 2) (by omega) (by show (s.1.1 42).toNat ≤ _; rw [hm]; exact Nat.le_refl _)) ?_
  · show some (xL V (yf2 s.1 a b) 2) = _
    unfold xL
    rw [show (yf2 s.1 a b).1 (50 + 2) = s.1.1 52 from e]
    rfl
  · have h1 := xcell_e (V := V) (r := yf2 s.1 a b) (j := 2) (by omega) (by rw [show (yf2 s.1 a b).1 (50 + 2) = s.1.1 52 from e]; exact hok.2.1)
    rw [show (yf2 s.1 a b).1 (50 + 2) = s.1.1 52 from e] at h1
    rw [h1, xec_A2 hz c]
  · have h1 := bC_yf2 (V := V) (a := a) (b := b) hz hm hq
    rw [e] at h1
    exact h1
theorem xh_fB2 {V : XV} {s : XS} {g : AH} {a b : Int} (hz : 0 ≤ s.1.1 32) (hm : s.1.1 42 = s.1.1 32) (hq : 0 ≤ s.1.1 52) (hok : xok s 2) (c : s.1.1 32 = (xcap 2 (s.1.1 52).toNat : Int)) :
    hup (hup (xh V s (hup g (bI V 12 (s.1.1 32).toNat) (kO 10 (fup (fup (fun _ => aI 0) 0 (aI a)) 1 (aI b))))) (bI V 5 ((s.1.1 52).toNat + 1)) (kQ 0 (al_N (xcap 2 (s.1.1 52).toNat)) (iup (icpy (xec V s.1 2 (s.1.1 52).toNat) (fun _ => none) 0 0 (xcap 2 (s.1.1 52).toNat)) (s.1.1 32) (some (bI V 12 (s.1.1 32).toNat))))) (bI V 2 2) (kO 11 (al (bI V 5 ((s.1.1 52).toNat + 1)) (s.1.1 32 + 1) (s.1.1 72 + 1))) = xh V (yf2 s.1 a b, s.2) g := by
  have e := yf2_q1 (a := a) (b := b) c
  have e2 : (s.1.1 52 + 1).toNat = (s.1.1 52).toNat + 1 := by omega
  refine xh_upl3 (j := 2) (q := (s.1.1 52).toNat + 1) (m := (s.1.1 32).toNat) (by omega) xCx_yf2 ?_ ?_ (yf2_el hz hm) (bC_none (j := 2) (by omega) (by show (s.1.1 42).toNat ≤ _; rw [hm]; exact Nat.le_refl _)) ?_
  · show some (xL V (yf2 s.1 a b) 2) = _
    unfold xL
    rw [show (yf2 s.1 a b).1 (50 + 2) = s.1.1 52 + 1 from e, e2]
    rfl
  · have h1 := xcell_e (V := V) (r := yf2 s.1 a b) (j := 2) (by omega) (by
      rw [show (yf2 s.1 a b).1 (50 + 2) = s.1.1 52 + 1 from e, e2]
      have := hok.2.1
      exact Nat.le_succ_of_le this)
    rw [show (yf2 s.1 a b).1 (50 + 2) = s.1.1 52 + 1 from e, e2] at h1
    rw [h1, xec_B2 hz hq c]
    rfl
  · have h1 := bC_yf2 (V := V) (a := a) (b := b) hz hm hq
    rw [e, e2] at h1
    exact h1

theorem xec_A3 {V : XV} {r : MS} {a b : Int} (hz : 0 ≤ r.1 33) (c : ¬ r.1 33 = (xcap 3 (r.1 53).toNat : Int)) : iup (xec V r 3 (r.1 53).toNat) (r.1 33) (some (bI V 13 (r.1 33).toNat)) = xec V (yf3 r a b) 3 (r.1 53).toNat := by
  have e := yf3_q0 (a := a) (b := b) c
  funext x
  unfold iup xec
  rw [show (yf3 r a b).1 (50 + 3) = r.1 53 from e, if_pos rfl, if_pos rfl, show (yf3 r a b).1 (30 + 3) = r.1 33 + 1 from rfl]
  show (if x = r.1 33 then some (bI V 13 (r.1 33).toNat) else if 0 ≤ x ∧ x < r.1 33 then some (bI V 13 x.toNat) else none) = if 0 ≤ x ∧ x < r.1 33 + 1 then some (bI V 13 x.toNat) else none
  by_cases e1 : x = r.1 33
  · rw [if_pos e1, if_pos ⟨by omega, by omega⟩, e1]
  · rw [if_neg e1]
    by_cases e2 : 0 ≤ x ∧ x < r.1 33
    · rw [if_pos e2, if_pos ⟨e2.1, by omega⟩]
    · rw [if_neg e2, if_neg (fun w => e2 ⟨w.1, by omega⟩)]
theorem xec_B3 {V : XV} {r : MS} {a b : Int} (hz : 0 ≤ r.1 33) (hq : 0 ≤ r.1 53) (c : r.1 33 = (xcap 3 (r.1 53).toNat : Int)) : iup (icpy (xec V r 3 (r.1 53).toNat) (fun _ => none) 0 0 (xcap 3 (r.1 53).toNat)) (r.1 33) (some (bI V 13 (r.1 33).toNat)) = xec V (yf3 r a b) 3 ((r.1 53).toNat + 1) := by
  have e := yf3_q1 (a := a) (b := b) c
  rw [← c]
  funext x
  unfold iup icpy xec
  rw [show (yf3 r a b).1 (50 + 3) = r.1 53 + 1 from e, if_pos rfl, show (r.1 53 + 1).toNat = (r.1 53).toNat + 1 by omega, if_pos rfl, show (yf3 r a b).1 (30 + 3) = r.1 33 + 1 from rfl]
  show (if x = r.1 33 then some (bI V 13 (r.1 33).toNat) else if 0 ≤ x ∧ x < 0 + r.1 33 then (if 0 ≤ 0 + (x - 0) ∧ 0 + (x - 0) < r.1 33 then some (bI V 13 (0 + (x - 0)).toNat) else none) else none) = if 0 ≤ x ∧ x < r.1 33 + 1 then some (bI V 13 x.toNat) else none
  have ex : 0 + (x - 0) = x := by omega
  rw [ex, Int.zero_add]
  by_cases e1 : x = r.1 33
  · rw [if_pos e1, if_pos ⟨by omega, by omega⟩, e1]
  · rw [if_neg e1]
    by_cases e2 : 0 ≤ x ∧ x < r.1 33
    · rw [if_pos e2, if_pos e2, if_pos ⟨e2.1, by omega⟩]
    · rw [if_neg e2, if_neg (fun w => e2 ⟨w.1, by omega⟩)]
theorem yf3_el {V : XV} {r : MS} {a b : Int} (hz : 0 ≤ r.1 33) (hm : r.1 43 = r.1 33) : bC V (yf3 r a b) 13 (r.1 33).toNat = some (kO 10 (fup (fup (fun _ => aI 0) 0 (aI a)) 1 (aI b))) := by
  have e : (yf3 r a b).1 43 = r.1 43 + 1 := rfl
  have h1 : bC V (yf3 r a b) 13 (r.1 33).toNat = some (kO 10 (xfD (yf3 r a b) (r.1 33).toNat)) := if_pos (by rw [e]; omega)
  rw [h1]
  congr 3
  have ez : (((r.1 33).toNat : Nat) : Int) = r.1 33 := by omega
  have ea : (yf3 r a b).2 42 ((r.1 33).toNat : Nat) = a := by rw [ez]; exact if_pos rfl
  have eb : (yf3 r a b).2 43 ((r.1 33).toNat : Nat) = b := by rw [ez]; exact if_pos rfl
  funext i
  match i with
  | 0 => exact congrArg aI ea
  | 1 => exact congrArg aI eb
  | n + 2 => rfl
theorem xh_fA3 {V : XV} {s : XS} {g : AH} {a b : Int} (hz : 0 ≤ s.1.1 33) (hm : s.1.1 43 = s.1.1 33) (hq : 0 ≤ s.1.1 53) (hok : xok s 3) (c : ¬ s.1.1 33 = (xcap 3 (s.1.1 53).toNat : Int)) :
    hup (hup (xh V s (hup g (bI V 13 (s.1.1 33).toNat) (kO 10 (fup (fup (fun _ => aI 0) 0 (aI a)) 1 (aI b))))) (bI V 6 (s.1.1 53).toNat) (kQ 0 (xcap 3 (s.1.1 53).toNat) (iup (xec V s.1 3 (s.1.1 53).toNat) (s.1.1 33) (some (bI V 13 (s.1.1 33).toNat))))) (bI V 2 3) (kO 11 (al (bI V 6 (s.1.1 53).toNat) (s.1.1 33 + 1) (s.1.1 73 + 1))) = xh V (yf3 s.1 a b, s.2) g := by
  have e := yf3_q0 (a := a) (b := b) c
  refine xh_upl3 (j := 3) (q := (s.1.1 53).toNat) (m := (s.1.1 33).toNat) (by omega) xCx_yf3 ?_ ?_ (yf3_el hz hm) (bC_none (j := 3) (by omega) (by show (s.1.1 43).toNat ≤ _; rw [hm]; exact Nat.le_refl _)) ?_
  · show some (xL V (yf3 s.1 a b) 3) = _
    unfold xL
    rw [show (yf3 s.1 a b).1 (50 + 3) = s.1.1 53 from e]
    rfl
  · have h1 := xcell_e (V := V) (r := yf3 s.1 a b) (j := 3) (by omega) (by rw [show (yf3 s.1 a b).1 (50 + 3) = s.1.1 53 from e]; exact hok.2.1)
    rw [show (yf3 s.1 a b).1 (50 + 3) = s.1.1 53 from e] at h1
    rw [h1, xec_A3 hz c]
  · have h1 := bC_yf3 (V := V) (a := a) (b := b) hz hm hq
    rw [e] at h1
    exact h1
theorem xh_fB3 {V : XV} {s : XS} {g : AH} {a b : Int} (hz : 0 ≤ s.1.1 33) (hm : s.1.1 43 = s.1.1 33) (hq : 0 ≤ s.1.1 53) (hok : xok s 3) (c : s.1.1 33 = (xcap 3 (s.1.1 53).toNat : Int)) :
    hup (hup (xh V s (hup g (bI V 13 (s.1.1 33).toNat) (kO 10 (fup (fup (fun _ => aI 0) 0 (aI a)) 1 (aI b))))) (bI V 6 ((s.1.1 53).toNat + 1)) (kQ 0 (al_N (xcap 3 (s.1.1 53).toNat)) (iup (icpy (xec V s.1 3 (s.1.1 53).toNat) (fun _ => none) 0 0 (xcap 3 (s.1.1 53).toNat)) (s.1.1 33) (some (bI V 13 (s.1.1 33).toNat))))) (bI V 2 3) (kO 11 (al (bI V 6 ((s.1.1 53).toNat + 1)) (s.1.1 33 + 1) (s.1.1 73 + 1))) = xh V (yf3 s.1 a b, s.2) g := by
  have e := yf3_q1 (a := a) (b := b) c
  have e2 : (s.1.1 53 + 1).toNat = (s.1.1 53).toNat + 1 := by omega
  refine xh_upl3 (j := 3) (q := (s.1.1 53).toNat + 1) (m := (s.1.1 33).toNat) (by omega) xCx_yf3 ?_ ?_ (yf3_el hz hm) (bC_none (j := 3) (by omega) (by show (s.1.1 43).toNat ≤ _; rw [hm]; exact Nat.le_refl _)) ?_
  · show some (xL V (yf3 s.1 a b) 3) = _
    unfold xL
    rw [show (yf3 s.1 a b).1 (50 + 3) = s.1.1 53 + 1 from e, e2]
    rfl
  · have h1 := xcell_e (V := V) (r := yf3 s.1 a b) (j := 3) (by omega) (by
      rw [show (yf3 s.1 a b).1 (50 + 3) = s.1.1 53 + 1 from e, e2]
      have := hok.2.1
      exact Nat.le_succ_of_le this)
    rw [show (yf3 s.1 a b).1 (50 + 3) = s.1.1 53 + 1 from e, e2] at h1
    rw [h1, xec_B3 hz hq c]
    rfl
  · have h1 := bC_yf3 (V := V) (a := a) (b := b) hz hm hq
    rw [e, e2] at h1
    exact h1

