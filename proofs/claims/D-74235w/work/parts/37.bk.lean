/-! THE BOOK GROWS: over any heap that holds a book (gen/book.py) -/
set_option maxRecDepth 100000
def breg (V : XV) (i : EId) : Prop := i.1 = 10 + V 9 ∧ i.2.1 < 20
def bor (a b : Option ACell) : Option ACell := match a with
  | some c => some c
  | none => b
def low (r r' : MS) : Prop := ∀ k, k < 30 → r.1 k = r'.1 k ∧ r.2 k = r'.2 k
def bkH (V : XV) (hb : MS → AH → AH) : Prop :=
  (∀ r g reg k, reg < 20 → hb r g (bI V reg k) = bor (bC V r reg k) (g (bI V reg k))) ∧
  ∀ r r' g g' i, ¬ breg V i → low r r' → g i = g' i → hb r g i = hb r' g' i
theorem rF_low {V : XV} {r r' : MS} (h : low r r') : rF V r = rF V r' := by
  funext k
  unfold rF
  split <;> first | rfl | (rw [(h _ (by decide)).1])
theorem xF_low {V : XV} {r r' : MS} (h : low r r') : xF V r = xF V r' := by
  have h1 : ∀ k, k < 30 → r.1 k = r'.1 k := fun k hk => (h k hk).1
  funext k
  unfold xF
  split <;> first | rfl | (rw [h1]; decide)
theorem xCx_low {V : XV} {r r' : MS} (h : low r r') (k : Nat) : xCx V r k = xCx V r' k := by
  have h2 : ∀ k, k < 30 → r.2 k = r'.2 k := fun k hk => (h k hk).2
  unfold xCx
  split <;> first | rfl | (rw [h2]; decide) | (rw [xF_low h])
theorem bI_ne {V : XV} {a b c d : Nat} (h : ¬ (a = c ∧ b = d)) : (bI V a b : EId) ≠ bI V c d := fun e => by
  simp only [bI, Prod.mk.injEq] at e
  exact h e.2
theorem bI_reg {V : XV} {a b : Nat} (h : a < 20) : breg V (bI V a b) := ⟨rfl, h⟩
theorem breg_eq {V : XV} {i : EId} (h : breg V i) : i = bI V i.2.1 i.2.2 := by
  obtain ⟨x, y, z⟩ := i
  have e : x = 10 + V 9 := h.1
  subst e
  rfl
theorem bkH_r {V : XV} : bkH V (rh V) := by
  refine ⟨fun r g reg k hr => ?_, fun r r' g g' i hi hl hg => ?_⟩
  · cases h : bC V r reg k with
    | none => exact rh_g ((rxC_b hr).trans h)
    | some c => exact rxh_of ((rxC_b hr).trans h)
  · have e : rC V r i = rC V r' i := by
      unfold rC
      by_cases c : i = rT
      · rw [if_pos c, if_pos c, rF_low hl]
      · have hi' : ¬ (i.1 = 10 + V 9 ∧ i.2.1 < 20) := hi
        rw [if_neg c, if_neg c, if_neg hi', if_neg hi']
    unfold rh
    rw [e, hg]
theorem bkH_x {V : XV} {y : Nat → MS} : bkH V (fun r g => xh V (r, y) g) := by
  refine ⟨fun r g reg k hr => ?_, fun r r' g g' i hi hl hg => ?_⟩
  · cases h : bC V r reg k with
    | none => exact xh_g ((xC_b hr).trans h)
    | some c => exact xh_of ((xC_b hr).trans h)
  · have e : xC V (r, y) i = xC V (r', y) i := by
      unfold xC
      by_cases c : i.1 = 0 ∧ i.2.1 = 2
      · rw [if_pos c, if_pos c]
        exact xCx_low hl _
      · have hi' : ¬ (i.1 = 10 + V 9 ∧ i.2.1 < 20) := hi
        rw [if_neg c, if_neg c, if_neg hi', if_neg hi']
    show xh V (r, y) g i = xh V (r', y) g' i
    unfold xh
    rw [e, hg]
theorem bk_hup {V : XV} {hb : MS → AH → AH} (hbk : bkH V hb) {r : MS} {g : AH} {reg k : Nat} {c : ACell} (hr : reg < 20) (h : bC V r reg k = none) : hup (hb r g) (bI V reg k) c = hb r (hup g (bI V reg k) c) := by
  funext i
  by_cases e : i = bI V reg k
  · subst e
    rw [hup_self, hbk.1 _ _ _ _ hr, h, hup_self]
    rfl
  · rw [hup_ne e]
    by_cases b : breg V i
    · rw [breg_eq b] at e ⊢
      rw [hbk.1 _ _ _ _ b.2, hbk.1 _ _ _ _ b.2, hup_ne e]
    · exact hbk.2 _ _ _ _ _ b (fun _ _ => ⟨rfl, rfl⟩) (hup_ne e).symm
theorem bk_up {V : XV} {hb : MS → AH → AH} (hbk : bkH V hb) {r r' : MS} {g G : AH} {j q : Nat} {c1 c2 : ACell} (hj : j < 5) (hl : low r r') (h1 : bC V r' 2 j = some c1) (h2 : bC V r' (3 + j) q = some c2) (hG : ∀ i, ¬ breg V i → G i = g i)
    (h3 : ∀ reg k, reg < 20 → ¬ (reg = 2 ∧ k = j) → ¬ (reg = 3 + j ∧ k = q) → bor (bC V r reg k) (G (bI V reg k)) = bor (bC V r' reg k) (g (bI V reg k))) :
    hup (hup (hb r G) (bI V (3 + j) q) c2) (bI V 2 j) c1 = hb r' g := by
  funext i
  by_cases b : breg V i
  · obtain ⟨reg, k, hr, rfl⟩ : ∃ reg k, reg < 20 ∧ i = bI V reg k := ⟨i.2.1, i.2.2, b.2, breg_eq b⟩
    by_cases e1 : reg = 2 ∧ k = j
    · obtain ⟨rfl, rfl⟩ := e1
      rw [hup_self, hbk.1 _ _ _ _ hr, h1]
      rfl
    · rw [hup_ne (bI_ne e1)]
      by_cases e2 : reg = 3 + j ∧ k = q
      · obtain ⟨rfl, rfl⟩ := e2
        rw [hup_self, hbk.1 _ _ _ _ hr, h2]
        rfl
      · rw [hup_ne (bI_ne e2), hbk.1 _ _ _ _ hr, hbk.1 _ _ _ _ hr]
        exact h3 reg k hr e1 e2
  · have n1 : i ≠ bI V 2 j := fun e => b (by rw [e]; exact bI_reg (by omega))
    have n2 : i ≠ bI V (3 + j) q := fun e => b (by rw [e]; exact bI_reg (by omega))
    rw [hup_ne n1, hup_ne n2]
    exact hbk.2 _ _ _ _ _ b hl (hG i b)
/-- list j of r has one more in r', y -/
def bstep (V : XV) (j : Nat) (r r' : MS) (y : EId) : Prop :=
  (r'.1 (30 + j) = r.1 (30 + j) + 1 ∧ r'.1 (70 + j) = r.1 (70 + j) + 1 ∧ r'.1 (60 + j) = r.1 (60 + j) ∧ r'.1 (50 + j) = if r.1 (30 + j) = (xcap j (r.1 (50 + j)).toNat : Int) then r.1 (50 + j) + 1 else r.1 (50 + j)) ∧
  xel V r' j (r.1 (30 + j)) = y ∧ low r r' ∧
  ∀ (k : Nat) (x : Int), k ≤ (r.1 (50 + j)).toNat → k ≠ (r'.1 (50 + j)).toNat ∨ k = (r.1 (50 + j)).toNat → 0 ≤ x → x < (if k = (r.1 (50 + j)).toNat then r.1 (30 + j) else (xcap j k : Int)) → xel V r' j x = xel V r j x
theorem bC_e {V : XV} {r : MS} {j k : Nat} (hj : j < 5) : bC V r (3 + j) k = if (r.1 (60 + j)).toNat ≤ k ∧ k ≤ (r.1 (50 + j)).toNat then some (kQ 0 (xcap j k) (xec V r j k)) else none := by
  rcases (show j = 0 ∨ j = 1 ∨ j = 2 ∨ j = 3 ∨ j = 4 by omega) with rfl | rfl | rfl | rfl | rfl <;> rfl
section BS
variable {V : XV} {r r' : MS} {j : Nat} {y : EId}
theorem bs_A (h : bstep V j r r' y) (hz : 0 ≤ r.1 (30 + j)) (c : ¬ r.1 (30 + j) = (xcap j (r.1 (50 + j)).toNat : Int)) : iup (xec V r j (r.1 (50 + j)).toNat) (r.1 (30 + j)) (some y) = xec V r' j (r.1 (50 + j)).toNat := by
  obtain ⟨⟨e3, e7, e6, e5⟩, hy, -, hx⟩ := h
  rw [if_neg c] at e5
  rw [e5] at hx
  funext x
  unfold iup xec
  rw [e5, if_pos rfl, if_pos rfl, e3]
  by_cases e1 : x = r.1 (30 + j)
  · rw [if_pos e1, if_pos ⟨by omega, by omega⟩, e1, hy]
  · rw [if_neg e1]
    by_cases e2 : 0 ≤ x ∧ x < r.1 (30 + j)
    · rw [if_pos e2, if_pos ⟨e2.1, by omega⟩, hx _ x (Nat.le_refl _) (Or.inr rfl) e2.1 (by rw [if_pos rfl]; exact e2.2)]
    · rw [if_neg e2, if_neg (fun w => e2 ⟨w.1, by omega⟩)]
theorem bs_B (h : bstep V j r r' y) (hz : 0 ≤ r.1 (30 + j)) (hq : 0 ≤ r.1 (50 + j)) (c : r.1 (30 + j) = (xcap j (r.1 (50 + j)).toNat : Int)) : iup (icpy (xec V r j (r.1 (50 + j)).toNat) (fun _ => none) 0 0 (xcap j (r.1 (50 + j)).toNat)) (r.1 (30 + j)) (some y) = xec V r' j ((r.1 (50 + j)).toNat + 1) := by
  obtain ⟨⟨e3, e7, e6, e5⟩, hy, -, hx⟩ := h
  rw [if_pos c] at e5
  rw [← c]
  funext x
  unfold iup icpy xec
  rw [e5, if_pos rfl, show (r.1 (50 + j) + 1).toNat = (r.1 (50 + j)).toNat + 1 by omega, if_pos rfl, e3]
  have ex : 0 + (x - 0) = x := by omega
  rw [ex, Int.zero_add]
  by_cases e1 : x = r.1 (30 + j)
  · rw [if_pos e1, if_pos ⟨by omega, by omega⟩, e1, hy]
  · rw [if_neg e1]
    by_cases e2 : 0 ≤ x ∧ x < r.1 (30 + j)
    · rw [if_pos e2, if_pos e2, if_pos ⟨e2.1, by omega⟩, hx _ x (Nat.le_refl _) (Or.inr rfl) e2.1 (by rw [if_pos rfl]; exact e2.2)]
    · rw [if_neg e2, if_neg (fun w => e2 ⟨w.1, by omega⟩)]
theorem bs_o (h : bstep V j r r' y) (hj : j < 5) (hq : 0 ≤ r.1 (50 + j)) {k : Nat} (hk : k ≠ (r'.1 (50 + j)).toNat) : bC V r' (3 + j) k = bC V r (3 + j) k := by
  obtain ⟨⟨e3, e7, e6, e5⟩, hy, -, hx⟩ := h
  rw [bC_e hj, bC_e hj, e6]
  have hb : ∀ k', k' = k → (if k' = (r'.1 (50 + j)).toNat then r'.1 (30 + j) else (xcap j k' : Int)) = (if k' = (r.1 (50 + j)).toNat then r.1 (30 + j) else (xcap j k' : Int)) := by
    intro k' ek
    subst ek
    rw [if_neg hk]
    by_cases c2 : k' = (r.1 (50 + j)).toNat
    · rw [if_pos c2]
      by_cases c : r.1 (30 + j) = (xcap j (r.1 (50 + j)).toNat : Int)
      · rw [c, c2]
      · rw [if_neg c] at e5
        rw [e5] at hk
        exact absurd c2 hk
    · rw [if_neg c2]
  by_cases i1 : (r.1 (60 + j)).toNat ≤ k ∧ k ≤ (r.1 (50 + j)).toNat
  · have i2 : (r.1 (60 + j)).toNat ≤ k ∧ k ≤ (r'.1 (50 + j)).toNat := ⟨i1.1, by rw [e5]; split <;> omega⟩
    rw [if_pos i1, if_pos i2]
    have e : xec V r' j k = xec V r j k := by
      funext x
      unfold xec
      rw [hb k rfl]
      by_cases c : 0 ≤ x ∧ x < (if k = (r.1 (50 + j)).toNat then r.1 (30 + j) else (xcap j k : Int))
      · rw [if_pos c, if_pos c, hx k x i1.2 (Or.inl hk) c.1 c.2]
      · rw [if_neg c, if_neg c]
    rw [e]
  · have i2 : ¬ ((r.1 (60 + j)).toNat ≤ k ∧ k ≤ (r'.1 (50 + j)).toNat) := fun w => by
      refine i1 ⟨w.1, ?_⟩
      have w2 := w.2
      rw [e5] at hk w2
      split at w2
      · next c =>
        rw [if_pos c] at hk
        omega
      · exact w2
    rw [if_neg i1, if_neg i2]
end BS
/-- what is told of the other cells: r' with g is r with G -/
def bO (V : XV) (j : Nat) (r r' : MS) (g G : AH) : Prop :=
  (∀ i, ¬ breg V i → G i = g i) ∧ (∀ k, G (bI V (3 + j) k) = g (bI V (3 + j) k)) ∧ ∀ reg k, reg < 20 → ¬ (reg = 2 ∧ k = j) → reg ≠ 3 + j → bor (bC V r reg k) (G (bI V reg k)) = bor (bC V r' reg k) (g (bI V reg k))
theorem bO_0 {V : XV} {j : Nat} {r r' : MS} {g : AH} (h : ∀ reg k, ¬ (reg = 2 ∧ k = j) → reg ≠ 3 + j → bC V r' reg k = bC V r reg k) : bO V j r r' g g := ⟨fun _ _ => rfl, fun _ => rfl, fun reg k _ h1 h2 => by rw [h reg k h1 h2]⟩
theorem bO_1 {V : XV} {j p m : Nat} {r r' : MS} {g : AH} {c : ACell} (hp : p < 20) (hpj : p ≠ 3 + j) (h0 : bC V r p m = none) (h1 : bC V r' p m = some c) (h : ∀ reg k, ¬ (reg = 2 ∧ k = j) → reg ≠ 3 + j → ¬ (reg = p ∧ k = m) → bC V r' reg k = bC V r reg k) : bO V j r r' g (hup g (bI V p m) c) := by
  refine ⟨fun i hi => hup_ne fun e => hi (by rw [e]; exact bI_reg hp), fun k => hup_ne (bI_ne fun w => hpj w.1.symm), fun reg k hr a b => ?_⟩
  by_cases e : reg = p ∧ k = m
  · obtain ⟨rfl, rfl⟩ := e
    rw [h0, h1, hup_self]
    rfl
  · rw [h reg k a b e, hup_ne (bI_ne e)]
theorem bO_2 {V : XV} {j p m p' m' : Nat} {r r' : MS} {g : AH} {c c' : ACell} (hp : p < 20) (hpj : p ≠ 3 + j) (hp' : p' < 20) (hpj' : p' ≠ 3 + j) (hpp : p ≠ p') (h0 : bC V r p m = none) (h1 : bC V r' p m = some c) (h0' : bC V r p' m' = none) (h1' : bC V r' p' m' = some c') (h : ∀ reg k, ¬ (reg = 2 ∧ k = j) → reg ≠ 3 + j → ¬ (reg = p ∧ k = m) → ¬ (reg = p' ∧ k = m') → bC V r' reg k = bC V r reg k) : bO V j r r' g (hup (hup g (bI V p m) c) (bI V p' m') c') := by
  refine ⟨fun i hi => ?_, fun k => ?_, fun reg k hr a b => ?_⟩
  · rw [hup_ne (fun e => hi (by rw [e]; exact bI_reg hp')), hup_ne (fun e => hi (by rw [e]; exact bI_reg hp))]
  · rw [hup_ne (bI_ne fun w => hpj' w.1.symm), hup_ne (bI_ne fun w => hpj w.1.symm)]
  · by_cases e' : reg = p' ∧ k = m'
    · obtain ⟨rfl, rfl⟩ := e'
      rw [h0', h1', hup_self]
      rfl
    · rw [hup_ne (bI_ne e')]
      by_cases e : reg = p ∧ k = m
      · obtain ⟨rfl, rfl⟩ := e
        rw [h0, h1, hup_self]
        rfl
      · rw [h reg k a b e e', hup_ne (bI_ne e)]
theorem xL_eq {V : XV} {r r' : MS} {k : Nat} (h3 : r'.1 (30 + k) = r.1 (30 + k)) (h5 : r'.1 (50 + k) = r.1 (50 + k)) (h7 : r'.1 (70 + k) = r.1 (70 + k)) : xL V r' k = xL V r k := by unfold xL; rw [h3, h5, h7]
section BA
variable {M : EM} {d kc ks : Nat} {Q : AO → AH → Prop} {pc idx cnt : Nat} {lv : List (Nat × AV)} {st rest : List AV} {V : XV} {hb : MS → AH → AH} {r r' : MS} {g G : AH} {j : Nat} {y : EId}
theorem bk_add (hbk : bkH V hb) (hj : j < 5) (hd : decode M.2.1 pc = .ok (.invokeinterface idx cnt, 5)) (w1 : Cond.methodLink M.1.cls idx ⟨"java/util/List", "add", "(Ljava/lang/Object;)Z"⟩ ∈ lw_all) (hz : 0 ≤ r.1 (30 + j)) (hq : 0 ≤ r.1 (50 + j)) (hok : rok r j) (h0 : 0 < xcap j (r.1 (50 + j)).toNat) (h3 : -1000000 ≤ r.1 (70 + j) ∧ r.1 (70 + j) ≤ 1000000)
    (hs : bstep V j r r' y) (hO : bO V j r r' g G) (hfree : g (bI V (3 + j) ((r.1 (50 + j)).toNat + 1)) = none) (hel : ∀ x : Int, 0 ≤ x → x < r.1 (30 + j) → e_el (hb r G) (xel V r j x)) (hy : e_el (hb r G) y) (h8 : (rest.map fun v => if e_is2 v then 2 else 1).sum ≤ 8) (b1 : 1 ≤ kc) (b2 : al_N (xcap j (r.1 (50 + j)).toNat) ≤ ks)
    (k : EW M (d + 7) (kc - 1) (ks - al_N (xcap j (r.1 (50 + j)).toNat)) Q (pc + 5) lv (aI 1 :: rest) (hb r' g)) : EW M (d + 7) kc ks Q pc lv (aR (some y) :: aR (some (bI V 2 j)) :: rest) (hb r G) := by
  have hL : hb r G (bI V 2 j) = some (kO 11 (al (bI V (3 + j) (r.1 (50 + j)).toNat) (r.1 (30 + j)) (r.1 (70 + j)))) := by
    rw [hbk.1 _ _ _ _ (by omega), show bC V r 2 j = some (xL V r j) from if_pos hj]
    rfl
  have hE : hb r G (bI V (3 + j) (r.1 (50 + j)).toNat) = some (kQ 0 (xcap j (r.1 (50 + j)).toNat) (xec V r j (r.1 (50 + j)).toNat)) := by
    rw [hbk.1 _ _ _ _ (by omega), bC_e hj, if_pos ⟨hok.2.1, Nat.le_refl _⟩]
    rfl
  have hne : ∀ q, bI V 2 j ≠ bI V (3 + j) q := fun q => bI_ne fun w => by omega
  have e30 := hs.1.1
  have e70 := hs.1.2.1
  have e50 := hs.1.2.2.2
  have hl2 : bC V r' 2 j = some (xL V r' j) := if_pos hj
  by_cases c : r.1 (30 + j) = (xcap j (r.1 (50 + j)).toNat : Int)
  · have e5 : r'.1 (50 + j) = r.1 (50 + j) + 1 := by rw [e50, if_pos c]
    have en : (r.1 (50 + j) + 1).toNat = (r.1 (50 + j)).toNat + 1 := by omega
    have hf : hb r G (bI V (3 + j) ((r.1 (50 + j)).toNat + 1)) = none := by
      rw [hbk.1 _ _ _ _ (by omega), bC_e hj, if_neg (fun w => by have := w.2; omega), hO.2.1]
      exact hfree
    have hel2 : ∀ i : Int, 0 ≤ i → i < (xcap j (r.1 (50 + j)).toNat : Int) → ∀ y, xec V r j (r.1 (50 + j)).toNat i = some y → e_el (hb r G) y := by
      intro i i0 i1 y hy
      rw [rxec_in i0 (by omega)] at hy
      cases hy
      exact hel i i0 (by omega)
    refine ew_callF (x := ⟨"java/util/List", "add", "(Ljava/lang/Object;)Z"⟩) (d := d + 6) (as := [aR (some y)]) (ci := 11) rfl hd me_J2_add rfl rfl hL rfl w1 q730 q732 lm2 h8 b1 b2 (A_addG (d := d) (E1 := bI V (3 + j) ((r.1 (50 + j)).toNat + 1)) hL hE hel2 h0 c hf (by show 10 + V 9 ≠ 9; omega) hy hz h3 (hne _) hok.2.2) (fun o h' hq' _ => ?_) (fun E i h' q _ => by cases q.1)
    obtain ⟨E1, rfl⟩ := hq'
    cases E1
    rw [bs_B hs hz hq c]
    have e := bk_up hbk (r := r) (r' := r') (g := g) (G := G) (j := j) (q := (r.1 (50 + j)).toNat + 1) (c1 := kO 11 (al (bI V (3 + j) ((r.1 (50 + j)).toNat + 1)) (r.1 (30 + j) + 1) (r.1 (70 + j) + 1))) (c2 := kQ 0 (al_N (xcap j (r.1 (50 + j)).toNat)) (xec V r' j ((r.1 (50 + j)).toNat + 1))) hj hs.2.2.1 ?_ ?_ hO.1 ?_
    · rw [e]
      exact k
    · rw [hl2]
      unfold xL
      rw [e30, e70, e5, en]
    · rw [bC_e hj, e5, en, hs.1.2.2.1, if_pos ⟨Nat.le_succ_of_le hok.2.1, Nat.le_refl _⟩]
      rfl
    · intro reg k hr h1 h2
      by_cases e : reg = 3 + j
      · subst e
        rw [bs_o hs hj hq (fun w => h2 ⟨rfl, by rw [w, e5, en]⟩), hO.2.1]
      · exact hO.2.2 reg k hr h1 e
  · have e5 : r'.1 (50 + j) = r.1 (50 + j) := by rw [e50, if_neg c]
    refine ew_callF (x := ⟨"java/util/List", "add", "(Ljava/lang/Object;)Z"⟩) (d := d + 6) (as := [aR (some y)]) (ci := 11) rfl hd me_J2_add rfl rfl hL rfl w1 q730 q732 lm2 h8 (Nat.zero_le _) (Nat.zero_le _) (A_add (d := d) hL hE (by have := hok.1; exact (Int.lt_iff_le_and_ne).mpr ⟨this, c⟩) hy hz h3 (hne _) hok.2.2) (fun o h' hq' _ => ?_) (fun E i h' q _ => by cases q.1)
    obtain ⟨E1, rfl⟩ := hq'
    cases E1
    rw [bs_A hs hz c]
    have e := bk_up hbk (r := r) (r' := r') (g := g) (G := G) (j := j) (q := (r.1 (50 + j)).toNat) (c1 := kO 11 (al (bI V (3 + j) (r.1 (50 + j)).toNat) (r.1 (30 + j) + 1) (r.1 (70 + j) + 1))) (c2 := kQ 0 (xcap j (r.1 (50 + j)).toNat) (xec V r' j (r.1 (50 + j)).toNat)) hj hs.2.2.1 ?_ ?_ hO.1 ?_
    · rw [e]
      exact ew_room (Nat.le_refl _) (Nat.sub_le _ _) (Nat.sub_le _ _) k
    · rw [hl2]
      unfold xL
      rw [e30, e70, e5]
    · rw [bC_e hj, e5, hs.1.2.2.1, if_pos ⟨hok.2.1, Nat.le_refl _⟩]
    · intro reg k hr h1 h2
      by_cases e : reg = 3 + j
      · subst e
        rw [bs_o hs hj hq (fun w => h2 ⟨rfl, by rw [w, e5]⟩), hO.2.1]
      · exact hO.2.2 reg k hr h1 e
end BA
/-- the ints when list j has one more -/
def yi (j : Nat) (r : MS) : Nat → Int := fun k => if k = 30 + j then r.1 (30 + j) + 1 else if k = 40 + j then r.1 (40 + j) + 1 else if k = 70 + j then r.1 (70 + j) + 1 else if k = 50 + j then (if r.1 (30 + j) = (xcap j (r.1 (50 + j)).toNat : Int) then r.1 (50 + j) + 1 else r.1 (50 + j)) else r.1 k
def yf0 (r : MS) (nm tk : Int) : MS := (yi 0 r, fun k => if k = 30 then iup (r.2 30) (r.1 30) nm else if k = 31 then iup (r.2 31) (r.1 30) tk else r.2 k)
def yf1 (r : MS) (nm f : Int) (n : Int) (p : Int → Int) : MS := (yi 1 r, fun k => if k = 32 then iup (r.2 32) (r.1 31) nm else if k = 33 then iup (r.2 33) (r.1 31) f else if k = 34 then iup (r.2 34) (r.1 31) n else if k < 100 then r.2 k else if k = 100 + (r.1 31).toNat then p else r.2 k)
def yf4 (r : MS) (v : Int) : MS := (yi 4 r, fun k => if k = 44 then iup (r.2 44) (r.1 34) v else r.2 k)
theorem yi_30 {j : Nat} {r : MS} : yi j r (30 + j) = r.1 (30 + j) + 1 := if_pos rfl
theorem yi_40 {j : Nat} {r : MS} : yi j r (40 + j) = r.1 (40 + j) + 1 := by
  unfold yi
  rw [if_neg (by omega), if_pos rfl]
theorem yi_70 {j : Nat} {r : MS} : yi j r (70 + j) = r.1 (70 + j) + 1 := by
  unfold yi
  rw [if_neg (by omega), if_neg (by omega), if_pos rfl]
theorem yi_50 {j : Nat} {r : MS} : yi j r (50 + j) = if r.1 (30 + j) = (xcap j (r.1 (50 + j)).toNat : Int) then r.1 (50 + j) + 1 else r.1 (50 + j) := by
  unfold yi
  rw [if_neg (by omega), if_neg (by omega), if_neg (by omega), if_pos rfl]
theorem yi_n {j k : Nat} {r : MS} (h : k ≠ 30 + j ∧ k ≠ 40 + j ∧ k ≠ 70 + j ∧ k ≠ 50 + j) : yi j r k = r.1 k := by
  unfold yi
  rw [if_neg h.1, if_neg h.2.1, if_neg h.2.2.1, if_neg h.2.2.2]
theorem xel_ne {V : XV} {r r' : MS} {j : Nat} {x : Int} (hj : j ≠ 4) : xel V r' j x = xel V r j x := by unfold xel; rw [if_neg hj, if_neg hj]
theorem bstep_n {V : XV} {j : Nat} {r r' : MS} (hj : j < 4) (hi : r'.1 = yi j r) (hl : ∀ k, k < 30 → r'.2 k = r.2 k) : bstep V j r r' (bI V (10 + j) (r.1 (30 + j)).toNat) := by
  refine ⟨⟨by rw [hi, yi_30], by rw [hi, yi_70], by rw [hi, yi_n ⟨by omega, by omega, by omega, by omega⟩], by rw [hi, yi_50]⟩, ?_, fun k hk => ⟨by rw [hi, yi_n ⟨by omega, by omega, by omega, by omega⟩], (hl k hk).symm⟩, fun k x _ _ _ _ => xel_ne (by omega)⟩
  unfold xel
  rw [if_neg (by omega)]
theorem bstep_0 {V : XV} {r : MS} {nm tk : Int} : bstep V 0 r (yf0 r nm tk) (bI V 10 (r.1 30).toNat) := bstep_n (by decide) rfl fun k hk => by
  show (if k = 30 then _ else if k = 31 then _ else _) = _
  rw [if_neg (by omega), if_neg (by omega)]
theorem bstep_1 {V : XV} {r : MS} {nm f n : Int} {p : Int → Int} : bstep V 1 r (yf1 r nm f n p) (bI V 11 (r.1 31).toNat) := bstep_n (by decide) rfl fun k hk => by
  show (if k = 32 then _ else if k = 33 then _ else if k = 34 then _ else if k < 100 then _ else if k = 100 + (r.1 31).toNat then _ else _) = _
  rw [if_neg (by omega), if_neg (by omega), if_neg (by omega), if_pos (by omega)]
theorem yf2_yi {r : MS} {a b : Int} : (yf2 r a b).1 = yi 2 r := rfl
theorem yf3_yi {r : MS} {a b : Int} : (yf3 r a b).1 = yi 3 r := rfl
theorem bstep_2 {V : XV} {r : MS} {a b : Int} : bstep V 2 r (yf2 r a b) (bI V 12 (r.1 32).toNat) := bstep_n (by decide) rfl fun k hk => by
  show (if k = 40 then _ else if k = 41 then _ else _) = _
  rw [if_neg (by omega), if_neg (by omega)]
theorem bstep_3 {V : XV} {r : MS} {a b : Int} : bstep V 3 r (yf3 r a b) (bI V 13 (r.1 33).toNat) := bstep_n (by decide) rfl fun k hk => by
  show (if k = 42 then _ else if k = 43 then _ else _) = _
  rw [if_neg (by omega), if_neg (by omega)]
/-- the arrays ahead are no longer than what is in list 4 -/
def rinc (r : MS) : Prop := ∀ k : Nat, (k : Int) < r.1 54 → (xcap 4 k : Int) ≤ r.1 34
theorem bstep_4 {V : XV} {r : MS} {v : Int} (hz : 0 ≤ r.1 34) (hq : 0 ≤ r.1 54) (hi : rinc r) : bstep V 4 r (yf4 r v) (9, 12, (v + 128).toNat) := by
  have h44 : ∀ x, x ≠ r.1 34 → (yf4 r v).2 44 x = r.2 44 x := fun x hx => if_neg hx
  refine ⟨⟨rfl, rfl, rfl, rfl⟩, ?_, fun k hk => ⟨(yi_n (j := 4) ⟨by omega, by omega, by omega, by omega⟩).symm, ?_⟩, fun k x h1 h2 h3 h4 => ?_⟩
  · have e : (yf4 r v).2 44 (r.1 34) = v := if_pos rfl
    show (9, 12, ((yf4 r v).2 44 (r.1 34) + 128).toNat) = _
    rw [e]
  · show _ = (if k = 44 then _ else _)
    rw [if_neg (by omega)]
  · show (9, 12, ((yf4 r v).2 44 x + 128).toNat) = (9, 12, (r.2 44 x + 128).toNat)
    rw [h44]
    have h4' : x < (if k = (r.1 54).toNat then r.1 34 else (xcap 4 k : Int)) := h4
    have h1' : k ≤ (r.1 54).toNat := h1
    by_cases c : k = (r.1 54).toNat
    · rw [if_pos c] at h4'
      omega
    · rw [if_neg c] at h4'
      have := hi k (by omega)
      omega
theorem bC_g0 {V : XV} {r : MS} {nm tk : Int} (hz : 0 ≤ r.1 30) (hm : r.1 40 = r.1 30) : ∀ reg k, ¬ (reg = 2 ∧ k = 0) → reg ≠ 3 + 0 → ¬ (reg = 10 ∧ k = (r.1 30).toNat) → bC V (yf0 r nm tk) reg k = bC V r reg k := by
  intro reg k h1 h2 p10
  unfold bC
  split
  · rfl
  · by_cases hk : k < 5
    · rw [if_pos hk, if_pos hk]
      have e : k ≠ 0 := fun z => h1 ⟨rfl, z⟩
      rcases (show k = 1 ∨ k = 2 ∨ k = 3 ∨ k = 4 by omega) with rfl | rfl | rfl | rfl <;> rfl
    · rw [if_neg hk, if_neg hk]
  · exact absurd rfl h2
  · rfl
  · rfl
  · rfl
  · rfl
  · have hk : k ≠ (r.1 30).toNat := fun q => p10 ⟨rfl, q⟩
    have e : (yf0 r nm tk).1 40 = r.1 40 + 1 := rfl
    rw [e]
    have hi : (k < (r.1 40 + 1).toNat) ↔ (k < (r.1 40).toNat) := by omega
    simp only [hi]
    by_cases c : k < (r.1 40).toNat
    · rw [if_pos c, if_pos c]
      have e1 : (yf0 r nm tk).2 30 k = r.2 30 k := if_neg (by omega)
      have e2 : (yf0 r nm tk).2 31 k = r.2 31 k := if_neg (by omega)
      have e3 : xfF (yf0 r nm tk) k = xfF r k := by
        unfold xfF
        rw [e1, e2]
      rw [e3]
    · rw [if_neg c, if_neg c]
  · rfl
  · rfl
  · rfl
  · have e2 : (yf0 r nm tk).2 (100 + k) = r.2 (100 + k) := by
      show (if 100 + k = 30 then _ else if 100 + k = 31 then _ else _) = _
      rw [if_neg (by omega), if_neg (by omega)]
    rw [e2]
    rfl
  · rfl

theorem bC_g1 {V : XV} {r : MS} {nm f n : Int} {p : Int → Int} (hz : 0 ≤ r.1 31) (hm : r.1 41 = r.1 31) : ∀ reg k, ¬ (reg = 2 ∧ k = 1) → reg ≠ 3 + 1 → ¬ (reg = 11 ∧ k = (r.1 31).toNat) → ¬ (reg = 14 ∧ k = (r.1 31).toNat) → bC V (yf1 r nm f n p) reg k = bC V r reg k := by
  intro reg k h1 h2 p11 p14
  unfold bC
  split
  · rfl
  · by_cases hk : k < 5
    · rw [if_pos hk, if_pos hk]
      have e : k ≠ 1 := fun z => h1 ⟨rfl, z⟩
      rcases (show k = 0 ∨ k = 2 ∨ k = 3 ∨ k = 4 by omega) with rfl | rfl | rfl | rfl <;> rfl
    · rw [if_neg hk, if_neg hk]
  · rfl
  · exact absurd rfl h2
  · rfl
  · rfl
  · rfl
  · rfl
  · have hk : k ≠ (r.1 31).toNat := fun q => p11 ⟨rfl, q⟩
    have e : (yf1 r nm f n p).1 41 = r.1 41 + 1 := rfl
    rw [e]
    have hi : (k < (r.1 41 + 1).toNat) ↔ (k < (r.1 41).toNat) := by omega
    simp only [hi]
    by_cases c : k < (r.1 41).toNat
    · rw [if_pos c, if_pos c]
      have e1 : (yf1 r nm f n p).2 32 k = r.2 32 k := if_neg (by omega)
      have e2 : (yf1 r nm f n p).2 33 k = r.2 33 k := if_neg (by omega)
      have e3 : xfT V (yf1 r nm f n p) k = xfT V r k := by
        unfold xfT
        rw [e1, e2]
      rw [e3]
    · rw [if_neg c, if_neg c]
  · rfl
  · rfl
  · have hk : k ≠ (r.1 31).toNat := fun q => p14 ⟨rfl, q⟩
    have e : (yf1 r nm f n p).1 41 = r.1 41 + 1 := rfl
    rw [e]
    have hi : (k < (r.1 41 + 1).toNat) ↔ (k < (r.1 41).toNat) := by omega
    simp only [hi]
    by_cases c : k < (r.1 41).toNat
    · rw [if_pos c, if_pos c]
      have e1 : (yf1 r nm f n p).2 34 k = r.2 34 k := if_neg (by omega)
      have e2 : (yf1 r nm f n p).2 (100 + k) = r.2 (100 + k) := by
        show (if 100 + k = 32 then _ else if 100 + k = 33 then _ else if 100 + k = 34 then _ else if 100 + k < 100 then _ else if 100 + k = 100 + (r.1 31).toNat then _ else _) = _
        rw [if_neg (by omega), if_neg (by omega), if_neg (by omega), if_neg (by omega), if_neg (by omega)]
      rw [e1, e2]
    · rw [if_neg c, if_neg c]
  · rfl

theorem bC_g4 {V : XV} {r : MS} {v : Int} : ∀ reg k, ¬ (reg = 2 ∧ k = 4) → reg ≠ 3 + 4 → bC V (yf4 r v) reg k = bC V r reg k := by
  intro reg k h1 h2 
  unfold bC
  split
  · rfl
  · by_cases hk : k < 5
    · rw [if_pos hk, if_pos hk]
      have e : k ≠ 4 := fun z => h1 ⟨rfl, z⟩
      rcases (show k = 0 ∨ k = 1 ∨ k = 2 ∨ k = 3 by omega) with rfl | rfl | rfl | rfl <;> rfl
    · rw [if_neg hk, if_neg hk]
  · rfl
  · rfl
  · rfl
  · rfl
  · exact absurd rfl h2
  · rfl
  · rfl
  · rfl
  · rfl
  · have e2 : (yf4 r v).2 (100 + k) = r.2 (100 + k) := by
      show (if 100 + k = 44 then _ else _) = _
      rw [if_neg (by omega)]
    rw [e2]
    rfl
  · rfl

/-- fields of a new Function, a new Term -/
def vFn : Nat → AV := fun k => match k with
  | 0 => aL 0
  | _ => aI 0
def vTm : Nat → AV := fun k => match k with
  | 0 => aL 0
  | 1 => aR none
  | 3 => aR none
  | _ => aI 0
theorem bel_0 {V : XV} {r : MS} {nm tk : Int} (hz : 0 ≤ r.1 30) (hm : r.1 40 = r.1 30) : bC V (yf0 r nm tk) 10 (r.1 30).toNat = some (kO 8 (fup (fup vFn 0 (aL nm)) 1 (aI tk))) := by
  have e : (yf0 r nm tk).1 40 = r.1 40 + 1 := rfl
  have h1 : bC V (yf0 r nm tk) 10 (r.1 30).toNat = some (kO 8 (xfF (yf0 r nm tk) (r.1 30).toNat)) := if_pos (by rw [e]; omega)
  rw [h1]
  congr 3
  have ez : (((r.1 30).toNat : Nat) : Int) = r.1 30 := by omega
  have ea : (yf0 r nm tk).2 30 ((r.1 30).toNat : Nat) = nm := by rw [ez]; exact if_pos rfl
  have eb : (yf0 r nm tk).2 31 ((r.1 30).toNat : Nat) = tk := by rw [ez]; exact if_pos rfl
  funext i
  match i with
  | 0 => exact congrArg aL ea
  | 1 => exact congrArg aI eb
  | n + 2 => rfl
theorem bel_1 {V : XV} {r : MS} {nm f n : Int} {p : Int → Int} (hz : 0 ≤ r.1 31) (hm : r.1 41 = r.1 31) : bC V (yf1 r nm f n p) 11 (r.1 31).toNat = some (kO 9 (fup (fup (fup (fup vTm 0 (aL nm)) 1 (aR (some (bI V 10 f.toNat)))) 2 (aI f)) 3 (aR (some (bI V 14 (r.1 31).toNat))))) := by
  have e : (yf1 r nm f n p).1 41 = r.1 41 + 1 := rfl
  have h1 : bC V (yf1 r nm f n p) 11 (r.1 31).toNat = some (kO 9 (xfT V (yf1 r nm f n p) (r.1 31).toNat)) := if_pos (by rw [e]; omega)
  rw [h1]
  congr 3
  have ez : (((r.1 31).toNat : Nat) : Int) = r.1 31 := by omega
  have ea : (yf1 r nm f n p).2 32 ((r.1 31).toNat : Nat) = nm := by rw [ez]; exact if_pos rfl
  have eb : (yf1 r nm f n p).2 33 ((r.1 31).toNat : Nat) = f := by rw [ez]; exact if_pos rfl
  funext i
  match i with
  | 0 => exact congrArg aL ea
  | 1 => exact congrArg (fun x : Int => aR (some (bI V 10 x.toNat))) eb
  | 2 => exact congrArg aI eb
  | 3 => rfl
  | n + 4 => rfl
theorem bel_14 {V : XV} {r : MS} {nm f n : Int} {p : Int → Int} (hz : 0 ≤ r.1 31) (hm : r.1 41 = r.1 31) : bC V (yf1 r nm f n p) 14 (r.1 31).toNat = some (kI 0 n.toNat p) := by
  have e : (yf1 r nm f n p).1 41 = r.1 41 + 1 := rfl
  have h1 : bC V (yf1 r nm f n p) 14 (r.1 31).toNat = some (kI 0 ((yf1 r nm f n p).2 34 ((r.1 31).toNat : Nat)).toNat ((yf1 r nm f n p).2 (100 + (r.1 31).toNat))) := if_pos (by rw [e]; omega)
  have ez : (((r.1 31).toNat : Nat) : Int) = r.1 31 := by omega
  have ea : (yf1 r nm f n p).2 34 ((r.1 31).toNat : Nat) = n := by rw [ez]; exact if_pos rfl
  have eb : (yf1 r nm f n p).2 (100 + (r.1 31).toNat) = p := by
    show (if 100 + (r.1 31).toNat = 32 then _ else if 100 + (r.1 31).toNat = 33 then _ else if 100 + (r.1 31).toNat = 34 then _ else if 100 + (r.1 31).toNat < 100 then _ else if 100 + (r.1 31).toNat = 100 + (r.1 31).toNat then _ else _) = _
    rw [if_neg (by omega), if_neg (by omega), if_neg (by omega), if_neg (by omega), if_pos rfl]
  rw [h1, ea, eb]
theorem bn_0 {V : XV} {r : MS} {m : Nat} (h : (r.1 40).toNat ≤ m) : bC V r 10 m = none := bC_none (j := 0) (by decide) h
theorem bn_1 {V : XV} {r : MS} {m : Nat} (h : (r.1 41).toNat ≤ m) : bC V r 11 m = none := bC_none (j := 1) (by decide) h
theorem bn_14 {V : XV} {r : MS} {m : Nat} (h : (r.1 41).toNat ≤ m) : bC V r 14 m = none := if_neg (Nat.not_lt.mpr h)
theorem bO_f0 {V : XV} {r : MS} {g : AH} {nm tk : Int} (hz : 0 ≤ r.1 30) (hm : r.1 40 = r.1 30) : bO V 0 r (yf0 r nm tk) g (hup g (bI V 10 (r.1 30).toNat) (kO 8 (fup (fup vFn 0 (aL nm)) 1 (aI tk)))) :=
  bO_1 (by decide) (by decide) (bn_0 (by omega)) (bel_0 hz hm) (bC_g0 hz hm)
theorem bO_f1 {V : XV} {r : MS} {g : AH} {nm f n : Int} {p : Int → Int} (hz : 0 ≤ r.1 31) (hm : r.1 41 = r.1 31) : bO V 1 r (yf1 r nm f n p) g (hup (hup g (bI V 14 (r.1 31).toNat) (kI 0 n.toNat p)) (bI V 11 (r.1 31).toNat) (kO 9 (fup (fup (fup (fup vTm 0 (aL nm)) 1 (aR (some (bI V 10 f.toNat)))) 2 (aI f)) 3 (aR (some (bI V 14 (r.1 31).toNat)))))) :=
  bO_2 (by decide) (by decide) (by decide) (by decide) (by decide) (bn_14 (by omega)) (bel_14 hz hm) (bn_1 (by omega)) (bel_1 hz hm) (fun reg k a b c e => bC_g1 hz hm reg k a b e c)
theorem bO_f2 {V : XV} {r : MS} {g : AH} {a b : Int} (hz : 0 ≤ r.1 32) (hm : r.1 42 = r.1 32) (hq : 0 ≤ r.1 52) : bO V 2 r (yf2 r a b) g (hup g (bI V 12 (r.1 32).toNat) (kO 10 (fup (fup (fun _ => aI 0) 0 (aI a)) 1 (aI b)))) :=
  bO_1 (by decide) (by decide) (bC_none (j := 2) (by decide) (by show (r.1 42).toNat ≤ _; omega)) (yf2_el hz hm) (fun reg k h1 h2 h3 => bC_yf2 hz hm hq reg k h1 (fun w => h2 w.1) h3)
theorem bO_f3 {V : XV} {r : MS} {g : AH} {a b : Int} (hz : 0 ≤ r.1 33) (hm : r.1 43 = r.1 33) (hq : 0 ≤ r.1 53) : bO V 3 r (yf3 r a b) g (hup g (bI V 13 (r.1 33).toNat) (kO 10 (fup (fup (fun _ => aI 0) 0 (aI a)) 1 (aI b)))) :=
  bO_1 (by decide) (by decide) (bC_none (j := 3) (by decide) (by show (r.1 43).toNat ≤ _; omega)) (yf3_el hz hm) (fun reg k h1 h2 h3 => bC_yf3 hz hm hq reg k h1 (fun w => h2 w.1) h3)
theorem bO_f4 {V : XV} {r : MS} {g : AH} {v : Int} : bO V 4 r (yf4 r v) g g := bO_0 bC_g4
