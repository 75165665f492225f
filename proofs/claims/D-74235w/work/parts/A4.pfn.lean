/-! THE PURE PART, 41: texts: lists grow; a function -/
set_option maxRecDepth 100000
theorem grow_0 {n g : Int} (hg : 0 ≤ g ∧ g ≤ 2) (hn : n < 8) (hc : n ≤ (xcap 0 g.toNat : Int)) : (0 ≤ (if n = (xcap 0 g.toNat : Int) then g + 1 else g) ∧ (if n = (xcap 0 g.toNat : Int) then g + 1 else g) ≤ 2) ∧ n + 1 ≤ (xcap 0 (if n = (xcap 0 g.toNat : Int) then g + 1 else g).toNat : Int) ∧ g ≤ (if n = (xcap 0 g.toNat : Int) then g + 1 else g) ∧ xcap 0 (if n = (xcap 0 g.toNat : Int) then g + 1 else g).toNat ≤ 5000 ∧ 0 < xcap 0 g.toNat ∧ al_N (xcap 0 g.toNat) ≤ 100 := by
  rcases (show g = 0 ∨ g = 1 ∨ g = 2 by omega) with rfl | rfl | rfl
  · have e : ((xcap 0 (Int.toNat 0) : Nat) : Int) = 4 := by decide
    rw [e] at hc ⊢
    by_cases q : n = 4
    · rw [if_pos q]
      have e2 : ((xcap 0 (Int.toNat (0 + 1)) : Nat) : Int) = 6 := by decide
      rw [e2]
      exact ⟨by omega, by omega, by omega, by decide, by decide, by decide⟩
    · rw [if_neg q, e]
      exact ⟨by omega, by omega, by omega, by decide, by decide, by decide⟩
  · have e : ((xcap 0 (Int.toNat 1) : Nat) : Int) = 6 := by decide
    rw [e] at hc ⊢
    by_cases q : n = 6
    · rw [if_pos q]
      have e2 : ((xcap 0 (Int.toNat (1 + 1)) : Nat) : Int) = 9 := by decide
      rw [e2]
      exact ⟨by omega, by omega, by omega, by decide, by decide, by decide⟩
    · rw [if_neg q, e]
      exact ⟨by omega, by omega, by omega, by decide, by decide, by decide⟩
  · have e : ((xcap 0 (Int.toNat 2) : Nat) : Int) = 9 := by decide
    rw [e] at hc ⊢
    by_cases q : n = 9
    · omega
    · rw [if_neg q, e]
      exact ⟨by omega, by omega, by omega, by decide, by decide, by decide⟩
theorem grow_4 {n g : Int} (hg : 0 ≤ g ∧ g ≤ 4) (hn : n < 36) (hc : n ≤ (xcap 4 g.toNat : Int)) : (0 ≤ (if n = (xcap 4 g.toNat : Int) then g + 1 else g) ∧ (if n = (xcap 4 g.toNat : Int) then g + 1 else g) ≤ 4) ∧ n + 1 ≤ (xcap 4 (if n = (xcap 4 g.toNat : Int) then g + 1 else g).toNat : Int) ∧ g ≤ (if n = (xcap 4 g.toNat : Int) then g + 1 else g) ∧ xcap 4 (if n = (xcap 4 g.toNat : Int) then g + 1 else g).toNat ≤ 5000 ∧ 0 < xcap 4 g.toNat ∧ al_N (xcap 4 g.toNat) ≤ 100 := by
  rcases (show g = 0 ∨ g = 1 ∨ g = 2 ∨ g = 3 ∨ g = 4 by omega) with rfl | rfl | rfl | rfl | rfl
  · have e : ((xcap 4 (Int.toNat 0) : Nat) : Int) = 8 := by decide
    rw [e] at hc ⊢
    by_cases q : n = 8
    · rw [if_pos q]
      have e2 : ((xcap 4 (Int.toNat (0 + 1)) : Nat) : Int) = 12 := by decide
      rw [e2]
      exact ⟨by omega, by omega, by omega, by decide, by decide, by decide⟩
    · rw [if_neg q, e]
      exact ⟨by omega, by omega, by omega, by decide, by decide, by decide⟩
  · have e : ((xcap 4 (Int.toNat 1) : Nat) : Int) = 12 := by decide
    rw [e] at hc ⊢
    by_cases q : n = 12
    · rw [if_pos q]
      have e2 : ((xcap 4 (Int.toNat (1 + 1)) : Nat) : Int) = 18 := by decide
      rw [e2]
      exact ⟨by omega, by omega, by omega, by decide, by decide, by decide⟩
    · rw [if_neg q, e]
      exact ⟨by omega, by omega, by omega, by decide, by decide, by decide⟩
  · have e : ((xcap 4 (Int.toNat 2) : Nat) : Int) = 18 := by decide
    rw [e] at hc ⊢
    by_cases q : n = 18
    · rw [if_pos q]
      have e2 : ((xcap 4 (Int.toNat (2 + 1)) : Nat) : Int) = 27 := by decide
      rw [e2]
      exact ⟨by omega, by omega, by omega, by decide, by decide, by decide⟩
    · rw [if_neg q, e]
      exact ⟨by omega, by omega, by omega, by decide, by decide, by decide⟩
  · have e : ((xcap 4 (Int.toNat 3) : Nat) : Int) = 27 := by decide
    rw [e] at hc ⊢
    by_cases q : n = 27
    · rw [if_pos q]
      have e2 : ((xcap 4 (Int.toNat (3 + 1)) : Nat) : Int) = 40 := by decide
      rw [e2]
      exact ⟨by omega, by omega, by omega, by decide, by decide, by decide⟩
    · rw [if_neg q, e]
      exact ⟨by omega, by omega, by omega, by decide, by decide, by decide⟩
  · have e : ((xcap 4 (Int.toNat 4) : Nat) : Int) = 40 := by decide
    rw [e] at hc ⊢
    by_cases q : n = 40
    · omega
    · rw [if_neg q, e]
      exact ⟨by omega, by omega, by omega, by decide, by decide, by decide⟩
theorem grow_R {j : Nat} (hj : j < 5) {n g : Int} (hg : 0 ≤ g ∧ g ≤ gmR j) (hn : n < mxR j) (hc : n ≤ (xcap j g.toNat : Int)) : (0 ≤ (if n = (xcap j g.toNat : Int) then g + 1 else g) ∧ (if n = (xcap j g.toNat : Int) then g + 1 else g) ≤ gmR j) ∧ n + 1 ≤ (xcap j (if n = (xcap j g.toNat : Int) then g + 1 else g).toNat : Int) ∧ g ≤ (if n = (xcap j g.toNat : Int) then g + 1 else g) ∧ 0 < xcap j g.toNat ∧ al_N (xcap j g.toNat) ≤ 100 := by
  rcases (show j = 0 ∨ j = 1 ∨ j = 2 ∨ j = 3 ∨ j = 4 by omega) with rfl | rfl | rfl | rfl | rfl
  · obtain ⟨a, b, c, d, e, f⟩ := grow_0 hg hn hc
    exact ⟨a, b, c, e, f⟩
  · obtain ⟨a, b, c, d, e, f⟩ := grow_1 hg hn hc
    exact ⟨a, b, c, e, f⟩
  · obtain ⟨a, b, c, d, e, f⟩ := grow_2 hg hn hc
    exact ⟨a, b, c, e, f⟩
  · obtain ⟨a, b, c, d, e, f⟩ := grow_3 hg hn hc
    exact ⟨a, b, c, e, f⟩
  · obtain ⟨a, b, c, d, e, f⟩ := grow_4 hg hn hc
    exact ⟨a, b, c, e, f⟩
theorem lsR.bkc {r : MS} {j : Nat} (hj : j < 5) (h : lsR r j) (hn : r.1 (30 + j) < mxR j) : bkc j r ∧ bkm j r ∧ al_N (xcap j (r.1 (50 + j)).toNat) ≤ 100 := by
  have hr := (h.rok hj).1
  obtain ⟨h1, h2, h3, h4, h5, h6⟩ := h
  obtain ⟨a, b, c, d, e⟩ := grow_R hj h3 hn h6
  have hm : mxR j ≤ 36 := by rcases (show j = 0 ∨ j = 1 ∨ j = 2 ∨ j = 3 ∨ j = 4 by omega) with rfl | rfl | rfl | rfl | rfl <;> decide
  exact ⟨⟨⟨h2.1, h3.1⟩, hr, d, by omega, by omega⟩, h1, e⟩
/-- a list with one more, the others as they are -/
theorem lsR_add {r r' : MS} {j : Nat} (hj : j < 5) (h1 : r'.1 = yi j r) (hn : r.1 (30 + j) < mxR j) (h : ∀ i, i < 5 → lsR r i) : ∀ i, i < 5 → lsR r' i := by
  intro i hi
  have hh := h i hi
  by_cases e : i = j
  · subst e
    obtain ⟨g1, g2, g3, g4, g5, g6⟩ := hh
    obtain ⟨a, b, c, d, f⟩ := grow_R hi g3 hn g6
    have e30 : r'.1 (30 + i) = r.1 (30 + i) + 1 := by rw [h1]; exact if_pos rfl
    have e40 : r'.1 (40 + i) = r.1 (40 + i) + 1 := by
      rw [h1]; unfold yi; rw [if_neg (by omega), if_pos rfl]
    have e70 : r'.1 (70 + i) = r.1 (70 + i) + 1 := by
      rw [h1]; unfold yi; rw [if_neg (by omega), if_neg (by omega), if_pos rfl]
    have e50 : r'.1 (50 + i) = (if r.1 (30 + i) = (xcap i (r.1 (50 + i)).toNat : Int) then r.1 (50 + i) + 1 else r.1 (50 + i)) := by
      rw [h1]; unfold yi; rw [if_neg (by omega), if_neg (by omega), if_neg (by omega), if_pos rfl]
    have e60 : r'.1 (60 + i) = r.1 (60 + i) := by
      rw [h1]; unfold yi; rw [if_neg (by omega), if_neg (by omega), if_neg (by omega), if_neg (by omega)]
    unfold lsR
    rw [e30, e40, e50, e60, e70]
    exact ⟨by omega, by omega, a, by omega, by omega, b⟩
  · have eo : ∀ x, x = 30 ∨ x = 40 ∨ x = 50 ∨ x = 60 ∨ x = 70 → r'.1 (x + i) = r.1 (x + i) := fun x hx => by
      rw [h1]; unfold yi
      rcases hx with rfl | rfl | rfl | rfl | rfl <;> rw [if_neg (by omega), if_neg (by omega), if_neg (by omega), if_neg (by omega)]
    unfold lsR at hh ⊢
    rw [eo 30 (by decide), eo 40 (by decide), eo 50 (by decide), eo 60 (by decide), eo 70 (by decide)]
    exact hh
theorem yi_o {r : MS} {j k : Nat} (h : k ≠ 30 + j ∧ k ≠ 40 + j ∧ k ≠ 50 + j ∧ k ≠ 70 + j) : yi j r k = r.1 k := by
  unfold yi
  rw [if_neg h.1, if_neg h.2.1, if_neg h.2.2.2, if_neg h.2.2.1]
/-- the order's growths and numbers stay good -/
theorem bkv_o {r r' : MS} (h : bkv r) (h1 : r'.1 54 = r.1 54) (h2 : r'.1 34 = r.1 34) (h3 : r'.2 44 = r.2 44) : bkv r' := by
  unfold bkv rinc at h ⊢
  rw [h1, h2, h3]; exact h
theorem bkv_4 {r : MS} {v : Int} (h : bkv r) (hl : lsR r 4) (hn : r.1 34 < 36) (hv : -128 ≤ v ∧ v < 128) : bkv (yf4 r v) := by
  obtain ⟨h1, h2⟩ := h
  obtain ⟨g1, g2, g3, g4, g5, g6⟩ := hl
  have g3 : 0 ≤ r.1 54 ∧ r.1 54 ≤ 4 := g3
  have e34 : (yf4 r v).1 34 = r.1 34 + 1 := rfl
  have e54 : (yf4 r v).1 54 = (if r.1 34 = (xcap 4 (r.1 54).toNat : Int) then r.1 54 + 1 else r.1 54) := rfl
  refine ⟨fun k hk => ?_, fun x x0 x1 => ?_⟩
  · rw [e34]
    rw [e54] at hk
    by_cases q : r.1 34 = (xcap 4 (r.1 54).toNat : Int)
    · rw [if_pos q] at hk
      by_cases q2 : (k : Int) < r.1 54
      · have := h1 k q2; omega
      · rw [show k = (r.1 54).toNat by omega]; omega
    · rw [if_neg q] at hk
      have := h1 k hk; omega
  · rw [e34] at x1
    show -128 ≤ iup (r.2 44) (r.1 34) v x ∧ iup (r.2 44) (r.1 34) v x < 128
    by_cases q : x = r.1 34
    · rw [q, iup_at]; exact hv
    · rw [iup_ne q]; exact h2 x x0 (by omega)
/-- a function is read -/
theorem BR_fun {r m : MS} {w v : Int} (h : BR r m) (hn : r.1 30 < 8) (hw : nameL w (fun k => m.2 25 (6 * r.1 30 + k))) (hv : 0 ≤ v ∧ v ≤ 3) : BR (yf0 r w v) (ms (ma m 7 (8 + m.1 20) v) 20 (m.1 20 + 1)) := by
  have hf := h.fun
  have hb := h
  obtain ⟨⟨c1, c2, c3, c4, c5, c6⟩, h2, h3, h4, h5, h6⟩ := h
  refine ⟨⟨?_, c2, c3, c4, c5, c6⟩, lsR_add (j := 0) (by decide) rfl hn h2, bkv_o h3 rfl rfl rfl, fun f f0 f1 => ?_, h5, ?_⟩
  · show r.1 30 + 1 = m.1 20 + 1
    omega
  · have f1 : f < r.1 30 + 1 := f1
    show nameL (iup (r.2 30) (r.1 30) w f) (fun k => m.2 25 (6 * f + k)) ∧ iup (r.2 31) (r.1 30) v f = iup (m.2 7) (8 + m.1 20) v (8 + f) ∧ 0 ≤ iup (r.2 31) (r.1 30) v f ∧ iup (r.2 31) (r.1 30) v f ≤ 3
    by_cases e : f = r.1 30
    · rw [e, iup_at, iup_at, ← c1, iup_at]
      exact ⟨hw, rfl, hv⟩
    · rw [iup_ne e, iup_ne e, iup_ne (by omega)]
      exact h4 f f0 (by omega)
  · refine RW_congr (r := r) (m := m) (r' := yf0 r w v) (m' := ms (ma m 7 (8 + m.1 20) v) 20 (m.1 20 + 1)) (N := r.1 31) (S := r.1 32) (D := r.1 33) (R := (m.1 24).toNat) (show r.1 30 ≤ r.1 30 + 1 by omega) (fun f f0 f1 => ?_) (fun t t0 t1 => ⟨rfl, rfl, ?_⟩) (fun t _ _ => ⟨rfl, rfl⟩) (fun t _ _ => ⟨rfl, rfl⟩) (fun t _ _ => rfl) (fun _ _ _ => rfl) (fun _ _ _ => rfl) (fun f f0 f1 => (h4 f f0 f1).2.2.2) _ _ _ _ (Nat.le_refl _) (Int.le_refl _) (Int.le_refl _) (Int.le_refl _) h6
    · show iup (r.2 31) (r.1 30) v f = r.2 31 f
      rw [iup_ne (by omega)]
    · show (if 100 + t.toNat = 30 then _ else if 100 + t.toNat = 31 then _ else r.2 (100 + t.toNat)) = r.2 (100 + t.toNat)
      rw [if_neg (by omega), if_neg (by omega)]
theorem lxR_o {t : Int → Int} {r m r' m' : MS} (h : lxR t r m) (h1 : ∀ k, k = 0 ∨ k = 2 ∨ k = 3 ∨ k = 4 ∨ k = 5 ∨ k = 6 → r'.1 k = r.1 k) (h2 : ∀ k, 14 ≤ k → k ≤ 17 → m'.1 k = m.1 k) : lxR t r' m' := by
  unfold lxR at h ⊢
  rw [h1 0 (by decide), h1 2 (by decide), h1 3 (by decide), h1 4 (by decide), h1 5 (by decide), h1 6 (by decide), h2 14 (by decide) (by decide), h2 15 (by decide) (by decide), h2 16 (by decide) (by decide), h2 17 (by decide) (by decide)]
  exact h
theorem x8_fresh {tp : Int → Int} {r m : MS} {v w : Int} {K : Int → MS → Prop} {KX : Int → Int → Prop} (h : RD tp r m) (hn : isNm (m.2 4) r) (hv : isFirst (fun k => r.2 30 k = r.1 6) (r.1 30) v) (hw : isFirst (fun k => r.2 32 k = r.1 6) (r.1 31) w) (h1 : v ≠ -1 → KX 3 (r.1 3)) (h2 : v = -1 → w ≠ -1 → KX 3 (r.1 3)) (h3 : v = -1 → w = -1 → C_X8_go tp r (fun s => K (r.1 6) s)) : C_X8_fresh tp r K KX := by
  unfold C_X8_fresh B_X8_fresh_E
  exact x8_needName h.1 h.2.1.2.2 h.pos (fun _ => x2_f h hv ⟨fun q => x2_t h hw ⟨fun q2 => h3 q q2, fun q2 => h2 q q2⟩, fun q => h1 q⟩) (fun q => absurd hn q)
theorem x8_fresh_no {tp : Int → Int} {r m : MS} {K : Int → MS → Prop} {KX : Int → Int → Prop} (h : RD tp r m) (hn : ¬ isNm (m.2 4) r) (h1 : KX 1 (r.1 3)) : C_X8_fresh tp r K KX := by
  unfold C_X8_fresh B_X8_fresh_E
  exact x8_needName h.1 h.2.1.2.2 h.pos (fun q => absurd q hn) (fun _ => h1)
theorem x8_fun {tp : Int → Int} {r m : MS} {v : Int} {K : Int → MS → Prop} {KX : Int → Int → Prop} (h : RD tp r m) (hn : isNm (m.2 4) r) (hv : isFirst (fun k => r.2 30 k = r.1 6) (r.1 30) v) (h1 : v = -1 → KX 3 (r.1 3)) (h3 : v ≠ -1 → C_X8_go tp r (fun s => K v s)) : C_X8_function tp r K KX := by
  unfold C_X8_function B_X8_function_E
  exact x8_needName h.1 h.2.1.2.2 h.pos (fun _ => x2_f h hv ⟨h1, h3⟩) (fun q => absurd hn q)
theorem x8_fun_no {tp : Int → Int} {r m : MS} {K : Int → MS → Prop} {KX : Int → Int → Prop} (h : RD tp r m) (hn : ¬ isNm (m.2 4) r) (h1 : KX 1 (r.1 3)) : C_X8_function tp r K KX := by
  unfold C_X8_function B_X8_function_E
  exact x8_needName h.1 h.2.1.2.2 h.pos (fun q => absurd q hn) (fun _ => h1)
theorem x8_term {tp : Int → Int} {r m : MS} {v : Int} {K : Int → MS → Prop} {KX : Int → Int → Prop} (h : RD tp r m) (hn : isNm (m.2 4) r) (hv : isFirst (fun k => r.2 32 k = r.1 6) (r.1 31) v) (h1 : v = -1 → KX 3 (r.1 3)) (h3 : v ≠ -1 → C_X8_go tp r (fun s => K v s)) : C_X8_term tp r K KX := by
  unfold C_X8_term B_X8_term_E
  exact x8_needName h.1 h.2.1.2.2 h.pos (fun _ => x2_t h hv ⟨h1, h3⟩) (fun q => absurd hn q)
theorem x8_term_no {tp : Int → Int} {r m : MS} {K : Int → MS → Prop} {KX : Int → Int → Prop} (h : RD tp r m) (hn : ¬ isNm (m.2 4) r) (h1 : KX 1 (r.1 3)) : C_X8_term tp r K KX := by
  unfold C_X8_term B_X8_term_E
  exact x8_needName h.1 h.2.1.2.2 h.pos (fun q => absurd q hn) (fun _ => h1)
theorem nameL_congr {w : Int} {l l' : Int → Int} (he : ∀ k, 0 ≤ k → k < 6 → l' k = l k) (h : nameL w l) : nameL w l' := by
  obtain ⟨n, n6, n0, n1, n2, n3⟩ := h
  refine ⟨n, n6, n0, fun k k0 k1 => by rw [he k k0 (by omega)]; exact n1 k k0 k1, fun k k0 k1 => by rw [he k (by omega) k1]; exact n2 k k0 k1, ?_⟩
  rw [n3]
  have L : ∀ x : Nat, x ≤ 6 → pkN l x = pkN l' x := by
    intro x
    induction x with
    | zero => exact fun _ => rfl
    | succ x ih =>
      intro hx
      show pkN l x * 256 + l (x : Int) = pkN l' x * 256 + l' (x : Int)
      rw [ih (by omega), he x (by omega) (by omega)]
  exact L n n6
/-- what a line adds -/
def sumR (r : MS) : Int := r.1 30 + r.1 31 + r.1 32 + r.1 33
def QL (tp : Int → Int) (r : MS) : MS → MS → Prop := fun r' m' => RD tp r' m' ∧ sumR r' = sumR r + 1
theorem line_fun {tp : Int → Int} {r m : MS} {kc ks : Nat} (h : RD tp r m) (hc : 20 ≤ kc) (hs : 300 ≤ ks) : OutL m (fun K KX => (2 ≤ ((kc - 1) - 1) ∧ 16 ≤ ((ks - 8) - 8)) → C_X8_begin_0 8 tp r (fun s183 => ((2 ≤ ((kc - 1) - 1) ∧ 16 ≤ ((ks - 8) - 8)) ∧ (C_X8_fresh tp s183 (fun r187 s188 => (((s188.1 4) = 3 → ((1 ≤ (((kc - 1) - 1) - 2) ∧ 8 ≤ (((ks - 8) - 8) - 16)) ∧ ((3 < (s188.1 5) → ((1 ≤ ((((kc - 1) - 1) - 2) - 1) ∧ 8 ≤ ((((ks - 8) - 8) - 16) - 8)) ∧ KX 2 (s188.1 3))) ∧ (¬ 3 < (s188.1 5) → ((1 ≤ ((((kc - 1) - 1) - 2) - 1) ∧ 8 ≤ ((((ks - 8) - 8) - 16) - 8)) ∧ ((s188.1 40 = s188.1 30 ∧ 1 ≤ (((((kc - 1) - 1) - 2) - 1) - 1) ∧ 2 ≤ (((((ks - 8) - 8) - 16) - 8) - 8)) ∧ ((s188.1 40 = s188.1 30) ∧ (((bkc 0 s188 ∧ bkm 0 s188) ∧ 1 ≤ ((((((kc - 1) - 1) - 2) - 1) - 1) - 1) ∧ al_N (xcap 0 (s188.1 50).toNat) ≤ ((((((ks - 8) - 8) - 16) - 8) - 8) - 2)) ∧ ∀ s201 : MS, s201 = yf0 s188 r187 (s188.1 5) → (C_X8_go tp s201 (fun s204 => K s204)))))))))) ∧ (¬ (s188.1 4) = 3 → ((1 ≤ (((kc - 1) - 1) - 2) ∧ 8 ≤ (((ks - 8) - 8) - 16)) ∧ KX 1 (s188.1 3))))) KX))) KX) (fun K => C_readFun m K) (QL tp r) := by
  have hf := h.2.2.2.fun
  have e20 := h.2.2.2.1.1
  by_cases hfull : r.1 30 = 8
  · exact OutL.bad frR.rf h.pm (by decide) (fun K KX hk _ => ⟨fun _ => hk, fun q => absurd (by omega) q⟩) (fun K hk => ⟨fun _ => c_errs ⟨Or.inl rfl, hk⟩, fun q => absurd (by omega) q⟩)
  obtain ⟨r1, m1, u1, v1, f1, g1, h1⟩ := h.go
  have x30 : r1.1 30 = r.1 30 := f1.1 30 (by decide) (by decide) (by decide) (by decide) (by decide)
  refine OutL.step (S1 := fun K KX => _) (M1 := fun K => _) (fun K KX q _ => ⟨fun q2 => absurd q2 (by omega), fun _ => u1 _ ⟨⟨by omega, by omega⟩, q⟩⟩) (fun K q => ⟨fun q2 => absurd q2 (by omega), fun _ => v1 _ q⟩) (OutL.fr g1.r ?_)
  by_cases hnm : isNm (m1.2 4) r1
  · obtain ⟨v, hv1, hv2⟩ := h1.fv hnm.1
    obtain ⟨w, hw1, hw2⟩ := h1.tv hnm.1
    by_cases ev : v = -1
    · by_cases ew : w = -1
      · subst ev ew
        have hnl := h1.nl hnm.1
        have hB := h1.2.2.2
        have e1 : m1.1 20 = r1.1 30 := hB.1.1.symm
        -- the name is kept
        have h1' : RD tp r1 (maR m1 25 (fun i => if 6 * m1.1 20 ≤ i ∧ i < 6 * m1.1 20 + 6 then letA (m1.2 4) (m1.1 14) (m1.1 15) (i - 6 * m1.1 20) else m1.2 25 i)) := ⟨h1.1, h1.2.1, lxR_o h1.2.2.1 (fun _ _ => rfl) (fun _ _ _ => rfl), hB.m (fun _ _ _ => rfl) (fun _ _ _ => rfl) (fun k k0 k1 => if_neg (by omega)) (fun _ _ _ => rfl) (fun _ _ _ => rfl) (fun _ _ _ => rfl)⟩
        have fk : frR m1 (maR m1 25 (fun i => if 6 * m1.1 20 ≤ i ∧ i < 6 * m1.1 20 + 6 then letA (m1.2 4) (m1.1 14) (m1.1 15) (i - 6 * m1.1 20) else m1.2 25 i)) := ⟨fun _ _ => rfl, fun k a b c d e => if_neg e, fun _ _ => rfl, fun _ _ => rfl, fun _ _ => rfl, fun _ _ => rfl⟩
        obtain ⟨r2, m2, u2, v2, f2, g2, h2⟩ := h1'.go
        have hpl := h1.pl
        refine OutL.step (S1 := fun K KX => _) (M1 := fun K => _) (fun K KX q => x8_fresh h1 hnm hv1 hw1 (fun q2 => absurd rfl q2) (fun _ q2 => absurd rfl q2) (fun _ _ => u2 _ q)) (fun K q => c_isName h1.2.1.2.2 h1.2.2.1 (fun _ => ⟨fun q => absurd q (by decide), fun _ => c_f h1 hv2 ⟨fun _ => c_t h1 hw2 ⟨fun _ => ⟨inI_s (by omega), c_keeps rfl ⟨by omega, by show 6 * m1.1 20 + 6 ≤ 48; omega⟩ (by omega) hpl (by decide) (v2 _ q)⟩, fun q => absurd rfl q⟩, fun q => absurd rfl q⟩⟩) (fun q => absurd hnm q)) (OutL.fr (fk.tr g2.r) ?_)
        have y30 : r2.1 30 = r1.1 30 := f2.1 30 (by decide) (by decide) (by decide) (by decide) (by decide)
        have hB2 := h2.2.2.2
        have e2 : m2.1 20 = r2.1 30 := hB2.1.1.symm
        have hk3 : m2.1 16 = 3 ↔ r2.1 4 = 3 := by
          obtain ⟨-, -, hk⟩ := h2.2.2.1
          rcases hk with k | k | k | k | k
          · omega
          · omega
          · omega
          · omega
          · have := k.2.2; unfold isSg at this; omega
        by_cases e3 : r2.1 4 = 3
        · have hval : r2.1 5 = m2.1 17 ∧ 0 ≤ r2.1 5 ∧ r2.1 5 ≤ 9 := by
            obtain ⟨-, -, hk⟩ := h2.2.2.1
            rcases hk with k | k | k | k | k
            · omega
            · omega
            · omega
            · exact k.2.2
            · omega
          by_cases e4 : r2.1 5 ≤ 3
          · have hB3 := BR_fun (w := r1.1 6) (v := r2.1 5) hB2 (by omega) (by
              rw [g2.2, y30, ← e1]
              have : (fun k => (maR m1 25 (fun i => if 6 * m1.1 20 ≤ i ∧ i < 6 * m1.1 20 + 6 then letA (m1.2 4) (m1.1 14) (m1.1 15) (i - 6 * m1.1 20) else m1.2 25 i)).2 25 (6 * m1.1 20 + k)) = (fun k => if 0 ≤ k ∧ k < 6 then letA (m1.2 4) (m1.1 14) (m1.1 15) k else m1.2 25 (6 * m1.1 20 + k)) := by
                funext k
                show (if 6 * m1.1 20 ≤ 6 * m1.1 20 + k ∧ 6 * m1.1 20 + k < 6 * m1.1 20 + 6 then letA (m1.2 4) (m1.1 14) (m1.1 15) (6 * m1.1 20 + k - 6 * m1.1 20) else m1.2 25 (6 * m1.1 20 + k)) = _
                rw [show 6 * m1.1 20 + k - 6 * m1.1 20 = k by omega]
                by_cases q : 0 ≤ k ∧ k < 6
                · rw [if_pos q, if_pos (by omega)]
                · rw [if_neg q, if_neg (by omega)]
              rw [this]
              exact nameL_congr (fun k k0 k1 => if_pos ⟨k0, k1⟩) hnl) ⟨hval.2.1, e4⟩
            have h3 : RD tp (yf0 r2 (r1.1 6) (r2.1 5)) (ms (ma m2 7 (8 + m2.1 20) (r2.1 5)) 20 (m2.1 20 + 1)) := ⟨h2.1, h2.2.1, lxR_o h2.2.2.1 (fun k hk => yi_o (by omega)) (fun k k0 k1 => if_neg (by omega)), hB3⟩
            obtain ⟨r4, m4, u4, v4, f4, g4, h4⟩ := h3.go
            have fk3 : frR m2 (ms (ma m2 7 (8 + m2.1 20) (r2.1 5)) 20 (m2.1 20 + 1)) := ⟨fun j q => if_neg (by omega), fun k a b c d e => if_neg a, fun i hi => by show iup (m2.2 7) _ _ i = _; rw [iup_ne (by omega)], fun _ _ => rfl, fun _ _ => rfl, fun _ _ => rfl⟩
            have hls := (hB2.2.1 0 (by decide)).bkc (by decide) (show r2.1 30 < 8 by omega)
            refine OutL.good (r := r4) (m := m4) (fun K KX q => ⟨fun _ => ⟨⟨by omega, by omega⟩, fun q2 => absurd q2 (by omega), fun _ => ⟨⟨by omega, by omega⟩, ⟨hls.2.1, by omega, by omega⟩, hls.2.1, ⟨⟨hls.1, hls.2.1⟩, by omega, by have := hls.2.2; show al_N (xcap 0 (r2.1 50).toNat) ≤ _; have h50 : al_N (xcap 0 (r2.1 50).toNat) ≤ 100 := this; omega⟩, ?_⟩⟩, fun q2 => absurd e3 q2⟩) (fun K q => ⟨fun _ => ⟨fun _ => ⟨inI_s (by omega), ⟨by omega, by omega⟩, ?_⟩, fun q2 => absurd (by omega) q2⟩, fun q2 => absurd (hk3.mpr e3) q2⟩) ⟨h4, ?_⟩ (fk3.tr g4.r)
            · rintro _ rfl
              exact u4 _ q
            · rintro _ rfl
              refine ⟨inI_s (by show -1000000 ≤ m2.1 20 + 1 ∧ m2.1 20 + 1 ≤ 1000000; omega), ?_⟩
              rintro _ rfl
              rw [← hval.1]
              exact v4 _ q
            · have z : ∀ k, 30 ≤ k → r4.1 k = (yf0 r2 (r1.1 6) (r2.1 5)).1 k := fun k hk => f4.1 k (by omega) (by omega) (by omega) (by omega) (by omega)
              have z1 : ∀ k, 30 ≤ k → r2.1 k = r.1 k := fun k hk => (f2.1 k (by omega) (by omega) (by omega) (by omega) (by omega)).trans (f1.1 k (by omega) (by omega) (by omega) (by omega) (by omega))
              unfold sumR
              rw [z 30 (by decide), z 31 (by decide), z 32 (by decide), z 33 (by decide), ← z1 30 (by decide), ← z1 31 (by decide), ← z1 32 (by decide), ← z1 33 (by decide)]
              show r2.1 30 + 1 + r2.1 31 + r2.1 32 + r2.1 33 = r2.1 30 + r2.1 31 + r2.1 32 + r2.1 33 + 1
              omega
          · exact OutL.bad frR.rf h2.pm (by decide) (fun K KX hk => ⟨fun _ => ⟨⟨by omega, by omega⟩, fun _ => ⟨⟨by omega, by omega⟩, hk⟩, fun q => absurd (by omega) q⟩, fun q => absurd e3 q⟩) (fun K hk => ⟨fun _ => ⟨fun q => absurd q (by omega), fun _ => c_errs ⟨Or.inl rfl, hk⟩⟩, fun q => absurd (hk3.mpr e3) q⟩)
        · exact OutL.bad frR.rf h2.pm (by decide) (fun K KX hk => ⟨fun q => absurd q e3, fun _ => ⟨⟨by omega, by omega⟩, hk⟩⟩) (fun K hk => ⟨fun q => absurd (hk3.mp q) e3, fun _ => c_errs ⟨Or.inl rfl, hk⟩⟩)
      · subst ev
        exact OutL.bad frR.rf h1.pm (by decide) (fun K KX hk => x8_fresh h1 hnm hv1 hw1 (fun q2 => absurd rfl q2) (fun _ _ => hk) (fun _ q => absurd q ew)) (fun K hk => c_isName h1.2.1.2.2 h1.2.2.1 (fun _ => ⟨fun q => absurd q (by decide), fun _ => c_f h1 hv2 ⟨fun _ => c_t h1 hw2 ⟨fun q => absurd q ew, fun _ => c_errs ⟨Or.inl rfl, hk⟩⟩, fun q => absurd rfl q⟩⟩) (fun q => absurd hnm q))
    · exact OutL.bad frR.rf h1.pm (by decide) (fun K KX hk => x8_fresh h1 hnm hv1 (isFirst_ex (P := fun k => r1.2 32 k = r1.1 6) h1.2.2.2.term.1).choose_spec (fun _ => hk) (fun q => absurd q ev) (fun q => absurd q ev)) (fun K hk => c_isName h1.2.1.2.2 h1.2.2.1 (fun _ => ⟨fun q => absurd q (by decide), fun _ => c_f h1 hv2 ⟨fun q => absurd q ev, fun _ => c_errs ⟨Or.inl rfl, hk⟩⟩⟩) (fun q => absurd hnm q))
  · exact OutL.bad frR.rf h1.pm (by decide) (fun K KX hk => x8_fresh_no h1 hnm hk) (fun K hk => c_isName h1.2.1.2.2 h1.2.2.1 (fun q => absurd q hnm) (fun _ => ⟨fun _ => c_errs ⟨Or.inl rfl, hk⟩, fun q => absurd rfl q⟩))
