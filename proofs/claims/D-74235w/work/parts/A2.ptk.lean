/-! THE PURE PART, 39: texts: words, names, signs -/
set_option maxRecDepth 100000
theorem x8_isSign {tp : Int → Int} {r m : MS} {c : Int} {K : Int → Prop} (hc : isSg c) (ht : tpR tp (m.2 4)) (h5 : r.1 0 ≤ 500) (h : lxR (m.2 4) r m) (h1 : m.1 16 = c → K 1) (h0 : m.1 16 ≠ c → K 0) : C_X8_isSign c tp r K := by
  obtain ⟨⟨e1, e2, e3, e4, e5⟩, hp, hk⟩ := h
  refine ⟨fun e => x8_byteAt ht h5 e3 ?_, fun e => h0 ?_⟩
  · have := hp (by omega)
    rw [if_pos (by omega)]
    have e16 : m.1 16 = m.2 4 (r.1 3) := by
      rcases hk with k | k | k | k | k
      · omega
      · omega
      · omega
      · omega
      · exact k.2.1
    rw [← e16]
    exact ⟨h1, h0⟩
  · unfold isSg at hc
    rcases hk with k | k | k | k | k <;> omega
theorem c_len {i : Nat} {K : Int → Prop} (hi : i < 5) (h : K ((e_len.getD i 0 : Nat) : Int)) : C_length i K := ⟨hi, x_len hi h⟩
/-- a letter of a word of the own ones -/
def wL (i : Nat) (k : Int) : Int := ((e_byt.getD i []).getD k.toNat 0).toInt
theorem wL_and : ∀ i : Nat, i < 4 → ∀ k : Nat, k < e_len.getD i 0 → jand (((e_byt.getD i []).getD k 0).toInt) 255 = ((e_byt.getD i []).getD k 0).toInt ∧ 0 ≤ ((e_byt.getD i []).getD k 0).toInt ∧ ((e_byt.getD i []).getD k 0).toInt < 65536 := by decide +kernel
theorem x_charAt {i : Nat} {k : Int} {K : Int → Prop} (hi : i < 4) (k0 : 0 ≤ k) (k1 : k < ((e_len.getD i 0 : Nat) : Int)) (h : K (wL i k)) : C_J3_charAt i k K := by
  obtain ⟨a1, a2, a3⟩ := wL_and i hi k.toNat (by omega)
  have hw : wL i k = ((e_byt.getD i []).getD k.toNat 0).toInt := rfl
  refine ⟨by omega, by omega, fun q => absurd q (by decide), fun _ => ⟨by omega, ⟨by omega, fun z => ⟨fun q => by omega, fun _ => ⟨fun _ => ⟨⟨by omega, k0, k1⟩, ?_⟩, fun q => absurd k1 q⟩⟩⟩⟩⟩
  rw [a1]
  exact ⟨⟨a2, a3⟩, ⟨a2, a3⟩, ⟨a2, a3⟩, h⟩
/-- a word of the own ones stands here -/
def isW (t : Int → Int) (r : MS) (i : Nat) : Prop := r.1 4 = 2 ∧ r.1 2 - r.1 3 = ((e_len.getD i 0 : Nat) : Int) ∧ ∀ k, 0 ≤ k → k < ((e_len.getD i 0 : Nat) : Int) → t (r.1 3 + k) = wL i k
theorem x8_is {tp t : Int → Int} {r : MS} {i : Nat} {K : Int → Prop} (hi : i < 4) (ht : tpR tp t) (h5 : r.1 0 ≤ 500) (hr : 0 ≤ r.1 3 ∧ r.1 3 ≤ r.1 2 ∧ r.1 2 ≤ r.1 0) (h1 : isW t r i → K 1) (h0 : ¬ isW t r i → K 0) : C_X8_is i tp r K := by
  intro X hX
  have hl : ((e_len.getD i 0 : Nat) : Int) ≤ 4 := by rcases (show i = 0 ∨ i = 1 ∨ i = 2 ∨ i = 3 by omega) with rfl | rfl | rfl | rfl <;> decide
  refine ⟨fun e => ⟨inI_s (by omega), by omega, x_len (by omega) ⟨fun e2 => ?_, fun e2 => h0 (fun q => e2 q.2.1)⟩⟩, fun e => h0 (fun q => e q.1)⟩
  have L : ∀ k, 0 ≤ k → k ≤ ((e_len.getD i 0 : Nat) : Int) → (∀ j, 0 ≤ j → j < k → t (r.1 3 + j) = wL i j) → X i k := by
    refine upto (fun k k0 k1 ih hp => hX _ _ ⟨by omega, x_len (by omega) ⟨fun q => h1 ⟨e, e2, fun j j0 j1 => hp j j0 (by omega)⟩, fun q => ⟨inI_s (by omega), x8_byteAt ht h5 (by omega) ?_⟩⟩⟩)
    rw [if_pos (by omega)]
    refine ⟨by omega, x_charAt hi k0 (by omega) ⟨fun q2 => ⟨inI_s (by omega), ih (by omega) (fun j j0 j1 => ?_)⟩, fun q2 => h0 (fun q3 => q2 (q3.2.2 k k0 (by omega)))⟩⟩
    by_cases ej : j = k
    · rw [ej]; exact q2
    · exact hp j j0 (by omega)
  exact L 0 (by omega) (by omega) (fun j j0 j1 => by omega)
theorem c_isWord {r m : MS} {i : Nat} {K : Int → MS → Prop} (hi : i < 4) (h5 : r.1 0 ≤ 500) (h : lxR (m.2 4) r m) (h1 : isW (m.2 4) r i → K 1 m) (h0 : ¬ isW (m.2 4) r i → K 0 m) : C_isWord i m K := by
  intro X hX
  obtain ⟨⟨e1, e2, e3, e4, e5⟩, hp, hk⟩ := h
  have hl : ((e_len.getD i 0 : Nat) : Int) ≤ 4 := by rcases (show i = 0 ∨ i = 1 ∨ i = 2 ∨ i = 3 by omega) with rfl | rfl | rfl | rfl <;> decide
  have h24 : m.1 16 = 2 ↔ r.1 4 = 2 := by
    rcases hk with k | k | k | k | k
    · omega
    · omega
    · omega
    · omega
    · have := k.2.2
      unfold isSg at this
      omega
  refine ⟨fun e => ⟨inI_s (by omega), c_len (by omega) ⟨fun e2' => ?_, fun e2' => h0 (fun q => e2' (by have := q.2.1; omega))⟩⟩, fun e => h0 (fun q => e (h24.mpr q.1))⟩
  have L : ∀ k, 0 ≤ k → k ≤ ((e_len.getD i 0 : Nat) : Int) → (∀ j, 0 ≤ j → j < k → m.2 4 (r.1 3 + j) = wL i j) → X i k m := by
    refine upto (fun k k0 k1 ih hp => hX _ _ _ (c_len (by omega) ⟨fun q => h1 ⟨h24.mp e, by omega, fun j j0 j1 => hp j j0 (by omega)⟩, fun q => ⟨inI_s (by omega), ⟨by omega, by omega⟩, ⟨by omega, x_charAt hi k0 (by omega) ?_⟩⟩⟩))
    rw [← e2]
    refine ⟨fun q2 => ⟨inI_s (by omega), ih (by omega) (fun j j0 j1 => ?_)⟩, fun q2 => h0 (fun q3 => q2 (q3.2.2 k k0 (by omega)))⟩
    by_cases ej : j = k
    · rw [ej]; exact q2
    · exact hp j j0 (by omega)
  exact L 0 (by omega) (by omega) (fun j j0 j1 => by omega)
theorem x8_isAny {tp t : Int → Int} {r : MS} {K : Int → Prop} (ht : tpR tp t) (h5 : r.1 0 ≤ 500) (hr : 0 ≤ r.1 3 ∧ r.1 3 ≤ r.1 2 ∧ r.1 2 ≤ r.1 0) (h1 : ∀ i, i < 4 → isW t r i → K 1) (h0 : (∀ i, i < 4 → ¬ isW t r i) → K 0) : C_X8_isAny tp r K := by
  intro X hX
  have L : ∀ k, 0 ≤ k → k ≤ 4 → (∀ i : Nat, (i : Int) < k → ¬ isW t r i) → X 4 k := by
    refine upto (fun k k0 k1 ih hp => hX _ _ ⟨fun e => h0 (fun i hi => hp i (by omega)), fun e => ⟨⟨k0, by omega⟩, x8_is (by omega) ht h5 hr (fun q => ⟨fun q2 => absurd q2 (by decide), fun _ => h1 k.toNat (by omega) q⟩) (fun q => ⟨fun _ => ⟨inI_s (by omega), ih (by omega) (fun i hi => ?_)⟩, fun q2 => absurd rfl q2⟩)⟩⟩)
    by_cases ei : (i : Int) = k
    · rw [show i = k.toNat by omega]; exact q
    · exact hp i (by omega)
  exact L 0 (by omega) (by omega) (fun i hi => by omega)
/-- a name stands here -/
def isNm (t : Int → Int) (r : MS) : Prop := r.1 4 = 2 ∧ ∀ i, i < 4 → ¬ isW t r i
theorem c_isName {r m : MS} {K : Int → MS → Prop} (h5 : r.1 0 ≤ 500) (h : lxR (m.2 4) r m) (h1 : isNm (m.2 4) r → K 1 m) (h0 : ¬ isNm (m.2 4) r → K 0 m) : C_isName m K := by
  have h24 : m.1 16 = 2 ↔ r.1 4 = 2 := by
    obtain ⟨-, -, hk⟩ := h
    rcases hk with k | k | k | k | k
    · omega
    · omega
    · omega
    · omega
    · have := k.2.2
      unfold isSg at this
      omega
  have no : ∀ i, i < 4 → isW (m.2 4) r i → K 0 m := fun i hi hw => h0 (fun q => q.2 i hi hw)
  refine ⟨fun e => c_isWord (by decide) h5 h (fun w => ⟨fun q => absurd q (by decide), fun _ => no 0 (by decide) w⟩) (fun w0 => ⟨fun _ => c_isWord (by decide) h5 h (fun w => ⟨fun q => absurd q (by decide), fun _ => no 1 (by decide) w⟩) (fun w1 => ⟨fun _ => c_isWord (by decide) h5 h (fun w => ⟨fun q => absurd q (by decide), fun _ => no 2 (by decide) w⟩) (fun w2 => ⟨fun _ => c_isWord (by decide) h5 h (fun w => ⟨fun q => absurd q (by decide), fun _ => no 3 (by decide) w⟩) (fun w3 => ⟨fun _ => h1 ⟨h24.mp e, fun i hi => ?_⟩, fun q => absurd rfl q⟩), fun q => absurd rfl q⟩), fun q => absurd rfl q⟩), fun q => absurd rfl q⟩), fun e => h0 (fun q => e (h24.mpr q.1))⟩
  rcases (show i = 0 ∨ i = 1 ∨ i = 2 ∨ i = 3 by omega) with rfl | rfl | rfl | rfl
  · exact w0
  · exact w1
  · exact w2
  · exact w3
theorem x8_needName {tp t : Int → Int} {r : MS} {K : MS → Prop} {KX : Int → Int → Prop} (ht : tpR tp t) (h5 : r.1 0 ≤ 500) (hr : 0 ≤ r.1 3 ∧ r.1 3 ≤ r.1 2 ∧ r.1 2 ≤ r.1 0) (h1 : isNm t r → K r) (h0 : ¬ isNm t r → KX 1 (r.1 3)) : C_X8_needName tp r K KX :=
  ⟨fun e => x8_isAny ht h5 hr (fun i hi hw => ⟨fun q => absurd q (by decide), fun _ => h0 (fun q => q.2 i hi hw)⟩) (fun hw => ⟨fun _ => h1 ⟨e, hw⟩, fun q => absurd rfl q⟩), fun e => h0 (fun q => e q.1)⟩
/-- letters of a place, then none -/
def letA (t : Int → Int) (a b : Int) : Int → Int := fun k => if a + k < b then t (a + k) else 0
/-- a name kept is what stands at a place -/
def atP (m : MS) (j : Nat) (b a e : Int) : Prop := (∀ k, 0 ≤ k → k < 6 → m.2 j (b + k) = letA (m.2 4) a e k ∧ (a + k < e → m.2 4 (a + k) ≠ 0)) ∧ e - a ≤ 6
theorem c_isAt {m : MS} {j : Nat} {b a e : Int} {K : Int → MS → Prop} (hj : mK j = 1) (hb : 0 ≤ b ∧ b + 6 ≤ (mL j : Int)) (hb2 : b ≤ 100000) (ha : 0 ≤ a) (he : e ≤ 500) (ha2 : a ≤ 500) (he2 : 0 ≤ e) (h1 : atP m j b a e → K 1 m) (h0 : ¬ atP m j b a e → K 0 m) : C_isAt j b a e m K := by
  intro X hX
  have L : ∀ k, 0 ≤ k → k ≤ 6 → ∀ x : Int, (x = 0 → ∃ i, 0 ≤ i ∧ i < 6 ∧ ¬ (m.2 j (b + i) = letA (m.2 4) a e i ∧ (a + i < e → m.2 4 (a + i) ≠ 0))) → (x ≠ 0 → ∀ i, 0 ≤ i → i < k → m.2 j (b + i) = letA (m.2 4) a e i ∧ (a + i < e → m.2 4 (a + i) ≠ 0)) → X j b a e x k m := by
    refine upto (P := fun k => ∀ x : Int, (x = 0 → ∃ i, 0 ≤ i ∧ i < 6 ∧ ¬ (m.2 j (b + i) = letA (m.2 4) a e i ∧ (a + i < e → m.2 4 (a + i) ≠ 0))) → (x ≠ 0 → ∀ i, 0 ≤ i → i < k → m.2 j (b + i) = letA (m.2 4) a e i ∧ (a + i < e → m.2 4 (a + i) ≠ 0)) → X j b a e x k m) (fun k k0 k1 ih x hx0 hx1 => hX _ _ _ _ _ _ _ ⟨fun q => ⟨fun q0 => h0 (fun q2 => ?_), fun q0 => ⟨inI_s (by omega), fun q3 => h0 (fun q2 => by have := q2.2; omega), fun q3 => h1 ⟨fun i i0 i1 => hx1 q0 i i0 (by omega), by omega⟩⟩⟩, fun q => ⟨fun q0 => ⟨inI_s (by omega), ih (by omega) 0 (fun _ => hx0 q0) (fun q => absurd rfl q)⟩, fun q0 => ?_⟩⟩)
    · obtain ⟨i, i0, i1, i2⟩ := hx0 q0
      exact i2 (q2.1 i i0 i1)
    · have yes : (m.2 j (b + k) = letA (m.2 4) a e k ∧ (a + k < e → m.2 4 (a + k) ≠ 0)) → inI (k + 1) ∧ X j b a e 1 (k + 1) m := fun hy => ⟨inI_s (by omega), ih (by omega) 1 (fun q => absurd q (by decide)) (fun _ i i0 i1 => by
        by_cases ei : i = k
        · rw [ei]; exact hy
        · exact hx1 q0 i i0 (by omega))⟩
      have no : ¬ (m.2 j (b + k) = letA (m.2 4) a e k ∧ (a + k < e → m.2 4 (a + k) ≠ 0)) → inI (k + 1) ∧ X j b a e 0 (k + 1) m := fun hn => ⟨inI_s (by omega), ih (by omega) 0 (fun _ => ⟨k, k0, by omega, hn⟩) (fun q => absurd rfl q)⟩
      refine ⟨inI_s (by omega), ⟨hj, by omega, by omega⟩, inI_s (by omega), fun q1 => ⟨fun q2 => ⟨inI_s (by omega), fun _ => yes ⟨?_, fun q => by omega⟩, fun q => absurd q1 q⟩, fun q2 => no (fun q3 => q2 ?_)⟩, fun q1 => ⟨inI_s (by omega), ⟨by omega, by omega⟩, fun q2 => ⟨inI_s (by omega), fun q => absurd q q1, fun _ => ⟨inI_s (by omega), ⟨by omega, by omega⟩, fun q3 => no (fun q4 => q4.2 (by omega) q3), fun q3 => yes ⟨?_, fun _ => q3⟩⟩⟩, fun q2 => no (fun q3 => q2 ?_)⟩⟩
      · unfold letA; rw [if_neg (by omega)]; exact q2
      · have := q3.1; unfold letA at this; rw [if_neg (by omega)] at this; exact this
      · unfold letA; rw [if_pos (by omega)]; exact q2
      · have := q3.1; unfold letA at this; rw [if_pos (by omega)] at this; exact this
  exact L 0 (by omega) (by omega) 1 (fun q => absurd q (by decide)) (fun _ i i0 i1 => by omega)
/-- names as numbers are names -/
theorem pkN_inj {l l' : Int → Int} : ∀ (n n' : Nat), (∀ k, 0 ≤ k → k < (n : Int) → 97 ≤ l k ∧ l k ≤ 122) → (∀ k, 0 ≤ k → k < (n' : Int) → 97 ≤ l' k ∧ l' k ≤ 122) → pkN l n = pkN l' n' → n = n' ∧ ∀ k, 0 ≤ k → k < (n : Int) → l k = l' k := by
  intro n
  induction n with
  | zero =>
    intro n' _ h' e
    cases n' with
    | zero => exact ⟨rfl, fun k k0 k1 => by omega⟩
    | succ n' =>
      have e : 0 = pkN l' n' * 256 + l' (n' : Int) := e
      have h1 := h' n' (by omega) (by omega)
      have h2 := (pkN_b (l := l') n' (fun k k0 k1 => by have := h' k k0 (by omega); omega)).1
      omega
  | succ n ih =>
    intro n' h h' e
    cases n' with
    | zero =>
      have e : pkN l n * 256 + l (n : Int) = 0 := e
      have h1 := h n (by omega) (by omega)
      have h2 := (pkN_b (l := l) n (fun k k0 k1 => by have := h k k0 (by omega); omega)).1
      omega
    | succ n' =>
      have e : pkN l n * 256 + l (n : Int) = pkN l' n' * 256 + l' (n' : Int) := e
      have h1 := h n (by omega) (by omega)
      have h1' := h' n' (by omega) (by omega)
      obtain ⟨e1, e2⟩ := ih n' (fun k k0 k1 => h k k0 (by omega)) (fun k k0 k1 => h' k k0 (by omega)) (by omega)
      subst e1
      refine ⟨rfl, fun k k0 k1 => ?_⟩
      by_cases ek : k = n
      · rw [ek]; omega
      · exact e2 k k0 (by omega)
/-- the word here, as a name -/
def isWd (t : Int → Int) (a e : Int) (w : Int) : Prop := (a < e ∧ e - a ≤ 6) ∧ (∀ i, a ≤ i → i < e → isLet (t i)) ∧ w = pkN (fun k => t (a + k)) (e - a).toNat
/-- a kept name is the word here by both, or by none -/
theorem name_eq {m : MS} {j : Nat} {b a e w w' : Int} (hn : nameL w' (fun k => m.2 j (b + k))) (hw : isWd (m.2 4) a e w) : atP m j b a e ↔ w' = w := by
  obtain ⟨n, n6, n0, n1, n2, n3⟩ := hn
  have n1 : ∀ k, 0 ≤ k → k < (n : Int) → 97 ≤ m.2 j (b + k) ∧ m.2 j (b + k) ≤ 122 := n1
  have n2 : ∀ k, (n : Int) ≤ k → k < 6 → m.2 j (b + k) = 0 := n2
  obtain ⟨⟨w0, w1⟩, w2, w3⟩ := hw
  have hl : ∀ k, 0 ≤ k → k < ((e - a).toNat : Int) → 97 ≤ m.2 4 (a + k) ∧ m.2 4 (a + k) ≤ 122 := fun k k0 k1 => w2 (a + k) (by omega) (by omega)
  constructor
  · rintro ⟨h1, h2⟩
    have hnn : n = (e - a).toNat := by
      by_cases q : n < (e - a).toNat
      · have := (h1 n (by omega) (by omega)).1
        rw [n2 n (by omega) (by omega)] at this
        unfold letA at this
        rw [if_pos (by omega)] at this
        have := hl n (by omega) (by omega)
        omega
      · by_cases q2 : (e - a).toNat < n
        · have h3 := (h1 (e - a) (by omega) (by omega)).1
          have h4 := n1 (e - a) (by omega) (by omega)
          unfold letA at h3
          rw [if_neg (by omega)] at h3
          omega
        · omega
    rw [n3, w3, hnn]
    have L : ∀ x : Nat, x ≤ (e - a).toNat → pkN (fun k => m.2 j (b + k)) x = pkN (fun k => m.2 4 (a + k)) x := by
      intro x
      induction x with
      | zero => exact fun _ => rfl
      | succ x ih =>
        intro hx
        show pkN _ x * 256 + m.2 j (b + (x : Int)) = pkN _ x * 256 + m.2 4 (a + (x : Int))
        have := (h1 x (by omega) (by omega)).1
        unfold letA at this
        rw [if_pos (by omega)] at this
        rw [ih (by omega), this]
    exact L _ (Nat.le_refl _)
  · intro h
    rw [n3, w3] at h
    obtain ⟨e1, e2⟩ := pkN_inj n (e - a).toNat n1 hl h
    refine ⟨fun k k0 k1 => ⟨?_, fun q => ?_⟩, w1⟩
    · unfold letA
      by_cases q : a + k < e
      · rw [if_pos q]; exact e2 k k0 (by omega)
      · rw [if_neg q]; exact n2 k (by omega) k1
    · have := hl k k0 (by omega)
      omega
/-- the first one with a name -/
def isFirst (P : Int → Prop) (n v : Int) : Prop := (v = -1 ∧ ∀ k, 0 ≤ k → k < n → ¬ P k) ∨ ((0 ≤ v ∧ v < n) ∧ P v ∧ ∀ k, 0 ≤ k → k < v → ¬ P k)
theorem isFirst_ex {P : Int → Prop} {n : Int} (h0 : 0 ≤ n) : ∃ v, isFirst P n v := by
  obtain ⟨q, ⟨q0, q1⟩, q2, q3⟩ := firstP (P := fun k => ¬ P k) (n := n) n.toNat 0 h0 (by omega)
  by_cases e : q = n
  · exact ⟨-1, Or.inl ⟨rfl, fun k k0 k1 => q2 k k0 (by omega)⟩⟩
  · refine ⟨q, Or.inr ⟨⟨q0, by omega⟩, ?_, q2⟩⟩
    rcases q3 with q3 | q3
    · exact absurd q3 e
    · exact Classical.byContradiction q3
theorem isFirst_iff {P Q : Int → Prop} {n v : Int} (h : ∀ k, 0 ≤ k → k < n → (P k ↔ Q k)) (hv : isFirst P n v) : isFirst Q n v := by
  rcases hv with ⟨e, h1⟩ | ⟨h1, h2, h3⟩
  · exact Or.inl ⟨e, fun k k0 k1 q => h1 k k0 k1 ((h k k0 k1).mpr q)⟩
  · exact Or.inr ⟨h1, (h v h1.1 h1.2).mp h2, fun k k0 k1 q => h3 k k0 k1 ((h k k0 (by omega)).mpr q)⟩
theorem x2_function {w v : Int} {r : MS} {K : Int → Prop} (hn : 0 ≤ r.1 30 ∧ r.1 30 ≤ 1000) (hk : rok r 0) (hm : r.1 30 ≤ r.1 40) (hv : isFirst (fun k => r.2 30 k = w) (r.1 30) v) (h : K v) : C_X2_function_R w r K := by
  intro X hX
  have L : ∀ k, 0 ≤ k → k ≤ r.1 30 → (∀ i, 0 ≤ i → i < k → r.2 30 i ≠ w) → X w k := by
    refine upto (fun k k0 k1 ih hp => hX _ _ ⟨fun e => ?_, fun e => ⟨⟨⟨k0, by omega⟩, hk⟩, ⟨k0, by omega⟩, ⟨k0, by omega⟩, fun q => ?_, fun q => ⟨inI_s (by omega), ih (by omega) (fun i i0 i1 => ?_)⟩⟩⟩)
    · rcases hv with ⟨e1, _⟩ | ⟨h1, h2, _⟩
      · rw [e1] at h; exact h
      · exact absurd h2 (hp v h1.1 (by omega))
    · rcases hv with ⟨_, h1⟩ | ⟨h1, h2, h3⟩
      · exact absurd q (h1 k k0 (by omega))
      · have : v = k := by
          by_cases q1 : v < k
          · exact absurd h2 (hp v h1.1 q1)
          · by_cases q2 : k < v
            · exact absurd q (h3 k k0 q2)
            · omega
        rw [this] at h; exact h
    · by_cases ei : i = k
      · rw [ei]; exact q
      · exact hp i i0 (by omega)
  exact L 0 (by omega) hn.1 (fun i i0 i1 => by omega)
theorem x2_term {w v : Int} {r : MS} {K : Int → Prop} (hn : 0 ≤ r.1 31 ∧ r.1 31 ≤ 1000) (hk : rok r 1) (hm : r.1 31 ≤ r.1 41) (hv : isFirst (fun k => r.2 32 k = w) (r.1 31) v) (h : K v) : C_X2_term_R w r K := by
  intro X hX
  have L : ∀ k, 0 ≤ k → k ≤ r.1 31 → (∀ i, 0 ≤ i → i < k → r.2 32 i ≠ w) → X w k := by
    refine upto (fun k k0 k1 ih hp => hX _ _ ⟨fun e => ?_, fun e => ⟨⟨⟨k0, by omega⟩, hk⟩, ⟨k0, by omega⟩, ⟨k0, by omega⟩, fun q => ?_, fun q => ⟨inI_s (by omega), ih (by omega) (fun i i0 i1 => ?_)⟩⟩⟩)
    · rcases hv with ⟨e1, _⟩ | ⟨h1, h2, _⟩
      · rw [e1] at h; exact h
      · exact absurd h2 (hp v h1.1 (by omega))
    · rcases hv with ⟨_, h1⟩ | ⟨h1, h2, h3⟩
      · exact absurd q (h1 k k0 (by omega))
      · have : v = k := by
          by_cases q1 : v < k
          · exact absurd h2 (hp v h1.1 q1)
          · by_cases q2 : k < v
            · exact absurd q (h3 k k0 q2)
            · omega
        rw [this] at h; exact h
    · by_cases ei : i = k
      · rw [ei]; exact q
      · exact hp i i0 (by omega)
  exact L 0 (by omega) hn.1 (fun i i0 i1 => by omega)
theorem c_funHere {m : MS} {v : Int} {K : Int → MS → Prop} (hn : 0 ≤ m.1 20 ∧ m.1 20 ≤ 8) (hp : 0 ≤ m.1 14 ∧ m.1 14 ≤ 500 ∧ 0 ≤ m.1 15 ∧ m.1 15 ≤ 500) (hv : isFirst (fun k => atP m 25 (6 * k) (m.1 14) (m.1 15)) (m.1 20) v) (h : K v m) : C_funHere m K := by
  intro X hX
  have L : ∀ k, 0 ≤ k → k ≤ m.1 20 → (∀ i, 0 ≤ i → i < k → ¬ atP m 25 (6 * i) (m.1 14) (m.1 15)) → X k m := by
    refine upto (fun k k0 k1 ih hpp => hX _ _ ⟨fun e => ?_, fun e => ⟨inI_s (by omega), c_isAt rfl ⟨by omega, by show 6 * k + 6 ≤ 48; omega⟩ (by omega) hp.1 hp.2.2.2 hp.2.1 hp.2.2.1 (fun q => ⟨fun q2 => absurd q2 (by decide), fun _ => ?_⟩) (fun q => ⟨fun _ => ⟨inI_s (by omega), ih (by omega) (fun i i0 i1 => ?_)⟩, fun q2 => absurd rfl q2⟩)⟩⟩)
    · rcases hv with ⟨e1, _⟩ | ⟨h1, h2, _⟩
      · rw [e1] at h; exact h
      · exact absurd h2 (hpp v h1.1 (by omega))
    · rcases hv with ⟨_, h1⟩ | ⟨h1, h2, h3⟩
      · exact absurd q (h1 k k0 (by omega))
      · have : v = k := by
          by_cases q1 : v < k
          · exact absurd h2 (hpp v h1.1 q1)
          · by_cases q2 : k < v
            · exact absurd q (h3 k k0 q2)
            · omega
        rw [this] at h; exact h
    · by_cases ei : i = k
      · rw [ei]; exact q
      · exact hpp i i0 (by omega)
  exact L 0 (by omega) hn.1 (fun i i0 i1 => by omega)
theorem c_termHere {m : MS} {v : Int} {K : Int → MS → Prop} (hn : 0 ≤ m.1 21 ∧ m.1 21 ≤ 24) (hp : 0 ≤ m.1 14 ∧ m.1 14 ≤ 500 ∧ 0 ≤ m.1 15 ∧ m.1 15 ≤ 500) (hv : isFirst (fun k => atP m 12 (6 * (24 + k)) (m.1 14) (m.1 15)) (m.1 21) v) (h : K v m) : C_termHere m K := by
  intro X hX
  have L : ∀ k, 0 ≤ k → k ≤ m.1 21 → (∀ i, 0 ≤ i → i < k → ¬ atP m 12 (6 * (24 + i)) (m.1 14) (m.1 15)) → X k m := by
    refine upto (fun k k0 k1 ih hpp => hX _ _ ⟨fun e => ?_, fun e => ⟨inI_s (by omega), inI_s (by omega), c_isAt rfl ⟨by omega, by show 6 * (24 + k) + 6 ≤ 288; omega⟩ (by omega) hp.1 hp.2.2.2 hp.2.1 hp.2.2.1 (fun q => ⟨fun q2 => absurd q2 (by decide), fun _ => ?_⟩) (fun q => ⟨fun _ => ⟨inI_s (by omega), ih (by omega) (fun i i0 i1 => ?_)⟩, fun q2 => absurd rfl q2⟩)⟩⟩)
    · rcases hv with ⟨e1, _⟩ | ⟨h1, h2, _⟩
      · rw [e1] at h; exact h
      · exact absurd h2 (hpp v h1.1 (by omega))
    · rcases hv with ⟨_, h1⟩ | ⟨h1, h2, h3⟩
      · exact absurd q (h1 k k0 (by omega))
      · have : v = k := by
          by_cases q1 : v < k
          · exact absurd h2 (hpp v h1.1 q1)
          · by_cases q2 : k < v
            · exact absurd q (h3 k k0 q2)
            · omega
        rw [this] at h; exact h
    · by_cases ei : i = k
      · rw [ei]; exact q
      · exact hpp i i0 (by omega)
  exact L 0 (by omega) hn.1 (fun i i0 i1 => by omega)
/-- a name is kept -/
theorem c_keeps {m : MS} {j : Nat} {b : Int} {K : MS → Prop} (hj : mK j = 1) (hb : 0 ≤ b ∧ b + 6 ≤ (mL j : Int)) (hb2 : b ≤ 100000) (hp : 0 ≤ m.1 14 ∧ m.1 14 ≤ 500 ∧ 0 ≤ m.1 15 ∧ m.1 15 ≤ 500) (h4 : j ≠ 4) (h : K (maR m j (fun i => if b ≤ i ∧ i < b + 6 then letA (m.2 4) (m.1 14) (m.1 15) (i - b) else m.2 j i))) : C_keeps j b m K := by
  intro X hX
  have L : ∀ k, 0 ≤ k → k ≤ 6 → X j b k (maR m j (fun i => if b ≤ i ∧ i < b + k then letA (m.2 4) (m.1 14) (m.1 15) (i - b) else m.2 j i)) := by
    refine upto (fun k k0 k1 ih => hX _ _ _ _ ⟨fun e => ?_, fun e => ?_⟩)
    · rw [show k = 6 by omega]; exact h
    · have step : ∀ v, v = letA (m.2 4) (m.1 14) (m.1 15) k → X j b (k + 1) (ma (maR m j (fun i => if b ≤ i ∧ i < b + k then letA (m.2 4) (m.1 14) (m.1 15) (i - b) else m.2 j i)) j (b + k) v) := by
        intro v hv
        rw [ma_maR]
        have e2 : iup (fun i => if b ≤ i ∧ i < b + k then letA (m.2 4) (m.1 14) (m.1 15) (i - b) else m.2 j i) (b + k) v = (fun i => if b ≤ i ∧ i < b + (k + 1) then letA (m.2 4) (m.1 14) (m.1 15) (i - b) else m.2 j i) := by
          funext i
          by_cases ei : i = b + k
          · rw [ei, iup_at, if_pos (by omega), hv, show b + k - b = k by omega]
          · rw [iup_ne ei]
            by_cases e3 : b ≤ i ∧ i < b + k
            · rw [if_pos e3, if_pos (by omega)]
            · rw [if_neg e3, if_neg (by omega)]
        rw [e2]
        exact ih (by omega)
      refine ⟨inI_s (by omega), inI_s (show -1000000 ≤ m.1 14 + k ∧ m.1 14 + k ≤ 1000000 by omega), fun q => ⟨⟨hj, by omega, by omega⟩, ?_⟩, fun q => ⟨inI_s (show -1000000 ≤ m.1 14 + k ∧ m.1 14 + k ≤ 1000000 by omega), ⟨show 0 ≤ m.1 14 + k by omega, ?_⟩, ⟨hj, by omega, by omega⟩, ?_⟩⟩
      · rintro _ rfl
        have q : m.1 15 ≤ m.1 14 + k := q
        exact ⟨inI_s (by omega), step 0 (by unfold letA; rw [if_neg (by omega)])⟩
      · have q : ¬ m.1 15 ≤ m.1 14 + k := q
        show m.1 14 + k < 500
        omega
      · rintro _ rfl
        have q : ¬ m.1 15 ≤ m.1 14 + k := q
        refine ⟨inI_s (by omega), step _ ?_⟩
        show (if 4 = j then _ else m.2 4) (m.1 14 + k) = _
        rw [if_neg (by omega)]
        unfold letA
        rw [if_pos (by omega)]
  have := L 0 (by omega) (by omega)
  have e0 : (fun i => if b ≤ i ∧ i < b + 0 then letA (m.2 4) (m.1 14) (m.1 15) (i - b) else m.2 j i) = m.2 j := funext fun i => if_neg (by omega)
  rw [e0, maR_id] at this
  exact this
