/-! THE PURE PART, 38: texts: one thing of a text, by both -/
set_option maxRecDepth 100000
theorem pkN_b {l : Int → Int} : ∀ n : Nat, (∀ k, 0 ≤ k → k < (n : Int) → 0 ≤ l k ∧ l k < 256) → 0 ≤ pkN l n ∧ pkN l n < 256 ^ n := by
  intro n
  induction n with
  | zero => exact fun _ => ⟨Int.le_refl _, by show (0 : Int) < 1; omega⟩
  | succ n ih =>
    intro h
    obtain ⟨h1, h2⟩ := ih (fun k k0 k1 => h k k0 (by omega))
    obtain ⟨h3, h4⟩ := h n (by omega) (by omega)
    show 0 ≤ pkN l n * 256 + l (n : Int) ∧ pkN l n * 256 + l (n : Int) < 256 ^ (n + 1)
    rw [Int.pow_succ]
    constructor <;> omega
theorem pkN_6 {l : Int → Int} {n : Nat} (hn : n < 6) (h : ∀ k, 0 ≤ k → k < (n : Int) → 0 ≤ l k ∧ l k < 256) : 0 ≤ pkN l n ∧ pkN l n < 281474976710656 := by
  obtain ⟨h1, h2⟩ := pkN_b n h
  refine ⟨h1, ?_⟩
  rcases (show n = 0 ∨ n = 1 ∨ n = 2 ∨ n = 3 ∨ n = 4 ∨ n = 5 by omega) with rfl | rfl | rfl | rfl | rfl | rfl
  · have : (256 : Int) ^ 0 = 1 := by decide
    omega
  · have : (256 : Int) ^ 1 = 256 := by decide
    omega
  · have : (256 : Int) ^ 2 = 65536 := by decide
    omega
  · have : (256 : Int) ^ 3 = 16777216 := by decide
    omega
  · have : (256 : Int) ^ 4 = 4294967296 := by decide
    omega
  · have : (256 : Int) ^ 5 = 1099511627776 := by decide
    omega
/-- what the readers change as they go -/
def fr8 (r r' : MS) : Prop := (∀ k, k ≠ 2 → k ≠ 3 → k ≠ 4 → k ≠ 5 → k ≠ 6 → r'.1 k = r.1 k) ∧ r'.2 = r.2
def frG (m m' : MS) : Prop := (∀ k, k ≠ 14 → k ≠ 15 → k ≠ 16 → k ≠ 17 → m'.1 k = m.1 k) ∧ m'.2 = m.2
theorem fr8.tr {r r1 r2 : MS} (h : fr8 r r1) (g : fr8 r1 r2) : fr8 r r2 := ⟨fun k a b c d e => (g.1 k a b c d e).trans (h.1 k a b c d e), g.2.trans h.2⟩
theorem frG.tr {r r1 r2 : MS} (h : frG r r1) (g : frG r1 r2) : frG r r2 := ⟨fun k a b c d => (g.1 k a b c d).trans (h.1 k a b c d), g.2.trans h.2⟩
theorem fr8_ms {r : MS} {k : Nat} {v : Int} (hk : k = 2 ∨ k = 3 ∨ k = 4 ∨ k = 5 ∨ k = 6) : fr8 r (ms r k v) := ⟨fun j a b c d e => if_neg (by omega), rfl⟩
theorem frG_ms {r : MS} {k : Nat} {v : Int} (hk : k = 14 ∨ k = 15 ∨ k = 16 ∨ k = 17) : frG r (ms r k v) := ⟨fun j a b c d => if_neg (by omega), rfl⟩
theorem x8_let {tp t : Int → Int} {q : Int} (ht : tpR tp t) : ∀ (d : Nat) (r : MS), r.1 0 ≤ 500 → 0 ≤ r.1 3 → r.1 3 ≤ r.1 2 → r.1 2 + d = q → q ≤ r.1 0 → (∀ i, r.1 3 ≤ i → i < q → isLet (t i)) → (q = r.1 0 ∨ ¬ isLet (t q)) → r.1 6 = pkN (fun k => t (r.1 3 + k)) (min (r.1 2 - r.1 3) 6).toNat →
    ∃ r', (∀ (K X0 X80 X191 : MS → Prop), (∀ s0, B_X8_go_80 X0 X80 X191 K tp s0 → X80 s0) → K r' → X80 r) ∧ fr8 r r' ∧ r'.1 2 = q ∧ r'.1 3 = r.1 3 ∧ r'.1 4 = (if q - r.1 3 ≤ 6 then 2 else 0) ∧ r'.1 6 = pkN (fun k => t (r.1 3 + k)) (min (q - r.1 3) 6).toNat := by
  intro d
  induction d with
  | zero =>
    intro r hn h0 h1 hq hqn hl hq2 hw
    have eq : r.1 2 = q := by omega
    have hfin : ∀ v, v = (if q - r.1 3 ≤ 6 then (2 : Int) else 0) → fr8 r (ms r 4 v) ∧ (ms r 4 v).1 2 = q ∧ (ms r 4 v).1 3 = r.1 3 ∧ (ms r 4 v).1 4 = (if q - r.1 3 ≤ 6 then 2 else 0) ∧ (ms r 4 v).1 6 = pkN (fun k => t (r.1 3 + k)) (min (q - r.1 3) 6).toNat := fun v hv => ⟨fr8_ms (by decide), eq, rfl, hv, by show r.1 6 = _; rw [hw, eq]⟩
    refine ⟨ms r 4 (if q - r.1 3 ≤ 6 then 2 else 0), fun K X0 X80 X191 hX hK => hX _ ?_, hfin _ rfl⟩
    refine x8_isLetter ht hn (by omega) (fun a b => ?_) (fun _ => ⟨fun _ => ⟨inI_s (by omega), fun e => ?_, fun e => ?_⟩, fun q => absurd rfl q⟩)
    · rcases hq2 with e | e
      · omega
      · rw [eq] at b; exact absurd b e
    · rintro _ rfl
      rw [if_pos (by omega)] at hK; exact hK
    · rintro _ rfl
      rw [if_neg (by omega)] at hK; exact hK
  | succ d ih =>
    intro r hn h0 h1 hq hqn hl hq2 hw
    have hlet := hl (r.1 2) h1 (by omega)
    have hb := ht.b (k := r.1 2) (by omega) (by omega)
    by_cases h6 : 6 ≤ r.1 2 - r.1 3
    · obtain ⟨r', g1, g2, g3, g4, g5, g6⟩ := ih (ms r 2 (r.1 2 + 1)) hn h0 (by show r.1 3 ≤ r.1 2 + 1; omega) (by show r.1 2 + 1 + (d : Int) = q; omega) hqn hl hq2 (by
        show r.1 6 = pkN (fun k => t (r.1 3 + k)) (min (r.1 2 + 1 - r.1 3) 6).toNat
        rw [hw, show min (r.1 2 - r.1 3) 6 = 6 by omega, show min (r.1 2 + 1 - r.1 3) 6 = 6 by omega])
      refine ⟨r', fun K X0 X80 X191 hX hK => hX _ ?_, (fr8_ms (by decide)).tr g2, g3, g4, g5, g6⟩
      refine x8_isLetter ht hn (by omega) (fun _ _ => ⟨fun q => absurd q (by decide), fun _ => ⟨inI_s (by omega), fun _ => ⟨inI_s (by omega), ?_⟩, fun q => absurd h6 q⟩⟩) (fun q => absurd ⟨by omega, hlet⟩ q)
      rintro _ rfl
      exact g1 K X0 X80 X191 hX hK
    · have hpk := pkN_6 (l := fun k => t (r.1 3 + k)) (n := (r.1 2 - r.1 3).toNat) (by omega) (fun k k0 k1 => ht.b (by omega) (by omega))
      have hw' : r.1 6 = pkN (fun k => t (r.1 3 + k)) (r.1 2 - r.1 3).toNat := by rw [hw, show min (r.1 2 - r.1 3) 6 = r.1 2 - r.1 3 by omega]
      have hj : jlor (jlshl (r.1 6) 8) (t (r.1 2)) = pkN (fun k => t (r.1 3 + k)) (r.1 2 + 1 - r.1 3).toNat := by
        rw [hw', jl_8 hpk hb, show (r.1 2 + 1 - r.1 3).toNat = (r.1 2 - r.1 3).toNat + 1 by omega]
        show _ = pkN (fun k => t (r.1 3 + k)) (r.1 2 - r.1 3).toNat * 256 + t (r.1 3 + ((r.1 2 - r.1 3).toNat : Int))
        rw [show r.1 3 + ((r.1 2 - r.1 3).toNat : Int) = r.1 2 by omega]
      obtain ⟨r', g1, g2, g3, g4, g5, g6⟩ := ih (ms (ms r 6 (jlor (jlshl (r.1 6) 8) (t (r.1 2)))) 2 (r.1 2 + 1)) hn h0 (by show r.1 3 ≤ r.1 2 + 1; omega) (by show r.1 2 + 1 + (d : Int) = q; omega) hqn hl hq2 (by
        show jlor (jlshl (r.1 6) 8) (t (r.1 2)) = pkN (fun k => t (r.1 3 + k)) (min (r.1 2 + 1 - r.1 3) 6).toNat
        rw [hj, show min (r.1 2 + 1 - r.1 3) 6 = r.1 2 + 1 - r.1 3 by omega])
      refine ⟨r', fun K X0 X80 X191 hX hK => hX _ ?_, (fr8_ms (k := 6) (by decide)).tr ((fr8_ms (k := 2) (by decide)).tr g2), g3, g4, g5, g6⟩
      refine x8_isLetter ht hn (by omega) (fun _ _ => ⟨fun q => absurd q (by decide), fun _ => ⟨inI_s (by omega), fun q => absurd q h6, fun _ => x8_byteAt ht hn (by omega) ?_⟩⟩) (fun q => absurd ⟨by omega, hlet⟩ q)
      rw [if_pos (by omega)]
      rintro _ rfl
      refine ⟨inI_s (show -1000000 ≤ r.1 2 + 1 ∧ r.1 2 + 1 ≤ 1000000 by omega), ?_⟩
      rintro _ rfl
      exact g1 K X0 X80 X191 hX hK
theorem c_let {q : Int} : ∀ (d : Nat) (m : MS), m.1 13 ≤ 500 → 0 ≤ m.1 14 → m.1 14 ≤ m.1 15 → m.1 15 + d = q → q ≤ m.1 13 → (∀ i, m.1 14 ≤ i → i < q → isLet (m.2 4 i)) → (q = m.1 13 ∨ ¬ isLet (m.2 4 q)) →
    ∃ m', (∀ (K X0 X65 X139 : MS → Prop), (∀ s0, B_goesOn_65 X0 X65 X139 K s0 → X65 s0) → K m' → X65 m) ∧ frG m m' ∧ m'.1 15 = q ∧ m'.1 14 = m.1 14 ∧ m'.1 16 = (if q - m.1 14 ≤ 6 then 2 else 1) := by
  intro d
  induction d with
  | zero =>
    intro m hn h0 h1 hq hqn hl hq2
    have eq : m.1 15 = q := by omega
    refine ⟨ms m 16 (if q - m.1 14 ≤ 6 then 2 else 1), fun K X0 X65 X139 hX hK => hX _ ?_, frG_ms (by decide), eq, rfl, rfl⟩
    refine c_see hn (by omega) (c_in (fun e => ?_) (fun _ => ⟨fun _ => ⟨inI_s (by omega), fun e => ?_, fun e => ?_⟩, fun q => absurd rfl q⟩))
    · rcases hq2 with e2 | e2
      · rw [if_neg (by omega)] at e; omega
      · by_cases e3 : m.1 15 < m.1 13
        · rw [if_pos e3, eq] at e; exact absurd e e2
        · rw [if_neg e3] at e; omega
    · rintro _ rfl
      rw [if_pos (by omega)] at hK; exact hK
    · rintro _ rfl
      rw [if_neg (by omega)] at hK; exact hK
  | succ d ih =>
    intro m hn h0 h1 hq hqn hl hq2
    have hlet := hl (m.1 15) h1 (by omega)
    obtain ⟨m', g1, g2, g3, g4, g5⟩ := ih (ms m 15 (m.1 15 + 1)) hn h0 (by show m.1 14 ≤ m.1 15 + 1; omega) (by show m.1 15 + 1 + (d : Int) = q; omega) hqn hl hq2
    refine ⟨m', fun K X0 X65 X139 hX hK => hX _ ?_, (frG_ms (by decide)).tr g2, g3, g4, g5⟩
    refine c_see hn (by omega) ?_
    rw [if_pos (by omega)]
    refine c_in (fun _ => ⟨fun q => absurd q (by decide), fun _ => ⟨inI_s (by omega), ?_⟩⟩) (fun e => absurd hlet e)
    rintro _ rfl
    exact g1 K X0 X65 X139 hX hK
theorem x8_dig {tp t : Int → Int} {q : Int} (ht : tpR tp t) : ∀ (d : Nat) (r : MS), r.1 0 ≤ 500 → 0 ≤ r.1 3 → r.1 3 ≤ r.1 2 → r.1 2 + d = q → q ≤ r.1 0 → (∀ i, r.1 3 ≤ i → i < q → isDig (t i)) → (q = r.1 0 ∨ ¬ isDig (t q)) →
    ∃ r', (∀ (K X0 X80 X191 : MS → Prop), (∀ s0, B_X8_go_191 X0 X80 X191 K tp s0 → X191 s0) → K r' → X191 r) ∧ fr8 r r' ∧ r'.1 2 = q ∧ r'.1 3 = r.1 3 ∧ r'.1 4 = (if q - r.1 3 ≤ 1 then 3 else 0) ∧ r'.1 5 = r.1 5 := by
  intro d
  induction d with
  | zero =>
    intro r hn h0 h1 hq hqn hl hq2
    have eq : r.1 2 = q := by omega
    refine ⟨ms r 4 (if q - r.1 3 ≤ 1 then 3 else 0), fun K X0 X80 X191 hX hK => hX _ ?_, fr8_ms (by decide), eq, rfl, rfl, rfl⟩
    refine x8_isDigit ht hn (by omega) (fun a b => ?_) (fun _ => ⟨fun _ => ⟨inI_s (by omega), fun e => ?_, fun e => ?_⟩, fun q => absurd rfl q⟩)
    · rcases hq2 with e | e
      · omega
      · rw [eq] at b; exact absurd b e
    · rintro _ rfl
      rw [if_pos (by omega)] at hK; exact hK
    · rintro _ rfl
      rw [if_neg (by omega)] at hK; exact hK
  | succ d ih =>
    intro r hn h0 h1 hq hqn hl hq2
    have hdig := hl (r.1 2) h1 (by omega)
    obtain ⟨r', g1, g2, g3, g4, g5, g6⟩ := ih (ms r 2 (r.1 2 + 1)) hn h0 (by show r.1 3 ≤ r.1 2 + 1; omega) (by show r.1 2 + 1 + (d : Int) = q; omega) hqn hl hq2
    refine ⟨r', fun K X0 X80 X191 hX hK => hX _ ?_, (fr8_ms (by decide)).tr g2, g3, g4, g5, g6⟩
    refine x8_isDigit ht hn (by omega) (fun _ _ => ⟨fun q => absurd q (by decide), fun _ => ⟨inI_s (by omega), ?_⟩⟩) (fun q => absurd ⟨by omega, hdig⟩ q)
    rintro _ rfl
    exact g1 K X0 X80 X191 hX hK
theorem c_dig {q : Int} : ∀ (d : Nat) (m : MS), m.1 13 ≤ 500 → 0 ≤ m.1 14 → m.1 14 ≤ m.1 15 → m.1 15 + d = q → q ≤ m.1 13 → (∀ i, m.1 14 ≤ i → i < q → isDig (m.2 4 i)) → (q = m.1 13 ∨ ¬ isDig (m.2 4 q)) →
    ∃ m', (∀ (K X0 X65 X139 : MS → Prop), (∀ s0, B_goesOn_139 X0 X65 X139 K s0 → X139 s0) → K m' → X139 m) ∧ frG m m' ∧ m'.1 15 = q ∧ m'.1 14 = m.1 14 ∧ m'.1 16 = (if q - m.1 14 ≤ 1 then 3 else 1) ∧ m'.1 17 = m.1 17 := by
  intro d
  induction d with
  | zero =>
    intro m hn h0 h1 hq hqn hl hq2
    have eq : m.1 15 = q := by omega
    refine ⟨ms m 16 (if q - m.1 14 ≤ 1 then 3 else 1), fun K X0 X65 X139 hX hK => hX _ ?_, frG_ms (by decide), eq, rfl, rfl, rfl⟩
    refine c_see hn (by omega) (c_in (fun e => ?_) (fun _ => ⟨fun _ => ⟨inI_s (by omega), fun e => ?_, fun e => ?_⟩, fun q => absurd rfl q⟩))
    · rcases hq2 with e2 | e2
      · rw [if_neg (by omega)] at e; omega
      · by_cases e3 : m.1 15 < m.1 13
        · rw [if_pos e3, eq] at e; exact absurd e e2
        · rw [if_neg e3] at e; omega
    · rintro _ rfl
      rw [if_pos (by omega)] at hK; exact hK
    · rintro _ rfl
      rw [if_neg (by omega)] at hK; exact hK
  | succ d ih =>
    intro m hn h0 h1 hq hqn hl hq2
    have hdig := hl (m.1 15) h1 (by omega)
    obtain ⟨m', g1, g2, g3, g4, g5, g6⟩ := ih (ms m 15 (m.1 15 + 1)) hn h0 (by show m.1 14 ≤ m.1 15 + 1; omega) (by show m.1 15 + 1 + (d : Int) = q; omega) hqn hl hq2
    refine ⟨m', fun K X0 X65 X139 hX hK => hX _ ?_, (frG_ms (by decide)).tr g2, g3, g4, g5, g6⟩
    refine c_see hn (by omega) ?_
    rw [if_pos (by omega)]
    refine c_in (fun _ => ⟨fun q => absurd q (by decide), fun _ => ⟨inI_s (by omega), ?_⟩⟩) (fun e => absurd hdig e)
    rintro _ rfl
    exact g1 K X0 X65 X139 hX hK
/-- which signs there are -/
def isSg (c : Int) : Prop := c = 59 ∨ c = 44 ∨ c = 61 ∨ c = 40 ∨ c = 41
theorem sg_bytes : ((e_byt.getD 4 []).getD 0 0).toInt = 59 ∧ ((e_byt.getD 4 []).getD 1 0).toInt = 44 ∧ ((e_byt.getD 4 []).getD 2 0).toInt = 61 ∧ ((e_byt.getD 4 []).getD 3 0).toInt = 40 ∧ ((e_byt.getD 4 []).getD 4 0).toInt = 41 := by decide
theorem jb_256 : ∀ x : Nat, x < 256 → jb (x : Int) = if (x : Int) < 128 then (x : Int) else (x : Int) - 256 := by decide +kernel
theorem jb_c {c : Int} (h0 : 0 ≤ c ∧ c < 256) : jb c = if c < 128 then c else c - 256 := by
  have := jb_256 c.toNat (by omega)
  rw [show ((c.toNat : Nat) : Int) = c by omega] at this
  exact this
theorem x_len {i : Nat} {K : Int → Prop} (hi : i < 5) (h : K ((e_len.getD i 0 : Nat) : Int)) : C_J3_length i K := by
  refine ⟨hi, hi, hi, hi, ?_⟩
  have : ∀ i : Nat, i < 5 → jshr ((e_len.getD i 0 : Nat) : Int) 0 = ((e_len.getD i 0 : Nat) : Int) := by decide +kernel
  show K (jshr ((e_len.getD i 0 : Nat) : Int) 0)
  rw [this i hi]
  exact h
theorem x_indexOf {c : Int} {K : Int → Prop} (h0 : 0 ≤ c ∧ c < 256) (h1 : isSg c → ∀ i, 0 ≤ i → K i) (h2 : ¬ isSg c → K (-1)) : 4 < 5 ∧ C_J3_indexOf 4 c K := by
  refine ⟨by decide, by decide, by decide, ⟨by decide, fun q => absurd q (by decide), fun _ => ⟨by decide, by decide, x_len (by decide) ?_⟩⟩⟩
  refine ⟨fun q => absurd q (by omega), fun _ => ⟨fun q => absurd q (by omega), fun _ => ⟨fun q => absurd q (by decide), fun _ => ⟨by decide, fun _ => ?_, fun q => absurd (by decide) q⟩⟩⟩⟩
  intro X hX
  obtain ⟨b0, b1, b2, b3, b4⟩ := sg_bytes
  have hj := jb_c h0
  have e1 : jmin ((e_len.getD 4 0 : Nat) : Int) ((e_len.getD 4 0 : Nat) : Int) = 5 := by decide
  have e2 : jmax 0 0 = 0 := by decide
  unfold B_J4_indexOfChar_E
  rw [e1, e2]
  have hne : ∀ x, x < 128 → (x = jb c ↔ x = c ∨ (¬ c < 128 ∧ x = c - 256)) := fun x hx => by
    rw [hj]; split <;> omega
  have m0 : 0 ≤ c := h0.1
  refine hX _ _ _ _ ⟨fun q => absurd q (by decide), fun _ => ⟨⟨by decide, by decide, by decide⟩, fun q => ?_, fun q0 => ⟨inI_s (by decide), hX _ _ _ _ ⟨fun q => absurd q (by decide), fun _ => ⟨⟨by decide, by decide, by decide⟩, fun q => ?_, fun q1 => ⟨inI_s (by decide), hX _ _ _ _ ⟨fun q => absurd q (by decide), fun _ => ⟨⟨by decide, by decide, by decide⟩, fun q => ?_, fun q2 => ⟨inI_s (by decide), hX _ _ _ _ ⟨fun q => absurd q (by decide), fun _ => ⟨⟨by decide, by decide, by decide⟩, fun q => ?_, fun q3 => ⟨inI_s (by decide), hX _ _ _ _ ⟨fun q => absurd q (by decide), fun _ => ⟨⟨by decide, by decide, by decide⟩, fun q => ?_, fun q4 => ⟨inI_s (by decide), hX _ _ _ _ ⟨fun _ => h2 ?_, fun q => absurd (by decide) q⟩⟩⟩⟩⟩⟩⟩⟩⟩⟩⟩⟩⟩⟩⟩⟩
  · have q : ((e_byt.getD 4 []).getD 0 0).toInt = jb c := q
    rw [b0, hj] at q
    exact h1 (Or.inl (by split at q <;> omega)) _ (by decide)
  · have q : ((e_byt.getD 4 []).getD 1 0).toInt = jb c := q
    rw [b1, hj] at q
    exact h1 (Or.inr (Or.inl (by split at q <;> omega))) _ (by decide)
  · have q : ((e_byt.getD 4 []).getD 2 0).toInt = jb c := q
    rw [b2, hj] at q
    exact h1 (Or.inr (Or.inr (Or.inl (by split at q <;> omega)))) _ (by decide)
  · have q : ((e_byt.getD 4 []).getD 3 0).toInt = jb c := q
    rw [b3, hj] at q
    exact h1 (Or.inr (Or.inr (Or.inr (Or.inl (by split at q <;> omega))))) _ (by decide)
  · have q : ((e_byt.getD 4 []).getD 4 0).toInt = jb c := q
    rw [b4, hj] at q
    exact h1 (Or.inr (Or.inr (Or.inr (Or.inr (by split at q <;> omega))))) _ (by decide)
  · have q0 : ¬ ((e_byt.getD 4 []).getD 0 0).toInt = jb c := q0
    have q1 : ¬ ((e_byt.getD 4 []).getD 1 0).toInt = jb c := q1
    have q2 : ¬ ((e_byt.getD 4 []).getD 2 0).toInt = jb c := q2
    have q3 : ¬ ((e_byt.getD 4 []).getD 3 0).toInt = jb c := q3
    have q4 : ¬ ((e_byt.getD 4 []).getD 4 0).toInt = jb c := q4
    rw [b0] at q0
    rw [b1] at q1
    rw [b2] at q2
    rw [b3] at q3
    rw [b4] at q4
    intro hs
    have hc : jb c = c := by rw [hj, if_pos (by rcases hs with h | h | h | h | h <;> omega)]
    rw [hc] at q0 q1 q2 q3 q4
    rcases hs with h | h | h | h | h
    · exact q0 h.symm
    · exact q1 h.symm
    · exact q2 h.symm
    · exact q3 h.symm
    · exact q4 h.symm
/-- both have read the same thing -/
def lxR (t : Int → Int) (r m : MS) : Prop :=
  (r.1 2 = m.1 15 ∧ r.1 3 = m.1 14 ∧ (0 ≤ r.1 3 ∧ r.1 3 ≤ r.1 2 ∧ r.1 2 ≤ r.1 0)) ∧ (r.1 4 ≠ 1 → r.1 3 < r.1 2) ∧
  ((r.1 4 = 1 ∧ m.1 16 = 0) ∨ (r.1 4 = 0 ∧ m.1 16 = 1) ∨
   (r.1 4 = 2 ∧ m.1 16 = 2 ∧ r.1 2 - r.1 3 ≤ 6 ∧ (∀ i, r.1 3 ≤ i → i < r.1 2 → isLet (t i)) ∧ r.1 6 = pkN (fun k => t (r.1 3 + k)) (r.1 2 - r.1 3).toNat) ∨
   (r.1 4 = 3 ∧ m.1 16 = 3 ∧ r.1 5 = m.1 17 ∧ 0 ≤ r.1 5 ∧ r.1 5 ≤ 9) ∨
   (r.1 4 = 4 ∧ m.1 16 = t (r.1 3) ∧ isSg (t (r.1 3))))
/-- blanks are passed -/
theorem x8_skip {tp t : Int → Int} {p : Int} (ht : tpR tp t) : ∀ (d : Nat) (r : MS), r.1 0 ≤ 500 → 0 ≤ r.1 2 → r.1 2 + d = p → p ≤ r.1 0 → (∀ i, r.1 2 ≤ i → i < p → t i = 32) → ∃ r0, ((∀ k, k ≠ 2 → r0.1 k = r.1 k) ∧ r0.1 2 = p ∧ r0.2 = r.2) ∧ ∀ (K X0 X80 X191 : MS → Prop), (∀ s0, B_X8_go_0 X0 X80 X191 K tp s0 → X0 s0) → B_X8_go_0 X0 X80 X191 K tp r0 → B_X8_go_0 X0 X80 X191 K tp r := by
  intro d
  induction d with
  | zero => exact fun r hn h0 h1 hp hb => ⟨r, ⟨fun _ _ => rfl, by omega, rfl⟩, fun K X0 X80 X191 _ h => h⟩
  | succ d ih =>
    intro r hn h0 h1 hp hb
    obtain ⟨r0, ⟨g1, g2, g3⟩, g4⟩ := ih (ms r 2 (r.1 2 + 1)) hn (by show 0 ≤ r.1 2 + 1; omega) (by show r.1 2 + 1 + (d : Int) = p; omega) hp (fun i i0 i1 => hb i (by have i0 : r.1 2 + 1 ≤ i := i0; omega) i1)
    refine ⟨r0, ⟨fun k hk => (g1 k hk).trans (ms_n hk), g2, g3⟩, fun K X0 X80 X191 hX h => ⟨fun q => by omega, fun _ => x8_byteAt ht hn h0 ?_⟩⟩
    rw [if_pos (by omega), hb (r.1 2) (Int.le_refl _) (by omega)]
    refine ⟨fun _ => ⟨inI_s (by omega), ?_⟩, fun q => absurd rfl q⟩
    rintro _ rfl
    exact hX _ (g4 K X0 X80 X191 hX h)
theorem c_skip {p : Int} : ∀ (d : Nat) (m : MS), m.1 13 ≤ 500 → 0 ≤ m.1 15 → m.1 15 + d = p → p ≤ m.1 13 → (∀ i, m.1 15 ≤ i → i < p → m.2 4 i = 32) → ∃ m0, ((∀ k, k ≠ 15 → m0.1 k = m.1 k) ∧ m0.1 15 = p ∧ m0.2 = m.2) ∧ ∀ (K X0 X65 X139 : MS → Prop), (∀ s0, B_goesOn_0 X0 X65 X139 K s0 → X0 s0) → B_goesOn_0 X0 X65 X139 K m0 → B_goesOn_0 X0 X65 X139 K m := by
  intro d
  induction d with
  | zero => exact fun r hn h0 h1 hp hb => ⟨r, ⟨fun _ _ => rfl, by omega, rfl⟩, fun K X0 X80 X191 _ h => h⟩
  | succ d ih =>
    intro m hn h0 h1 hp hb
    obtain ⟨r0, ⟨g1, g2, g3⟩, g4⟩ := ih (ms m 15 (m.1 15 + 1)) hn (by show 0 ≤ m.1 15 + 1; omega) (by show m.1 15 + 1 + (d : Int) = p; omega) hp (fun i i0 i1 => hb i (by have i0 : m.1 15 + 1 ≤ i := i0; omega) i1)
    refine ⟨r0, ⟨fun k hk => (g1 k hk).trans (ms_n hk), g2, g3⟩, fun K X0 X65 X139 hX h => c_see hn h0 ?_⟩
    rw [if_pos (by omega), hb (m.1 15) (Int.le_refl _) (by omega)]
    refine ⟨fun _ => ⟨inI_s (by omega), ?_⟩, fun q => absurd rfl q⟩
    rintro _ rfl
    exact hX _ (g4 K X0 X65 X139 hX h)
/-- one thing more, by the system: its kind by the place behind blanks -/
theorem x8_thing {tp t : Int → Int} {r : MS} {p : Int} (ht : tpR tp t) (hn : r.1 0 ≤ 500) (h0 : 0 ≤ r.1 2) (h1 : r.1 2 ≤ p) (hp : p ≤ r.1 0) (hb : ∀ i, r.1 2 ≤ i → i < p → t i = 32) (he : p = r.1 0 ∨ t p ≠ 32) :
    (p = r.1 0 → ∃ r', (∀ K, K r' → C_X8_go tp r K) ∧ fr8 r r' ∧ r'.1 2 = p ∧ r'.1 3 = p ∧ r'.1 4 = 1) ∧
    (p < r.1 0 → isLet (t p) → ∀ q, p < q → q ≤ r.1 0 → (∀ i, p ≤ i → i < q → isLet (t i)) → (q = r.1 0 ∨ ¬ isLet (t q)) → ∃ r', (∀ K, K r' → C_X8_go tp r K) ∧ fr8 r r' ∧ r'.1 2 = q ∧ r'.1 3 = p ∧ r'.1 4 = (if q - p ≤ 6 then 2 else 0) ∧ r'.1 6 = pkN (fun k => t (p + k)) (min (q - p) 6).toNat) ∧
    (p < r.1 0 → isDig (t p) → ∀ q, p < q → q ≤ r.1 0 → (∀ i, p ≤ i → i < q → isDig (t i)) → (q = r.1 0 ∨ ¬ isDig (t q)) → ∃ r', (∀ K, K r' → C_X8_go tp r K) ∧ fr8 r r' ∧ r'.1 2 = q ∧ r'.1 3 = p ∧ r'.1 4 = (if q - p ≤ 1 then 3 else 0) ∧ r'.1 5 = t p - 48) ∧
    (p < r.1 0 → ¬ isLet (t p) → ¬ isDig (t p) → (isSg (t p) → ∃ r', (∀ K, K r' → C_X8_go tp r K) ∧ fr8 r r' ∧ r'.1 2 = p + 1 ∧ r'.1 3 = p ∧ r'.1 4 = 4) ∧ (¬ isSg (t p) → ∃ r', (∀ K, K r' → C_X8_go tp r K) ∧ fr8 r r' ∧ r'.1 2 = p + 1 ∧ r'.1 3 = p ∧ r'.1 4 = 0)) := by
  obtain ⟨r0, ⟨g1, g2, g3⟩, g4⟩ := x8_skip ht (p - r.1 2).toNat r hn h0 (by omega) hp hb
  have e0 : r0.1 0 = r.1 0 := g1 0 (by decide)
  have fr0 : fr8 r r0 := ⟨fun k a _ _ _ _ => g1 k a, g3⟩
  have start : ∀ K : MS → Prop, (∀ X0 X80 X191 : MS → Prop, (∀ s0, B_X8_go_80 X0 X80 X191 K tp s0 → X80 s0) → (∀ s0, B_X8_go_191 X0 X80 X191 K tp s0 → X191 s0) → B_X8_go_0 X0 X80 X191 K tp r0) → C_X8_go tp r K := fun K h X0 X80 X191 a b c => g4 K X0 X80 X191 a (h X0 X80 X191 b c)
  have e3 : (ms r0 3 p).1 0 = r.1 0 := e0
  have e32 : (ms r0 3 p).1 2 = p := g2
  have f3 : fr8 r (ms r0 3 p) := fr0.tr (fr8_ms (by decide))
  -- what stands behind blanks, if there is anything
  have mid : p < r.1 0 → ∀ K : MS → Prop, (∀ X0 X80 X191 : MS → Prop, (∀ s0, B_X8_go_80 X0 X80 X191 K tp s0 → X80 s0) → (∀ s0, B_X8_go_191 X0 X80 X191 K tp s0 → X191 s0) → (isLet (t p) → X80 (ms (ms r0 3 p) 6 0)) ∧ (¬ isLet (t p) → isDig (t p) → X191 (ms (ms r0 3 p) 5 (t p - 48))) ∧ (¬ isLet (t p) → ¬ isDig (t p) → (isSg (t p) → K (ms (ms (ms r0 3 p) 4 4) 2 (p + 1))) ∧ (¬ isSg (t p) → K (ms (ms (ms r0 3 p) 4 0) 2 (p + 1))))) → C_X8_go tp r K := by
    intro hlt K h
    refine start K (fun X0 X80 X191 b c => ?_)
    obtain ⟨k1, k2, k3⟩ := h X0 X80 X191 b c
    have hbt := ht.b (k := p) (by omega) (by omega)
    refine ⟨fun q => by omega, fun _ => x8_byteAt ht (by omega) (by omega) ?_⟩
    rw [if_pos (by omega), g2]
    refine ⟨fun q => absurd q (he.resolve_left (by omega)), fun _ => ?_⟩
    rintro _ rfl
    rw [e32, e3]
    refine ⟨fun _ => x8_isLetter ht (by rw [e3]; exact hn) (by omega) (fun _ hl => ⟨fun q => absurd q (by decide), fun _ => ?_⟩) (fun hl => ⟨fun _ => ?_, fun q => absurd rfl q⟩), fun q => absurd hlt q⟩
    · rintro _ rfl
      exact k1 hl
    · have hl : ¬ isLet (t p) := fun q => hl ⟨by rw [e3]; exact hlt, q⟩
      refine x8_isDigit ht (by rw [e3]; exact hn) (by omega) (fun _ hd => ⟨fun q => absurd q (by decide), fun _ => x8_byteAt ht (by rw [e3]; exact hn) (by omega) ?_⟩) (fun hd => ⟨fun _ => x8_byteAt ht (by rw [e3]; exact hn) (by omega) ?_, fun q => absurd rfl q⟩)
      · rw [if_pos (by rw [e3]; exact hlt)]
        refine ⟨inI_s (by omega), ?_⟩
        rintro _ rfl
        exact k2 hl hd
      · have hd : ¬ isDig (t p) := fun q => hd ⟨by rw [e3]; exact hlt, q⟩
        obtain ⟨k4, k5⟩ := k3 hl hd
        rw [if_pos (by rw [e3]; exact hlt)]
        refine x_indexOf hbt (fun hs i i0 => ⟨fun _ => ?_, fun q => absurd i0 q⟩) (fun hs => ⟨fun q => absurd q (by decide), fun _ => ?_⟩)
        · rintro _ rfl
          refine ⟨inI_s (by show -1000000 ≤ r0.1 2 + 1 ∧ r0.1 2 + 1 ≤ 1000000; omega), ?_⟩
          rintro _ rfl
          show K (ms (ms (ms r0 3 p) 4 4) 2 (r0.1 2 + 1))
          rw [g2]; exact k4 hs
        · rintro _ rfl
          refine ⟨inI_s (by show -1000000 ≤ r0.1 2 + 1 ∧ r0.1 2 + 1 ≤ 1000000; omega), ?_⟩
          rintro _ rfl
          show K (ms (ms (ms r0 3 p) 4 0) 2 (r0.1 2 + 1))
          rw [g2]; exact k5 hs
  refine ⟨fun e => ?_, fun hlt hl q pq qn hq hq2 => ?_, fun hlt hd q pq qn hq hq2 => ?_, fun hlt hl hd => ⟨fun hs => ?_, fun hs => ?_⟩⟩
  · refine ⟨ms (ms r0 3 p) 4 1, fun K hK => start K (fun X0 X80 X191 _ _ => ⟨fun _ => ?_, fun q => by omega⟩), f3.tr (fr8_ms (by decide)), g2, rfl, rfl⟩
    rw [g2]
    rintro _ rfl
    rw [e32, e3]
    refine ⟨fun q => by omega, fun _ => ?_⟩
    rintro _ rfl
    exact hK
  · obtain ⟨r', u1, u2, u3, u4, u5, u6⟩ := x8_let (q := q) ht (q - p).toNat (ms (ms r0 3 p) 6 0) (by show r0.1 0 ≤ 500; omega) (by show 0 ≤ p; omega) (by show p ≤ r0.1 2; omega) (by show r0.1 2 + ((q - p).toNat : Int) = q; omega) (by show q ≤ r0.1 0; omega) hq (by show q = r0.1 0 ∨ _; rw [e0]; exact hq2) (by
      show (0 : Int) = pkN (fun k => t (p + k)) (min (r0.1 2 - p) 6).toNat
      rw [g2, show (min (p - p) 6).toNat = 0 by omega]; rfl)
    exact ⟨r', fun K hK => mid hlt K (fun X0 X80 X191 b c => ⟨fun _ => u1 K X0 X80 X191 b hK, fun q => absurd hl q, fun q => absurd hl q⟩), f3.tr ((fr8_ms (by decide)).tr u2), u3, u4, u5, u6⟩
  · have hl : ¬ isLet (t p) := fun q => by unfold isLet at q; unfold isDig at hd; omega
    obtain ⟨r', u1, u2, u3, u4, u5, u6⟩ := x8_dig (q := q) ht (q - p).toNat (ms (ms r0 3 p) 5 (t p - 48)) (by show r0.1 0 ≤ 500; omega) (by show 0 ≤ p; omega) (by show p ≤ r0.1 2; omega) (by show r0.1 2 + ((q - p).toNat : Int) = q; omega) (by show q ≤ r0.1 0; omega) hq (by show q = r0.1 0 ∨ _; rw [e0]; exact hq2)
    exact ⟨r', fun K hK => mid hlt K (fun X0 X80 X191 b c => ⟨fun q => absurd q hl, fun _ _ => u1 K X0 X80 X191 c hK, fun _ q => absurd hd q⟩), f3.tr ((fr8_ms (by decide)).tr u2), u3, u4, u5, u6⟩
  · exact ⟨ms (ms (ms r0 3 p) 4 4) 2 (p + 1), fun K hK => mid hlt K (fun X0 X80 X191 b c => ⟨fun q => absurd q hl, fun _ q => absurd q hd, fun _ _ => ⟨fun _ => hK, fun q => absurd hs q⟩⟩), f3.tr ((fr8_ms (k := 4) (by decide)).tr (fr8_ms (by decide))), rfl, rfl, rfl⟩
  · exact ⟨ms (ms (ms r0 3 p) 4 0) 2 (p + 1), fun K hK => mid hlt K (fun X0 X80 X191 b c => ⟨fun q => absurd q hl, fun _ q => absurd q hd, fun _ _ => ⟨fun q => absurd q hs, fun _ => hK⟩⟩), f3.tr ((fr8_ms (k := 4) (by decide)).tr (fr8_ms (by decide))), rfl, rfl, rfl⟩
/-- and by the reference -/
theorem c_thing {m : MS} {p : Int} (hn : m.1 13 ≤ 500) (h0 : 0 ≤ m.1 15) (h1 : m.1 15 ≤ p) (hp : p ≤ m.1 13) (hb : ∀ i, m.1 15 ≤ i → i < p → m.2 4 i = 32) (he : p = m.1 13 ∨ m.2 4 p ≠ 32) (hbt : ∀ k, 0 ≤ k → k < 500 → 0 ≤ m.2 4 k ∧ m.2 4 k < 256) :
    (p = m.1 13 → ∃ m', (∀ K, K m' → C_goesOn m K) ∧ frG m m' ∧ m'.1 15 = p ∧ m'.1 14 = p ∧ m'.1 16 = 0) ∧
    (p < m.1 13 → isLet (m.2 4 p) → ∀ q, p < q → q ≤ m.1 13 → (∀ i, p ≤ i → i < q → isLet (m.2 4 i)) → (q = m.1 13 ∨ ¬ isLet (m.2 4 q)) → ∃ m', (∀ K, K m' → C_goesOn m K) ∧ frG m m' ∧ m'.1 15 = q ∧ m'.1 14 = p ∧ m'.1 16 = (if q - p ≤ 6 then 2 else 1)) ∧
    (p < m.1 13 → isDig (m.2 4 p) → ∀ q, p < q → q ≤ m.1 13 → (∀ i, p ≤ i → i < q → isDig (m.2 4 i)) → (q = m.1 13 ∨ ¬ isDig (m.2 4 q)) → ∃ m', (∀ K, K m' → C_goesOn m K) ∧ frG m m' ∧ m'.1 15 = q ∧ m'.1 14 = p ∧ m'.1 16 = (if q - p ≤ 1 then 3 else 1) ∧ m'.1 17 = m.2 4 p - 48) ∧
    (p < m.1 13 → ¬ isLet (m.2 4 p) → ¬ isDig (m.2 4 p) → (isSg (m.2 4 p) → ∃ m', (∀ K, K m' → C_goesOn m K) ∧ frG m m' ∧ m'.1 15 = p + 1 ∧ m'.1 14 = p ∧ m'.1 16 = m.2 4 p) ∧ (¬ isSg (m.2 4 p) → ∃ m', (∀ K, K m' → C_goesOn m K) ∧ frG m m' ∧ m'.1 15 = p + 1 ∧ m'.1 14 = p ∧ m'.1 16 = 1)) := by
  obtain ⟨m0, ⟨g1, g2, g3⟩, g4⟩ := c_skip (p - m.1 15).toNat m hn h0 (by omega) hp hb
  have e13 : m0.1 13 = m.1 13 := g1 13 (by decide)
  have e4 : m0.2 4 = m.2 4 := by rw [g3]
  have fr0 : frG m m0 := ⟨fun k _ a _ _ => g1 k a, g3⟩
  have start : ∀ K : MS → Prop, (∀ X0 X65 X139 : MS → Prop, (∀ s0, B_goesOn_65 X0 X65 X139 K s0 → X65 s0) → (∀ s0, B_goesOn_139 X0 X65 X139 K s0 → X139 s0) → B_goesOn_0 X0 X65 X139 K m0) → C_goesOn m K := fun K h X0 X65 X139 a b c => g4 K X0 X65 X139 a (h X0 X65 X139 b c)
  have f3 : fr8 m0 m0 := ⟨fun _ _ _ _ _ _ => rfl, rfl⟩
  have f14 : frG m (ms m0 14 p) := fr0.tr (frG_ms (by decide))
  have mid : p < m.1 13 → ∀ K : MS → Prop, (∀ X0 X65 X139 : MS → Prop, (∀ s0, B_goesOn_65 X0 X65 X139 K s0 → X65 s0) → (∀ s0, B_goesOn_139 X0 X65 X139 K s0 → X139 s0) → (isLet (m.2 4 p) → X65 (ms m0 14 p)) ∧ (¬ isLet (m.2 4 p) → isDig (m.2 4 p) → X139 (ms (ms m0 14 p) 17 (m.2 4 p - 48))) ∧ (¬ isLet (m.2 4 p) → ¬ isDig (m.2 4 p) → (isSg (m.2 4 p) → K (ms (ms (ms m0 14 p) 15 (p + 1)) 16 (m.2 4 p))) ∧ (¬ isSg (m.2 4 p) → K (ms (ms (ms m0 14 p) 15 (p + 1)) 16 1)))) → C_goesOn m K := by
    intro hlt K h
    refine start K (fun X0 X65 X139 b c => ?_)
    obtain ⟨k1, k2, k3⟩ := h X0 X65 X139 b c
    have hb4 := hbt p (by omega) (by omega)
    refine c_see (by omega) (by omega) ?_
    rw [if_pos (by omega), e4, g2]
    refine ⟨fun q => absurd q (he.resolve_left (by omega)), fun _ => ?_⟩
    rintro _ rfl
    have e11 : (if (ms m0 14 (m0.1 15)).1 15 < (ms m0 14 (m0.1 15)).1 13 then (ms m0 14 (m0.1 15)).2 4 ((ms m0 14 (m0.1 15)).1 15) else -1) = m.2 4 p := by
      show (if m0.1 15 < m0.1 13 then m0.2 4 (m0.1 15) else -1) = m.2 4 p
      rw [if_pos (by omega), e4, g2]
    rw [g2] at e11
    refine c_see (by show m0.1 13 ≤ 500; omega) (by show 0 ≤ m0.1 15; omega) ?_
    rw [e11]
    refine ⟨fun q => by omega, fun _ => c_in (fun hl => ⟨fun q => absurd q (by decide), fun _ => k1 hl⟩) (fun hl => ⟨fun _ => c_in (fun hd => ⟨fun q => absurd q (by decide), fun _ => ⟨inI_s (by omega), ?_⟩⟩) (fun hd => ⟨fun _ => ⟨inI_s (by show -1000000 ≤ m0.1 15 + 1 ∧ m0.1 15 + 1 ≤ 1000000; omega), ?_⟩, fun q => absurd rfl q⟩), fun q => absurd rfl q⟩)⟩
    · rintro _ rfl
      exact k2 hl hd
    · rintro _ rfl
      obtain ⟨k4, k5⟩ := k3 hl hd
      have e15 : (ms m0 14 p).1 15 + 1 = p + 1 := by show m0.1 15 + 1 = p + 1; rw [g2]
      rw [e15]
      refine ⟨fun q => ?_, fun q0 => ⟨fun q => ?_, fun q1 => ⟨fun q => ?_, fun q2 => ⟨fun q => ?_, fun q3 => ⟨fun q => ?_, fun q4 => ?_⟩⟩⟩⟩⟩ <;> rintro _ rfl
      · exact k4 (Or.inl q)
      · exact k4 (Or.inr (Or.inl q))
      · exact k4 (Or.inr (Or.inr (Or.inl q)))
      · exact k4 (Or.inr (Or.inr (Or.inr (Or.inl q))))
      · exact k4 (Or.inr (Or.inr (Or.inr (Or.inr q))))
      · refine k5 (fun q => ?_)
        rcases q with q | q | q | q | q
        · exact q0 q
        · exact q1 q
        · exact q2 q
        · exact q3 q
        · exact q4 q
  refine ⟨fun e => ?_, fun hlt hl q pq qn hq hq2 => ?_, fun hlt hd q pq qn hq hq2 => ?_, fun hlt hl hd => ⟨fun hs => ?_, fun hs => ?_⟩⟩
  · refine ⟨ms (ms m0 14 p) 16 0, fun K hK => start K (fun X0 X65 X139 _ _ => ?_), f14.tr (frG_ms (by decide)), g2, rfl, rfl⟩
    refine c_see (by omega) (by omega) ?_
    rw [if_neg (by omega), g2]
    refine ⟨fun q => by omega, fun _ => ?_⟩
    rintro _ rfl
    refine c_see (by show m0.1 13 ≤ 500; omega) (by show 0 ≤ m0.1 15; omega) ?_
    rw [if_neg (by show ¬ m0.1 15 < m0.1 13; omega)]
    refine ⟨fun _ => ?_, fun q => absurd rfl q⟩
    rintro _ rfl
    exact hK
  · obtain ⟨r', u1, u2, u3, u4, u5⟩ := c_let (q := q) (q - p).toNat (ms m0 14 p) (by show m0.1 13 ≤ 500; omega) (by show 0 ≤ p; omega) (by show p ≤ m0.1 15; omega) (by show m0.1 15 + ((q - p).toNat : Int) = q; omega) (by show q ≤ m0.1 13; omega) (by show ∀ i, p ≤ i → i < q → isLet (m0.2 4 i); rw [e4]; exact hq) (by show q = m0.1 13 ∨ ¬ isLet (m0.2 4 q); rw [e13, e4]; exact hq2)
    exact ⟨r', fun K hK => mid hlt K (fun X0 X65 X139 b c => ⟨fun _ => u1 K X0 X65 X139 b hK, fun q => absurd hl q, fun q => absurd hl q⟩), f14.tr u2, u3, u4, u5⟩
  · have hl : ¬ isLet (m.2 4 p) := fun q => by unfold isLet at q; unfold isDig at hd; omega
    obtain ⟨r', u1, u2, u3, u4, u5, u6⟩ := c_dig (q := q) (q - p).toNat (ms (ms m0 14 p) 17 (m.2 4 p - 48)) (by show m0.1 13 ≤ 500; omega) (by show 0 ≤ p; omega) (by show p ≤ m0.1 15; omega) (by show m0.1 15 + ((q - p).toNat : Int) = q; omega) (by show q ≤ m0.1 13; omega) (by show ∀ i, p ≤ i → i < q → isDig (m0.2 4 i); rw [e4]; exact hq) (by show q = m0.1 13 ∨ ¬ isDig (m0.2 4 q); rw [e13, e4]; exact hq2)
    exact ⟨r', fun K hK => mid hlt K (fun X0 X65 X139 b c => ⟨fun q => absurd q hl, fun _ _ => u1 K X0 X65 X139 c hK, fun _ q => absurd hd q⟩), f14.tr ((frG_ms (by decide)).tr u2), u3, u4, u5, u6⟩
  · exact ⟨ms (ms (ms m0 14 p) 15 (p + 1)) 16 (m.2 4 p), fun K hK => mid hlt K (fun X0 X65 X139 b c => ⟨fun q => absurd q hl, fun _ q => absurd q hd, fun _ _ => ⟨fun _ => hK, fun q => absurd hs q⟩⟩), f14.tr ((frG_ms (k := 15) (by decide)).tr (frG_ms (by decide))), rfl, rfl, rfl⟩
  · exact ⟨ms (ms (ms m0 14 p) 15 (p + 1)) 16 1, fun K hK => mid hlt K (fun X0 X65 X139 b c => ⟨fun q => absurd q hl, fun _ q => absurd q hd, fun _ _ => ⟨fun q => absurd q hs, fun _ => hK⟩⟩), f14.tr ((frG_ms (k := 15) (by decide)).tr (frG_ms (by decide))), rfl, rfl, rfl⟩
/-- one thing more, by both -/
theorem lex {tp : Int → Int} {r m : MS} (ht : tpR tp (m.2 4)) (hn : r.1 0 = m.1 13) (h5 : r.1 0 ≤ 500) (hp : r.1 2 = m.1 15) (h0 : 0 ≤ r.1 2 ∧ r.1 2 ≤ r.1 0) : ∃ r' m', (∀ K, K r' → C_X8_go tp r K) ∧ (∀ K, K m' → C_goesOn m K) ∧ fr8 r r' ∧ frG m m' ∧ lxR (m.2 4) r' m' ∧ r.1 2 ≤ r'.1 3 := by
  obtain ⟨p, ⟨p0, p1⟩, p2, p3⟩ := firstP (P := fun i => m.2 4 i = 32) (n := r.1 0) (r.1 0 - r.1 2).toNat (r.1 2) h0.2 (by omega)
  obtain ⟨x1, x2, x3, x4⟩ := x8_thing ht h5 h0.1 p0 p1 p2 p3
  obtain ⟨c1, c2, c3, c4⟩ := c_thing (m := m) (p := p) (by omega) (by omega) (by omega) (by omega) (fun i i0 i1 => p2 i (by omega) i1) (by rw [← hn]; exact p3) (fun k k0 k1 => ht.b k0 k1)
  by_cases hlt : p < r.1 0
  · by_cases hl : isLet (m.2 4 p)
    · obtain ⟨q, ⟨q0, q1⟩, q2, q3⟩ := firstP (P := fun i => isLet (m.2 4 i)) (n := r.1 0) (r.1 0 - p).toNat p (by omega) (by omega)
      have hpq : p < q := by
        by_cases e : q = p
        · rw [e] at q3
          rcases q3 with q3 | q3
          · omega
          · exact absurd hl q3
        · omega
      obtain ⟨r', u1, u2, u3, u4, u5, u6⟩ := x2 hlt hl q hpq q1 q2 q3
      obtain ⟨m', v1, v2, v3, v4, v5⟩ := c2 (by omega) hl q hpq (by omega) q2 (by rw [← hn]; exact q3)
      have e0 : r'.1 0 = r.1 0 := u2.1 0 (by decide) (by decide) (by decide) (by decide) (by decide)
      refine ⟨r', m', u1, v1, u2, v2, ⟨⟨by omega, by omega, by omega, by omega, by omega⟩, fun _ => by omega, ?_⟩, by omega⟩
      by_cases h6 : q - p ≤ 6
      · rw [if_pos h6] at u5 v5
        refine Or.inr (Or.inr (Or.inl ⟨u5, v5, by omega, fun i i0 i1 => q2 i (by omega) (by omega), ?_⟩))
        rw [u6, u3, u4, show min (q - p) 6 = q - p by omega]
      · rw [if_neg h6] at u5 v5
        exact Or.inr (Or.inl ⟨u5, v5⟩)
    · by_cases hd : isDig (m.2 4 p)
      · obtain ⟨q, ⟨q0, q1⟩, q2, q3⟩ := firstP (P := fun i => isDig (m.2 4 i)) (n := r.1 0) (r.1 0 - p).toNat p (by omega) (by omega)
        have hpq : p < q := by
          by_cases e : q = p
          · rw [e] at q3
            rcases q3 with q3 | q3
            · omega
            · exact absurd hd q3
          · omega
        obtain ⟨r', u1, u2, u3, u4, u5, u6⟩ := x3 hlt hd q hpq q1 q2 q3
        obtain ⟨m', v1, v2, v3, v4, v5, v6⟩ := c3 (by omega) hd q hpq (by omega) q2 (by rw [← hn]; exact q3)
        have e0 : r'.1 0 = r.1 0 := u2.1 0 (by decide) (by decide) (by decide) (by decide) (by decide)
        refine ⟨r', m', u1, v1, u2, v2, ⟨⟨by omega, by omega, by omega, by omega, by omega⟩, fun _ => by omega, ?_⟩, by omega⟩
        unfold isDig at hd
        by_cases h6 : q - p ≤ 1
        · rw [if_pos h6] at u5 v5
          exact Or.inr (Or.inr (Or.inr (Or.inl ⟨u5, v5, by omega, by omega, by omega⟩)))
        · rw [if_neg h6] at u5 v5
          exact Or.inr (Or.inl ⟨u5, v5⟩)
      · by_cases hs : isSg (m.2 4 p)
        · obtain ⟨r', u1, u2, u3, u4, u5⟩ := (x4 hlt hl hd).1 hs
          obtain ⟨m', v1, v2, v3, v4, v5⟩ := (c4 (by omega) hl hd).1 hs
          have e0 : r'.1 0 = r.1 0 := u2.1 0 (by decide) (by decide) (by decide) (by decide) (by decide)
          exact ⟨r', m', u1, v1, u2, v2, ⟨⟨by omega, by omega, by omega, by omega, by omega⟩, fun _ => by omega, Or.inr (Or.inr (Or.inr (Or.inr ⟨u5, by rw [v5, u4], by rw [u4]; exact hs⟩)))⟩, by omega⟩
        · obtain ⟨r', u1, u2, u3, u4, u5⟩ := (x4 hlt hl hd).2 hs
          obtain ⟨m', v1, v2, v3, v4, v5⟩ := (c4 (by omega) hl hd).2 hs
          have e0 : r'.1 0 = r.1 0 := u2.1 0 (by decide) (by decide) (by decide) (by decide) (by decide)
          exact ⟨r', m', u1, v1, u2, v2, ⟨⟨by omega, by omega, by omega, by omega, by omega⟩, fun _ => by omega, Or.inr (Or.inl ⟨u5, v5⟩)⟩, by omega⟩
  · have e : p = r.1 0 := by omega
    obtain ⟨r', u1, u2, u3, u4, u5⟩ := x1 e
    obtain ⟨m', v1, v2, v3, v4, v5⟩ := c1 (by omega)
    have e0 : r'.1 0 = r.1 0 := u2.1 0 (by decide) (by decide) (by decide) (by decide) (by decide)
    exact ⟨r', m', u1, v1, u2, v2, ⟨⟨by omega, by omega, by omega, by omega, by omega⟩, fun q => absurd u5 q, Or.inl ⟨u5, v5⟩⟩, by omega⟩
