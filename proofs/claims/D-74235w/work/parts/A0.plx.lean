/-! THE PURE PART, 37: texts: letters, numbers, signs -/
set_option maxRecDepth 100000
/-- the first place from one on where something fails -/
theorem firstP {P : Int → Prop} {n : Int} : ∀ (d : Nat) (p : Int), p ≤ n → n - p = d → ∃ q, (p ≤ q ∧ q ≤ n) ∧ (∀ i, p ≤ i → i < q → P i) ∧ (q = n ∨ ¬ P q) := by
  intro d
  induction d with
  | zero => exact fun p h1 h2 => ⟨p, ⟨Int.le_refl _, h1⟩, fun i i0 i1 => by omega, Or.inl (by omega)⟩
  | succ d ih =>
    intro p h1 h2
    by_cases hp : P p
    · obtain ⟨q, q1, q2, q3⟩ := ih (p + 1) (by omega) (by omega)
      refine ⟨q, ⟨by omega, q1.2⟩, fun i i0 i1 => ?_, q3⟩
      by_cases e : i = p
      · rw [e]; exact hp
      · exact q2 i (by omega) i1
    · exact ⟨p, ⟨Int.le_refl _, h1⟩, fun i i0 i1 => by omega, Or.inr hp⟩
theorem jand_255 : ∀ x : Nat, x < 256 → jand ((x : Int) - 128) 255 = (if (x : Int) - 128 < 0 then (x : Int) - 128 + 256 else (x : Int) - 128) := by decide +kernel
theorem jand_255i {x : Int} (h : -128 ≤ x ∧ x < 128) : jand x 255 = (if x < 0 then x + 256 else x) := by
  have := jand_255 (x + 128).toNat (by omega)
  rw [show (((x + 128).toNat : Nat) : Int) - 128 = x by omega] at this
  exact this
/-- both tapes -/
def tpR (tp : Int → Int) (t : Int → Int) : Prop := ∀ k, 0 ≤ k → k < 500 → (-128 ≤ tp k ∧ tp k < 128) ∧ t k = (if tp k < 0 then tp k + 256 else tp k)
theorem tpR.and {tp t : Int → Int} (h : tpR tp t) {k : Int} (k0 : 0 ≤ k) (k1 : k < 500) : jand (tp k) 255 = t k := by
  obtain ⟨h1, h2⟩ := h k k0 k1
  rw [jand_255i h1, h2]
theorem tpR.b {tp t : Int → Int} (h : tpR tp t) {k : Int} (k0 : 0 ≤ k) (k1 : k < 500) : 0 ≤ t k ∧ t k < 256 := by
  obtain ⟨h1, h2⟩ := h k k0 k1
  rw [h2]
  split <;> omega
def isLet (c : Int) : Prop := 97 ≤ c ∧ c ≤ 122
def isDig (c : Int) : Prop := 48 ≤ c ∧ c ≤ 57
theorem x8_byteAt {tp t : Int → Int} {r : MS} {k : Int} {K : Int → Prop} (ht : tpR tp t) (hn : r.1 0 ≤ 500) (k0 : 0 ≤ k) (h : K (if k < r.1 0 then t k else 0)) : C_X8_byteAt k tp r K := by
  refine ⟨fun e => ?_, fun e => ⟨⟨k0, by omega⟩, ?_⟩⟩
  · rw [if_neg (by omega)] at h; exact h
  · rw [if_pos (by omega)] at h
    rw [ht.and k0 (by omega)]; exact h
theorem x8_isLetter {tp t : Int → Int} {r : MS} {k : Int} {K : Int → Prop} (ht : tpR tp t) (hn : r.1 0 ≤ 500) (k0 : 0 ≤ k) (h1 : k < r.1 0 → isLet (t k) → K 1) (h0 : ¬ (k < r.1 0 ∧ isLet (t k)) → K 0) : C_X8_isLetter k tp r K := by
  unfold C_X8_isLetter B_X8_isLetter_E
  refine x8_byteAt ht hn k0 (x_isIn (fun q => ⟨Or.inr rfl, ?_⟩) (fun q => ⟨Or.inl rfl, h0 (fun q2 => q (by rw [if_pos q2.1]; exact q2.2))⟩))
  by_cases e : k < r.1 0
  · rw [if_pos e] at q; exact h1 e q
  · rw [if_neg e] at q; omega
theorem x8_isDigit {tp t : Int → Int} {r : MS} {k : Int} {K : Int → Prop} (ht : tpR tp t) (hn : r.1 0 ≤ 500) (k0 : 0 ≤ k) (h1 : k < r.1 0 → isDig (t k) → K 1) (h0 : ¬ (k < r.1 0 ∧ isDig (t k)) → K 0) : C_X8_isDigit k tp r K := by
  unfold C_X8_isDigit B_X8_isDigit_E
  refine x8_byteAt ht hn k0 (x_isIn (fun q => ⟨Or.inr rfl, ?_⟩) (fun q => ⟨Or.inl rfl, h0 (fun q2 => q (by rw [if_pos q2.1]; exact q2.2))⟩))
  by_cases e : k < r.1 0
  · rw [if_pos e] at q; exact h1 e q
  · rw [if_neg e] at q; omega
theorem c_see {m : MS} {k : Int} {K : Int → MS → Prop} (hn : m.1 13 ≤ 500) (k0 : 0 ≤ k) (h : K (if k < m.1 13 then m.2 4 k else -1) m) : C_see k m K := by
  refine ⟨fun e => ?_, fun e => ⟨⟨k0, by omega⟩, ?_⟩⟩
  · rw [if_neg (by omega)] at h; exact h
  · rw [if_pos (by omega)] at h; exact h
/-- letters put together -/
theorem ofNat_ofInt {w : Int} (h0 : 0 ≤ w) (h1 : w < 281474976710656) : (Int64.ofInt w).toBitVec = BitVec.ofNat 64 w.toNat := by
  apply BitVec.eq_of_toNat_eq
  show (BitVec.ofInt 64 w).toNat = _
  rw [BitVec.toNat_ofInt, BitVec.toNat_ofNat]
  have e : w % ((2 ^ 64 : Nat) : Int) = w := Int.emod_eq_of_lt h0 (by
    have : ((2 ^ 64 : Nat) : Int) = 18446744073709551616 := by decide
    omega)
  rw [e, Nat.mod_eq_of_lt (by
    have : (2 ^ 64 : Nat) = 18446744073709551616 := by decide
    omega)]
theorem jl_8 {w c : Int} (hw : 0 ≤ w ∧ w < 281474976710656) (hc : 0 ≤ c ∧ c < 256) : jlor (jlshl w 8) c = w * 256 + c := by
  have h8 : (Int32.ofInt 8).toInt64 &&& 63 = 8 := by decide
  have e64 : (2 ^ 64 : Nat) = 18446744073709551616 := by decide
  unfold jlor jlshl
  rw [h8, Int64.ofInt_toInt]
  have e1 : (Int64.ofInt w <<< (8 : Int64)).toBitVec = BitVec.ofNat 64 (w.toNat * 256) := by
    rw [Int64.toBitVec_shiftLeft]
    have : ((8 : Int64).toBitVec.smod 64) = 8#64 := by decide
    rw [this, ofNat_ofInt hw.1 hw.2]
    apply BitVec.eq_of_toNat_eq
    rw [BitVec.shiftLeft_eq', BitVec.toNat_shiftLeft, BitVec.toNat_ofNat, BitVec.toNat_ofNat, Nat.shiftLeft_eq, Nat.mod_eq_of_lt (show w.toNat < 2 ^ 64 by omega)]
    rfl
  have e3 : (Int64.ofInt c).toBitVec = BitVec.ofNat 64 c.toNat := ofNat_ofInt hc.1 (by omega)
  show ((Int64.ofInt w <<< (8 : Int64) ||| Int64.ofInt c).toBitVec).toInt = _
  rw [Int64.toBitVec_or, e1, e3]
  have e4 : (BitVec.ofNat 64 (w.toNat * 256) ||| BitVec.ofNat 64 c.toNat) = BitVec.ofNat 64 (w.toNat * 256 + c.toNat) := by
    apply BitVec.eq_of_toNat_eq
    rw [BitVec.toNat_or, BitVec.toNat_ofNat, BitVec.toNat_ofNat, BitVec.toNat_ofNat, Nat.mod_eq_of_lt (show w.toNat * 256 < 2 ^ 64 by omega), Nat.mod_eq_of_lt (show c.toNat < 2 ^ 64 by omega), Nat.mod_eq_of_lt (show w.toNat * 256 + c.toNat < 2 ^ 64 by omega)]
    have := Nat.shiftLeft_add_eq_or_of_lt (show c.toNat < 2 ^ 8 by omega) w.toNat
    rw [Nat.shiftLeft_eq] at this
    exact this.symm
  have e5 : (BitVec.ofNat 64 (w.toNat * 256 + c.toNat)).toNat = w.toNat * 256 + c.toNat := by
    rw [BitVec.toNat_ofNat, Nat.mod_eq_of_lt (by omega)]
  rw [e4, BitVec.toInt_eq_toNat_of_lt (by rw [e5]; omega), e5]
  omega
