/-! THE PURE PART, 61: how many a set has -/
set_option maxRecDepth 100000
theorem jand_nat {x y : Nat} (hx : x < 2 ^ 31) (hy : y < 2 ^ 31) : jand (x : Int) (y : Int) = ((x &&& y : Nat) : Int) := by
  unfold jand
  show ((Int32.ofInt (x : Int) &&& Int32.ofInt (y : Int)).toBitVec).toInt = _
  have hl : x &&& y ≤ x := Nat.and_le_left
  rw [Int32.toBitVec_and, Int32.toBitVec_ofInt, Int32.toBitVec_ofInt, BitVec.ofInt_natCast, BitVec.ofInt_natCast, BitVec.toInt_eq_toNat_of_lt]
  · rw [BitVec.toNat_and, BitVec.toNat_ofNat, BitVec.toNat_ofNat, Nat.mod_eq_of_lt (by omega), Nat.mod_eq_of_lt (by omega)]
  · rw [BitVec.toNat_and, BitVec.toNat_ofNat, BitVec.toNat_ofNat, Nat.mod_eq_of_lt (by omega), Nat.mod_eq_of_lt (by omega)]
    omega
theorem jushr_nat {x k : Nat} (hx : x < 2 ^ 31) (hk : k < 32) : jushr (x : Int) (k : Int) = ((x >>> k : Nat) : Int) := by
  unfold jushr
  have h1 : (Int32.ofInt (x : Int)).toUInt32.toNat = x := by
    show ((Int32.ofInt (x : Int)).toBitVec).toNat = x
    rw [Int32.toBitVec_ofInt, BitVec.ofInt_natCast, BitVec.toNat_ofNat, Nat.mod_eq_of_lt (by omega)]
  have h2 : ∀ k : Nat, k < 32 → ((Int32.ofInt (k : Int)).toUInt32 &&& Int32.toUInt32 31).toNat % 32 = k := by decide
  show (((Int32.ofInt (x : Int)).toUInt32 >>> ((Int32.ofInt (k : Int)).toUInt32 &&& Int32.toUInt32 31)).toInt32.toBitVec).toInt = _
  have h3 : ((Int32.ofInt (x : Int)).toUInt32 >>> ((Int32.ofInt (k : Int)).toUInt32 &&& Int32.toUInt32 31)).toInt32.toBitVec.toNat = x >>> k := by
    show ((Int32.ofInt (x : Int)).toUInt32 >>> ((Int32.ofInt (k : Int)).toUInt32 &&& Int32.toUInt32 31)).toNat = x >>> k
    rw [UInt32.toNat_shiftRight, h1, h2 k hk]
  have hl : x >>> k ≤ x := Nat.shiftRight_le x k
  rw [BitVec.toInt_eq_toNat_of_lt (by omega), h3]
def pq (n : Nat) : Nat → Nat
  | 0 => 0
  | k + 1 => pq n k + ((n >>> k) &&& 1)
def bc1 (n : Nat) : Nat := n - ((n >>> 1) &&& 1431655765)
def bc2 (n : Nat) : Nat := (bc1 n &&& 858993459) + ((bc1 n >>> 2) &&& 858993459)
def bc3 (n : Nat) : Nat := bc2 n + (bc2 n >>> 4)
def bc4 (n : Nat) : Nat := bc3 n &&& 252645135
def bc5 (n : Nat) : Nat := bc4 n + (bc4 n >>> 8)
def bc6 (n : Nat) : Nat := bc5 n + (bc5 n >>> 16)
theorem bc_all : ∀ n : Nat, n < 4096 → ((n >>> 1) &&& 1431655765) ≤ n ∧ bc1 n < 1000000 ∧ bc2 n < 1000000 ∧ bc3 n < 1000000 ∧ bc4 n < 1000000 ∧ bc5 n < 1000000 ∧ bc6 n < 1000000 ∧ bc6 n &&& 63 = pq n 13 := by decide +kernel
theorem jn {x : Nat} {c k : Nat} (hx : x < 2 ^ 31) (hc : c < 2 ^ 31) (hk : k < 32) : jand (jushr (x : Int) (k : Int)) (c : Int) = (((x >>> k) &&& c : Nat) : Int) := by
  have hl : x >>> k ≤ x := Nat.shiftRight_le x k
  rw [jushr_nat hx hk, jand_nat (by omega) hc]
theorem x_bitCount {n : Nat} {K : Int → Prop} (hn : n < 4096) (h : K ((pq n 13 : Nat) : Int)) : C_J15_bitCount (n : Int) K := by
  obtain ⟨f0, f1, f2, f3, f4, f5, f6, f7⟩ := bc_all n hn
  have e1 : (n : Int) - jand (jushr (n : Int) 1) 1431655765 = ((bc1 n : Nat) : Int) := by
    have := jn (x := n) (c := 1431655765) (k := 1) (by omega) (by decide) (by decide)
    have e : jand (jushr (n : Int) 1) 1431655765 = (((n >>> 1) &&& 1431655765 : Nat) : Int) := this
    rw [e]; unfold bc1; omega
  have e2 : jand ((bc1 n : Nat) : Int) 858993459 + jand (jushr ((bc1 n : Nat) : Int) 2) 858993459 = ((bc2 n : Nat) : Int) := by
    have h1 := jn (x := bc1 n) (c := 858993459) (k := 2) (by omega) (by decide) (by decide)
    have h2 := jand_nat (x := bc1 n) (y := 858993459) (by omega) (by decide)
    have h1 : jand (jushr ((bc1 n : Nat) : Int) 2) 858993459 = (((bc1 n >>> 2) &&& 858993459 : Nat) : Int) := h1
    have h2 : jand ((bc1 n : Nat) : Int) 858993459 = ((bc1 n &&& 858993459 : Nat) : Int) := h2
    rw [h1, h2]; unfold bc2; omega
  have e3 : ((bc2 n : Nat) : Int) + jushr ((bc2 n : Nat) : Int) 4 = ((bc3 n : Nat) : Int) := by
    have h1 : jushr ((bc2 n : Nat) : Int) 4 = ((bc2 n >>> 4 : Nat) : Int) := jushr_nat (k := 4) (by omega) (by decide)
    rw [h1]; unfold bc3; omega
  have e4 : jand ((bc3 n : Nat) : Int) 252645135 = ((bc4 n : Nat) : Int) := jand_nat (y := 252645135) (by omega) (by decide)
  have e5 : ((bc4 n : Nat) : Int) + jushr ((bc4 n : Nat) : Int) 8 = ((bc5 n : Nat) : Int) := by
    have h1 : jushr ((bc4 n : Nat) : Int) 8 = ((bc4 n >>> 8 : Nat) : Int) := jushr_nat (k := 8) (by omega) (by decide)
    rw [h1]; unfold bc5; omega
  have e6 : ((bc5 n : Nat) : Int) + jushr ((bc5 n : Nat) : Int) 16 = ((bc6 n : Nat) : Int) := by
    have h1 : jushr ((bc5 n : Nat) : Int) 16 = ((bc5 n >>> 16 : Nat) : Int) := jushr_nat (k := 16) (by omega) (by decide)
    rw [h1]; unfold bc6; omega
  have e7 : jand ((bc6 n : Nat) : Int) 63 = ((pq n 13 : Nat) : Int) := by
    have h1 : jand ((bc6 n : Nat) : Int) 63 = ((bc6 n &&& 63 : Nat) : Int) := jand_nat (y := 63) (by omega) (by decide)
    rw [h1, f7]
  unfold C_J15_bitCount B_J15_bitCount_E
  rw [e1, e2, e3, e4, e5, e6, e7]
  exact ⟨inI_s (by omega), inI_s (by omega), inI_s (by omega), inI_s (by omega), inI_s (by omega), h⟩
theorem pq_b {n : Nat} : ∀ k : Nat, pq n k ≤ k := by
  intro k
  induction k with
  | zero => exact Nat.le_refl _
  | succ k ih =>
    have : (n >>> k) &&& 1 ≤ 1 := Nat.and_le_right
    show pq n k + _ ≤ _
    omega
theorem c_ones {n : Nat} {m : MS} {K : Int → MS → Prop} (hn : n < 4096) (h : K ((pq n 13 : Nat) : Int) m) : C_ones (n : Int) m K := by
  intro X hX
  have L : ∀ k, 0 ≤ k → k ≤ 13 → X (n : Int) ((pq n k.toNat : Nat) : Int) k m := by
    refine upto (fun k k0 k1 ih => hX _ _ _ _ ⟨fun e => ?_, fun e => ?_⟩)
    · rw [show k = 13 by omega]; exact h
    · have hb := pq_b (n := n) k.toNat
      have e1 : jand (jshr (n : Int) k) 1 = (((n >>> k.toNat) &&& 1 : Nat) : Int) := by
        have h1 := jshr_k (a := (n : Int)) (k := k.toNat) (inI_s (by omega)) (by omega)
        rw [show ((k.toNat : Nat) : Int) = k by omega] at h1
        rw [h1]
        have h2 : (n : Int) / 2 ^ k.toNat = ((n >>> k.toNat : Nat) : Int) := by
          rw [Nat.shiftRight_eq_div_pow]
          simp
        have hl : n >>> k.toNat ≤ n := Nat.shiftRight_le n _
        rw [h2]
        exact jand_nat (y := 1) (by omega) (by decide)
      have hle : (n >>> k.toNat) &&& 1 ≤ 1 := Nat.and_le_right
      rw [e1]
      have := ih (by omega)
      rw [show (k + 1).toNat = k.toNat + 1 by omega] at this
      have e2 : ((pq n (k.toNat + 1) : Nat) : Int) = ((pq n k.toNat : Nat) : Int) + (((n >>> k.toNat) &&& 1 : Nat) : Int) := by
        show ((pq n k.toNat + ((n >>> k.toNat) &&& 1) : Nat) : Int) = _
        omega
      rw [e2] at this
      exact ⟨inI_s (by omega), inI_s (by omega), this⟩
  exact L 0 (Int.le_refl _) (by decide)
