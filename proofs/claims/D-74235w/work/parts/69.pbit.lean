/-! THE PURE PART, 10: sets as numbers -/
set_option maxRecDepth 100000
/-- a bit of a number -/
def bt (S : Int) (i : Nat) : Bool := (Int32.ofInt S).toBitVec.getLsbD i
theorem bt_and {S T : Int} {i : Nat} : bt (jand S T) i = (bt S i && bt T i) := by
  unfold bt jand
  rw [Int32.ofInt_toInt]
  show ((Int32.ofInt S &&& Int32.ofInt T).toBitVec).getLsbD i = _
  rw [Int32.toBitVec_and, BitVec.getLsbD_and]
theorem bt_or {S T : Int} {i : Nat} : bt (jor S T) i = (bt S i || bt T i) := by
  unfold bt jor
  rw [Int32.ofInt_toInt]
  rw [Int32.toBitVec_or, BitVec.getLsbD_or]
theorem bt_xor {S T : Int} {i : Nat} : bt (jxor S T) i = (bt S i ^^ bt T i) := by
  unfold bt jxor
  rw [Int32.ofInt_toInt]
  rw [Int32.toBitVec_xor, BitVec.getLsbD_xor]
theorem bt_shl : ∀ k : Nat, k < 32 → ∀ i : Nat, i < 32 → bt (jshl 1 (k : Int)) i = decide (i = k) := by decide +kernel
theorem bt_neg : ∀ i : Nat, i < 32 → bt (-1) i = true := by decide +kernel
theorem bt_every : ∀ n : Nat, n < 14 → ∀ i : Nat, i < 32 → bt (jshl 1 (n : Int) - 1) i = decide (i < n) := by decide +kernel
theorem every_v : ∀ n : Nat, n < 14 → jshl 1 (n : Int) = ((2 ^ n : Nat) : Int) := by decide +kernel
theorem jand_1 {T : Int} : jand T 1 = 1 ↔ bt T 0 = true := by
  unfold jand bt
  have h : (Int32.ofInt T &&& Int32.ofInt 1).toBitVec = BitVec.setWidth 32 (BitVec.ofBool ((Int32.ofInt T).toBitVec.getLsbD 0)) := by
    rw [Int32.toBitVec_and]
    exact BitVec.and_one_eq_setWidth_ofBool_getLsbD
  show (Int32.ofInt T &&& Int32.ofInt 1).toBitVec.toInt = 1 ↔ _
  rw [h]
  cases (Int32.ofInt T).toBitVec.getLsbD 0 <;> decide
theorem bit_bt {S : Int} {k : Nat} (hk : k < 32) : bit S (k : Int) ↔ bt S k = true := by
  unfold bit
  rw [jand_1]
  have h : bt (jshr S (k : Int)) 0 = bt S k := by
    unfold bt jshr
    rw [Int32.ofInt_toInt]
    show ((Int32.ofInt S).toBitVec.sshiftRight ((Int32.ofInt (k : Int) &&& 31).toBitVec.smod 32).toNat).getLsbD 0 = _
    rw [jb_k k hk, BitVec.getLsbD_sshiftRight]
    have : ¬ (32 ≤ 0) := by decide
    simp [hk]
  rw [h]
theorem bit_b {S i : Int} (i0 : 0 ≤ i) (i1 : i < 32) : bit S i ↔ bt S i.toNat = true := by
  have h := bit_bt (S := S) (k := i.toNat) (by omega)
  rw [show (i.toNat : Int) = i by omega] at h
  exact h
theorem bit_del {S k i : Int} (k0 : 0 ≤ k) (k1 : k < 32) (i0 : 0 ≤ i) (i1 : i < 32) : bit (jand S (jxor (jshl 1 k) (-1))) i ↔ bit S i ∧ i ≠ k := by
  have h := bt_shl k.toNat (by omega) i.toNat (by omega)
  rw [show (k.toNat : Int) = k by omega] at h
  rw [bit_b i0 i1, bit_b i0 i1, bt_and, bt_xor, h, bt_neg _ (by omega)]
  by_cases e : i = k
  · rw [decide_eq_true (by omega)]
    simp [e]
  · rw [decide_eq_false (by omega)]
    simp [e]
theorem bit_add {S k i : Int} (k0 : 0 ≤ k) (k1 : k < 32) (i0 : 0 ≤ i) (i1 : i < 32) : bit (jor S (jshl 1 k)) i ↔ bit S i ∨ i = k := by
  have h := bt_shl k.toNat (by omega) i.toNat (by omega)
  rw [show (k.toNat : Int) = k by omega] at h
  rw [bit_b i0 i1, bit_b i0 i1, bt_or, h]
  by_cases e : i = k
  · rw [decide_eq_true (by omega)]
    simp [e]
  · rw [decide_eq_false (by omega)]
    simp [e]
theorem bit_every {n i : Int} (n0 : 0 ≤ n) (n1 : n < 14) (i0 : 0 ≤ i) (i1 : i < 32) : bit (jshl 1 n - 1) i ↔ i < n := by
  have h := bt_every n.toNat (by omega) i.toNat (by omega)
  rw [show (n.toNat : Int) = n by omega] at h
  rw [bit_b i0 i1, h]
  by_cases e : i < n
  · rw [decide_eq_true (by omega)]; simp [e]
  · rw [decide_eq_false (by omega)]; simp [e]
theorem every_is {n : Int} (n0 : 0 ≤ n) (n1 : n < 14) : jshl 1 n = 2 ^ n.toNat := by
  have h := every_v n.toNat (by omega)
  rw [show (n.toNat : Int) = n by omega] at h
  rw [h, Int.natCast_pow]
  rfl
theorem every_b {n : Int} (n0 : 0 ≤ n) (n1 : n < 14) : 1 ≤ jshl 1 n ∧ jshl 1 n ≤ 8192 := by
  have h : ∀ k : Nat, k < 14 → 1 ≤ jshl 1 (k : Int) ∧ jshl 1 (k : Int) ≤ 8192 := by decide +kernel
  have := h n.toNat (by omega)
  rw [show (n.toNat : Int) = n by omega] at this
  exact this
/-- only bits below a number -/
def below (S n : Int) : Prop := ∀ i, 0 ≤ i → i ≤ 12 → bit S i → i < n
theorem below_every {n : Int} (n0 : 0 ≤ n) (n1 : n < 14) : below (jshl 1 n - 1) n := fun i i0 i1 h => (bit_every n0 n1 i0 (by omega)).mp h
theorem below_del {S k n : Int} (k0 : 0 ≤ k) (k1 : k < 32) (h : below S n) : below (jand S (jxor (jshl 1 k) (-1))) n := fun i i0 i1 hi => h i i0 i1 ((bit_del k0 k1 i0 (by omega)).mp hi).1
theorem below_le {S n : Int} (n0 : 0 ≤ n) (n1 : n < 14) (s0 : 0 ≤ S) (s1 : S ≤ jshl 1 n - 1) : below S n := by
  intro i i0 i1 hi
  by_cases e : i < n
  · exact e
  · exfalso
    have hb := every_b n0 n1
    have hv := every_is n0 n1
    have hle' : (2 : Nat) ^ n.toNat ≤ 2 ^ i.toNat := Nat.pow_le_pow_right (by decide) (by omega)
    have hle : (2 : Int) ^ n.toNat ≤ 2 ^ i.toNat := by exact_mod_cast hle'
    have hj := jshr_k (a := S) (k := i.toNat) (inI_s (by omega)) (by omega)
    rw [show (i.toNat : Int) = i by omega, Int.ediv_eq_zero_of_lt s0 (by omega)] at hj
    unfold bit at hi
    rw [hj] at hi
    exact absurd hi (by decide)
theorem good_E {b : PB} {n : Int} {E E' : Int → Int → Prop} {r : Int → Int} (h : ∀ t u, E t u ↔ E' t u) (hg : good b n E r) : good b n E' r :=
  ⟨hg.lr, sound_mono (fun t u e => (h t u).mp e) hg.sound, fun t u e => hg.has t u ((h t u).mpr e), hg.closed⟩
/-- both close the same -/
theorem ES_EM {m : MS} {S : Int} (hb : (bkM m).ok) (hS : below S (bkM m).ns) (t u : Int) : EMs m S t u ↔ ES (bkM m) S t u := by
  have h12 := hb.ns
  constructor
  · rintro ⟨k, k0, k1, k2, rfl, rfl⟩
    exact ⟨k, k0, hS k k0 k1 k2, k2, rfl, rfl⟩
  · rintro ⟨k, k0, k1, k2, rfl, rfl⟩
    exact ⟨k, k0, by omega, k2, rfl, rfl⟩
theorem c_by {S : Int} {m : MS} {K : MS → Prop} (hb : (bkM m).ok) (hS : below S (bkM m).ns) (h : ∀ r, good (bkM m) (bkM m).nt (ES (bkM m) S) r → K (maR m 44 r)) : C_closesBy S m K := by
  refine c_closesBy hb (fun k k0 k1 hk => ⟨hb.sa k k0 (hS k k0 k1 hk), hb.sb k k0 (hS k k0 k1 hk)⟩) (fun r hr => h r (good_E (ES_EM hb hS) hr))
