/-! THE PURE PART, 65: many -/
set_option maxRecDepth 100000
theorem jand_le {S y : Int} (h0 : 0 ≤ S) (h1 : S < 2147483648) : 0 ≤ jand S y ∧ jand S y ≤ S := by
  have e : (Int32.ofInt S).toBitVec.toNat = S.toNat := by
    rw [Int32.toBitVec_ofInt, show S = ((S.toNat : Nat) : Int) by omega, BitVec.ofInt_natCast, BitVec.toNat_ofNat, Nat.mod_eq_of_lt (by omega)]
    omega
  have hle : ((Int32.ofInt S).toBitVec &&& (Int32.ofInt y).toBitVec).toNat ≤ S.toNat := by
    rw [BitVec.toNat_and, e]; exact Nat.and_le_left
  have h : jand S y = ((((Int32.ofInt S).toBitVec &&& (Int32.ofInt y).toBitVec).toNat : Nat) : Int) := by
    unfold jand
    show ((Int32.ofInt S &&& Int32.ofInt y).toBitVec).toInt = _
    rw [Int32.toBitVec_and, BitVec.toInt_eq_toNat_of_lt (by omega)]
  omega
theorem del_lt {S k : Int} (h0 : 0 ≤ S) (h1 : S < 4096) (k0 : 0 ≤ k) (k1 : k < 32) (hb : bit S k) : 0 ≤ jand S (jxor (jshl 1 k) (-1)) ∧ jand S (jxor (jshl 1 k) (-1)) < S := by
  have h := jand_le (S := S) (y := jxor (jshl 1 k) (-1)) h0 (by omega)
  refine ⟨h.1, ?_⟩
  by_cases e : jand S (jxor (jshl 1 k) (-1)) = S
  · have := (bit_del (S := S) k0 k1 k0 k1)
    rw [e] at this
    exact absurd rfl (this.mp hb).2
  · omega
def qX (s s' : XS) : Prop := s'.1.1 = s.1.1 ∧ (∀ k, k ≠ 14 → s'.1.2 k = s.1.2 k) ∧ ∀ j, j ≠ 3 → s'.2 j = s.2 j
def qM (m m' : MS) : Prop := m'.1 = m.1 ∧ ∀ k, k ≠ 44 → k ≠ 46 → m'.2 k = m.2 k
theorem qX.rf {s : XS} : qX s s := ⟨rfl, fun _ _ => rfl, fun _ _ => rfl⟩
theorem qM.rf {m : MS} : qM m m := ⟨rfl, fun _ _ _ => rfl⟩
theorem qX.p {s s1 s2 : XS} (h : qX s s1) (g : pX s1 s2) : qX s s2 := ⟨by rw [g.1]; exact h.1, fun k q => by rw [g.1]; exact h.2.1 k q, fun j q => (g.2 j q).trans (h.2.2 j q)⟩
theorem qM.p {s s1 s2 : MS} (h : qM s s1) (g : pM s1 s2) : qM s s2 := ⟨g.1.trans h.1, fun k q q2 => (g.2 k q).trans (h.2 k q q2)⟩
theorem qX.x {s s' : XS} (h : qX s s') : eqX s s' := ⟨fun _ _ _ => by rw [h.1], fun k _ q _ _ _ => h.2.1 k q, h.2.2 2 (by decide), fun _ _ => by rw [h.2.2 4 (by decide)], fun _ _ _ => by rw [h.2.2 4 (by decide)]⟩
theorem qM.m {m m' : MS} (h : qM m m') : eqM m m' := ⟨fun _ _ => by rw [h.1], fun k q _ _ => h.2 k (fun e => q (by unfold mscA; omega)) (fun e => q (by unfold mscA; omega)), fun _ _ _ => by rw [h.2 31 (by decide) (by decide), h.2 32 (by decide) (by decide)]; exact ⟨rfl, rfl⟩⟩
theorem qM.bk {m m' : MS} (h : qM m m') : bkM m' = bkM m := by
  unfold bkM
  rw [h.1, h.2 7 (by decide) (by decide), h.2 28 (by decide) (by decide), h.2 29 (by decide) (by decide), h.2 31 (by decide) (by decide), h.2 32 (by decide) (by decide), h.2 34 (by decide) (by decide), h.2 35 (by decide) (by decide)]
theorem qX.rxb {b : PB} {s s' : XS} (h : qX s s') (hr : RXb b s) : RXb b s' := hr.of (fun _ _ => by rw [h.1]) (fun k hk => h.2.1 k (by omega))
/-- which sets are enough, kept -/
def kp (P : Int → Prop) (n : Int) (f : Int → Int) : Prop := ∀ T, 0 ≤ T → T < n → (P T → f T = 1) ∧ (¬ P T → f T = 0)
theorem kp_s {P : Int → Prop} {n v : Int} {f : Int → Int} (h : kp P n f) (hv : (P n → v = 1) ∧ (¬ P n → v = 0)) : kp P (n + 1) (iup f n v) := fun T t0 t1 => by
  by_cases e : T = n
  · rw [e, iup_at]; exact hv
  · rw [iup_ne e]; exact h T t0 (by omega)
def lsS (P : Int → Prop) (ns S : Int) : Prop := P S ∧ ∀ k, 0 ≤ k → k < ns → bit S k → ¬ P (jand S (jxor (jshl 1 k) (-1)))
theorem x_has {a k : Int} {K : Int → Prop} (h1 : bit a k → K 1) (h0 : ¬ bit a k → K 0) : C_X1_has a k K := by
  unfold C_X1_has B_X1_has_E
  first
    | exact ⟨fun q => h0 (bit_no.mp q), fun q => h1 (Classical.not_not.mp (fun g => q (bit_no.mpr g)))⟩
    | exact ⟨fun q => h1 q, fun q => h0 q⟩
