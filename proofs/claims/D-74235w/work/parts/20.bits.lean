/-! Bits -/
set_option maxRecDepth 100000
theorem jb_k : ∀ k : Nat, k < 32 → ((Int32.ofInt (k : Int) &&& 31).toBitVec.smod 32).toNat = k := by decide
theorem jshr_k {a : Int} {k : Nat} (ha : inI a) (hk : k < 32) : jshr a k = a / 2 ^ k := by
  unfold jshr
  show ((Int32.ofInt a >>> (Int32.ofInt (k : Int) &&& 31)).toBitVec).toInt = _
  rw [Int32.toBitVec_shiftRight]
  unfold BitVec.sshiftRight'
  rw [BitVec.toInt_sshiftRight, jb_k k hk, Int.shiftRight_eq_div_pow]
  congr 1
  exact e_ti ha
theorem jshr_1 {n : Nat} (hn : n < 2147483648) : jshr (n : Int) 1 = ((n / 2 : Nat) : Int) := by
  have h := jshr_k (a := (n : Int)) (k := 1) ⟨by omega, by omega⟩ (by omega)
  rw [show ((1 : Nat) : Int) = 1 from rfl] at h
  rw [h]
  omega
section EWAC
variable {M : EM} {d kc ks : Nat} {Q : AO → AH → Prop} {pc : Nat} {lv : List (Nat × AV)} {st : List AV} {h : AH}
/-- one and the same -/
theorem ew_acmp_neS {r : Option EId} {off : Int} {tgt : Nat} (hd : decode M.2.1 pc = .ok (.if_acmp .ne off, 3)) (ht : (pc : Int) + off = (tgt : Int)) (k : EW M d kc ks Q (pc + 3) lv st h) : EW M d kc ks Q pc lv (aR r :: aR r :: st) h := by
  intro D p l e R s m args below meth c Z A ad0 h0 G E H locs cells slots ad ls I hst
  have K := k D p l e R s m args below meth c Z A ad0 h0 G E H locs cells slots ad ls I (ok_t (ok_t hst))
  have e1 : e_v ad (aR r) = va_rf (r.map ad) := by cases r <;> rfl
  rw [List.map_cons, List.map_cons, e1]
  exact lv_acmp_ne G.1.1 G.1.2.1 hd ht (fun c => absurd rfl c) (fun _ => K)
end EWAC
section EWAB
variable {M : EM} {d kc ks : Nat} {Q : AO → AH → Prop} {pc : Nat} {lv : List (Nat × AV)} {st : List AV} {h : AH}
theorem ew_anewB {idx N : Nat} {i : EId} {n : Int} (hd : decode M.2.1 pc = .ok (.anewarray idx, 3)) (w1 : Cond.classLink M.1.cls idx "java/lang/Object" ∈ lw_all) (h0 : n = (N : Int)) (hN : N ≤ 10000) (hi : h i = none) (h9 : i.1 ≠ 9) (b1 : 1 ≤ kc) (b2 : N ≤ ks)
    (k : EW M d (kc - 1) (ks - N) Q (pc + 3) lv (aR (some i) :: st) (hup h i (kQ 0 N (fun _ => none)))) : EW M d kc ks Q pc lv (aI n :: st) h :=
  ew_room (Nat.le_refl _) (by omega) (by omega) (ew_anew hd w1 h0 hN hi h9 k)
theorem ew_newIB {at9 : ArrayType} {t N : Nat} {i : EId} {n : Int} (hd : decode M.2.1 pc = .ok (.newarray at9, 2)) (ht : newarray.typeOf at9 = e_ty t) (ht3 : t < 3) (hw : Cond.arrayClass (newarray.typeOf at9) ∈ lw_all) (h0 : n = (N : Int)) (hN : N ≤ 10000) (hi : h i = none) (h9 : i.1 ≠ 9) (b1 : 1 ≤ kc) (b2 : N ≤ ks)
    (k : EW M d (kc - 1) (ks - N) Q (pc + 2) lv (aR (some i) :: st) (hup h i (kI t N (fun _ => 0)))) : EW M d kc ks Q pc lv (aI n :: st) h :=
  ew_room (Nat.le_refl _) (by omega) (by omega) (ew_newI hd ht ht3 hw h0 hN hi h9 k)
theorem ew_newLB {N : Nat} {i : EId} {n : Int} (hd : decode M.2.1 pc = .ok (.newarray .long, 2)) (hw : Cond.arrayClass .long ∈ lw_all) (h0 : n = (N : Int)) (hN : N ≤ 10000) (hi : h i = none) (h9 : i.1 ≠ 9) (b1 : 1 ≤ kc) (b2 : N ≤ ks)
    (k : EW M d (kc - 1) (ks - N) Q (pc + 2) lv (aR (some i) :: st) (hup h i (kL N (fun _ => 0)))) : EW M d kc ks Q pc lv (aI n :: st) h :=
  ew_room (Nat.le_refl _) (by omega) (by omega) (ew_newL hd hw h0 hN hi h9 k)
theorem ew_newB {idx ci n : Nat} {i : EId} {fs : Nat → AV} {r : vw_C} (hd : decode M.2.1 pc = .ok (.new idx, 3)) (hr : e_cl[ci]? = some r) (hn : r.2.2 = n) (w1 : Cond.classLink M.1.cls idx r.1 ∈ lw_all) (w2 : Cond.instantiable r.1 n ∈ lw_all) (w3 : Cond.initialized r.1 ∈ lw_all) (hfs : ∀ k, k < n → ∃ ty, parseFieldDescriptor (r.2.1 k).2.2.1 = some ty ∧ e_def ty (fs k)) (hi : h i = none) (h9 : i.1 ≠ 9) (b1 : 1 ≤ kc) (b2 : n ≤ ks)
    (k : EW M d (kc - 1) (ks - n) Q (pc + 3) lv (aR (some i) :: st) (hup h i (kO ci fs))) : EW M d kc ks Q pc lv st h :=
  ew_room (Nat.le_refl _) (by omega) (by omega) (ew_new hd hr hn w1 w2 w3 hfs hi h9 k)
end EWAB
