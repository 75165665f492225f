/-! EW: rules of instructions that leave the heap -/
set_option maxRecDepth 100000
theorem e_ti {n : Int} (h : inI n) : (Int32.ofInt n).toInt = n := Int32.toInt_ofInt_of_le (by have := h.1; omega) (by have := h.2; omega)
theorem e_t64 {n : Int} (h : inL n) : (Int64.ofInt n).toInt = n := Int64.toInt_ofInt_of_le (by have := h.1; omega) (by have := h.2; omega)
theorem e_32 (x : Int32) : inI x.toInt := ⟨by have := x.le_toInt; omega, by have := x.toInt_lt; omega⟩
theorem e_64 (x : Int64) : inL x.toInt := ⟨by have := x.le_toInt; omega, by have := x.toInt_lt; omega⟩
theorem e_lt {x y : Int} (hx : inI x) (hy : inI y) : Int32.ofInt x < Int32.ofInt y ↔ x < y := by rw [Int32.lt_iff_toInt_lt, e_ti hx, e_ti hy]
theorem e_le {x y : Int} (hx : inI x) (hy : inI y) : Int32.ofInt x ≤ Int32.ofInt y ↔ x ≤ y := by rw [Int32.le_iff_toInt_le, e_ti hx, e_ti hy]
theorem e_eq {x y : Int} (hx : inI x) (hy : inI y) : Int32.ofInt x = Int32.ofInt y ↔ x = y := by rw [← Int32.toInt_inj, e_ti hx, e_ti hy]
theorem e_eL {x y : Int} (hx : inL x) (hy : inL y) : Int64.ofInt x = Int64.ofInt y ↔ x = y := by rw [← Int64.toInt_inj, e_t64 hx, e_t64 hy]
theorem e_lL {x y : Int} (hx : inL x) (hy : inL y) : Int64.ofInt x < Int64.ofInt y ↔ x < y := by rw [Int64.lt_iff_toInt_lt, e_t64 hx, e_t64 hy]
theorem in0 : inI 0 := by unfold inI; omega
def jand (a b : Int) : Int := (Int32.ofInt a &&& Int32.ofInt b).toInt
def jor (a b : Int) : Int := (Int32.ofInt a ||| Int32.ofInt b).toInt
def jxor (a b : Int) : Int := (Int32.ofInt a ^^^ Int32.ofInt b).toInt
def jshl (a b : Int) : Int := (Int32.ofInt a <<< (Int32.ofInt b &&& 31)).toInt
def jshr (a b : Int) : Int := (Int32.ofInt a >>> (Int32.ofInt b &&& 31)).toInt
def jushr (a b : Int) : Int := ((Int32.ofInt a).toUInt32 >>> ((Int32.ofInt b).toUInt32 &&& Int32.toUInt32 31)).toInt32.toInt
def jwrap (a : Int) : Int := (Int32.ofInt a).toInt
def jb (a : Int) : Int := (Int32.ofInt a).toInt8.toInt32.toInt
def jlor (a b : Int) : Int := (Int64.ofInt a ||| Int64.ofInt b).toInt
def jlshl (a b : Int) : Int := (Int64.ofInt a <<< ((Int32.ofInt b).toInt64 &&& 63)).toInt
def jlcmp (a b : Int) : Int := if b < a then 1 else if a = b then 0 else -1
theorem e_cmp {x y : Int} (hx : inL x) (hy : inL y) : lg_cmp (Int64.ofInt x) (Int64.ofInt y) = Int32.ofInt (jlcmp x y) := by
  unfold lg_cmp jlcmp
  by_cases h1 : y < x
  · rw [if_pos ((e_lL hy hx).mpr h1), if_pos h1]; rfl
  · rw [if_neg (fun q => h1 ((e_lL hy hx).mp q)), if_neg h1]
    by_cases h2 : x = y
    · rw [if_pos ((e_eL hx hy).mpr h2), if_pos h2]; rfl
    · rw [if_neg (fun q => h2 ((e_eL hx hy).mp q)), if_neg h2]; rfl
section EWR
variable {M : EM} {d kc ks : Nat} {Q : AO → AH → Prop} {pc : Nat} {lv : List (Nat × AV)} {st : List AV} {h : AH}
theorem ok1 {v : AV} (hv : e_okv h v) (hs : ∀ w ∈ st, e_okv h w) : ∀ w ∈ v :: st, e_okv h w := List.forall_mem_cons.mpr ⟨hv, hs⟩
theorem okI {n : Int} (hn : inI n) (hs : ∀ w ∈ st, e_okv h w) : ∀ w ∈ aI n :: st, e_okv h w := List.forall_mem_cons.mpr ⟨hn, hs⟩
theorem okL {n : Int} (hn : inL n) (hs : ∀ w ∈ st, e_okv h w) : ∀ w ∈ aL n :: st, e_okv h w := List.forall_mem_cons.mpr ⟨hn, hs⟩
theorem ok_h {v : AV} (hs : ∀ w ∈ v :: st, e_okv h w) : e_okv h v := (List.forall_mem_cons.mp hs).1
theorem e_vI (ad : EA) (x : Int32) : e_v ad (aI x.toInt) = .int x := by show Value.int (Int32.ofInt x.toInt) = _; rw [Int32.ofInt_toInt]
theorem e_vL (ad : EA) (x : Int64) : e_v ad (aL x.toInt) = .long x := by show Value.long (Int64.ofInt x.toInt) = _; rw [Int64.ofInt_toInt]
theorem ok_t {v : AV} (hs : ∀ w ∈ v :: st, e_okv h w) : ∀ w ∈ st, e_okv h w := (List.forall_mem_cons.mp hs).2
theorem ew_iconst {n : Int} (hd : decode M.2.1 pc = .ok (.iconst n, 1)) (hn : inI n) (k : EW M d kc ks Q (pc + 1) lv (aI n :: st) h) : EW M d kc ks Q pc lv (st) h :=
  ew_of (fun lo hs => okI hn hs) (fun D p l e R s m args below meth c Z A H locs cells slots ad0 ad ls G hX hR hS hs hv hl k => lv_iconst G.1.1 G.1.2.1 hd rfl k) k
theorem ew_bipush {n : Int} (hd : decode M.2.1 pc = .ok (.bipush n, 2)) (hn : inI n) (hc : (Int8.ofInt n).toInt32 = Int32.ofInt n) (k : EW M d kc ks Q (pc + 2) lv (aI n :: st) h) : EW M d kc ks Q pc lv (st) h :=
  ew_of (fun lo hs => okI hn hs) (fun D p l e R s m args below meth c Z A H locs cells slots ad0 ad ls G hX hR hS hs hv hl k => lv_bipush G.1.1 G.1.2.1 hd hc k) k
theorem ew_sipush {n : Int} (hd : decode M.2.1 pc = .ok (.sipush n, 3)) (hn : inI n) (hc : (Int16.ofInt n).toInt32 = Int32.ofInt n) (k : EW M d kc ks Q (pc + 3) lv (aI n :: st) h) : EW M d kc ks Q pc lv (st) h :=
  ew_of (fun lo hs => okI hn hs) (fun D p l e R s m args below meth c Z A H locs cells slots ad0 ad ls G hX hR hS hs hv hl k => lv_sipush G.1.1 G.1.2.1 hd hc k) k
theorem ew_lconst {n : Fin 2} {v : Int} (hd : decode M.2.1 pc = .ok (.lconst n, 1)) (hn : inL v) (hc : Int64.ofNat (n : Nat) = Int64.ofInt v) (k : EW M d kc ks Q (pc + 1) lv (aL v :: st) h) : EW M d kc ks Q pc lv (st) h :=
  ew_of (fun lo hs => okL hn hs) (fun D p l e R s m args below meth c Z A H locs cells slots ad0 ad ls G hX hR hS hs hv hl k => lv_lconst G.1.1 G.1.2.1 hd hc k) k
theorem ew_null  (hd : decode M.2.1 pc = .ok (.aconst_null, 1)) (k : EW M d kc ks Q (pc + 1) lv (aR none :: st) h) : EW M d kc ks Q pc lv (st) h :=
  ew_of (fun lo hs => ok1 (v := aR none) trivial hs) (fun D p l e R s m args below meth c Z A H locs cells slots ad0 ad ls G hX hR hS hs hv hl k => lv_null G.1.1 G.1.2.1 hd k) k
theorem ew_iload_n {j : Fin 4} {i : Nat} {x : Int} (hd : decode M.2.1 pc = .ok (.iload_n j, 1)) (hj : (j : Nat) = i) (hm : (i, aI x) ∈ lv) (k : EW M d kc ks Q (pc + 1) lv (aI x :: st) h) : EW M d kc ks Q pc lv (st) h :=
  ew_of (fun lo hs => ok1 (lo _ hm) hs) (fun D p l e R s m args below meth c Z A H locs cells slots ad0 ad ls G hX hR hS hs hv hl k => lv_iload_n G.1.1 G.1.2.1 hd hj (hl.2.2 (i, e_v ad (aI x)) (List.mem_map.mpr ⟨_, hm, rfl⟩)) k) k
theorem ew_iload {i : Nat} {x : Int} (hd : decode M.2.1 pc = .ok (.iload i, 2)) (hm : (i, aI x) ∈ lv) (k : EW M d kc ks Q (pc + 2) lv (aI x :: st) h) : EW M d kc ks Q pc lv (st) h :=
  ew_of (fun lo hs => ok1 (lo _ hm) hs) (fun D p l e R s m args below meth c Z A H locs cells slots ad0 ad ls G hX hR hS hs hv hl k => lv_iload G.1.1 G.1.2.1 hd (hl.2.2 (i, e_v ad (aI x)) (List.mem_map.mpr ⟨_, hm, rfl⟩)) k) k
theorem ew_lload_n {j : Fin 4} {i : Nat} {x : Int} (hd : decode M.2.1 pc = .ok (.lload_n j, 1)) (hj : (j : Nat) = i) (hm : (i, aL x) ∈ lv) (k : EW M d kc ks Q (pc + 1) lv (aL x :: st) h) : EW M d kc ks Q pc lv (st) h :=
  ew_of (fun lo hs => ok1 (lo _ hm) hs) (fun D p l e R s m args below meth c Z A H locs cells slots ad0 ad ls G hX hR hS hs hv hl k => lv_lload_n G.1.1 G.1.2.1 hd hj (hl.2.2 (i, e_v ad (aL x)) (List.mem_map.mpr ⟨_, hm, rfl⟩)) k) k
theorem ew_lload {i : Nat} {x : Int} (hd : decode M.2.1 pc = .ok (.lload i, 2)) (hm : (i, aL x) ∈ lv) (k : EW M d kc ks Q (pc + 2) lv (aL x :: st) h) : EW M d kc ks Q pc lv (st) h :=
  ew_of (fun lo hs => ok1 (lo _ hm) hs) (fun D p l e R s m args below meth c Z A H locs cells slots ad0 ad ls G hX hR hS hs hv hl k => lv_lload G.1.1 G.1.2.1 hd (hl.2.2 (i, e_v ad (aL x)) (List.mem_map.mpr ⟨_, hm, rfl⟩)) k) k
theorem ew_aload_n {j : Fin 4} {i : Nat} {x : Option EId} (hd : decode M.2.1 pc = .ok (.aload_n j, 1)) (hj : (j : Nat) = i) (hm : (i, aR x) ∈ lv) (k : EW M d kc ks Q (pc + 1) lv (aR x :: st) h) : EW M d kc ks Q pc lv st h :=
  ew_of (fun lo hs => ok1 (lo _ hm) hs) (fun D p l e R s m args below meth c Z A H locs cells slots ad0 ad ls G hX hR hS hs hv hl k => by
    have h1 := hl.2.2 (i, e_v ad (aR x)) (List.mem_map.mpr ⟨_, hm, rfl⟩)
    cases x with
    | none => exact lv_aload_nN G.1.1 G.1.2.1 hd hj h1 k
    | some a => exact lv_aload_n G.1.1 G.1.2.1 hd hj h1 k) k
theorem ew_aload {i : Nat} {x : Option EId} (hd : decode M.2.1 pc = .ok (.aload i, 2))  (hm : (i, aR x) ∈ lv) (k : EW M d kc ks Q (pc + 2) lv (aR x :: st) h) : EW M d kc ks Q pc lv st h :=
  ew_of (fun lo hs => ok1 (lo _ hm) hs) (fun D p l e R s m args below meth c Z A H locs cells slots ad0 ad ls G hX hR hS hs hv hl k => by
    have h1 := hl.2.2 (i, e_v ad (aR x)) (List.mem_map.mpr ⟨_, hm, rfl⟩)
    cases x with
    | none => exact lv_aloadN G.1.1 G.1.2.1 hd h1 k
    | some a => exact lv_aload G.1.1 G.1.2.1 hd h1 k) k
theorem ew_iadd {x y : Int} (hd : decode M.2.1 pc = .ok (.iadd, 1)) (hn : inI (x + y)) (k : EW M d kc ks Q (pc + 1) lv (aI (x + y) :: st) h) : EW M d kc ks Q pc lv (aI y :: aI x :: st) h :=
  ew_of (fun lo hs => okI hn (ok_t (ok_t hs))) (fun D p l e R s m args below meth c Z A H locs cells slots ad0 ad ls G hX hR hS hs hv hl k => lv_iadd G.1.1 G.1.2.1 hd (by rw [← Int32.ofInt_add]; exact k)) k
theorem ew_isub {x y : Int} (hd : decode M.2.1 pc = .ok (.isub, 1)) (hn : inI (x - y)) (k : EW M d kc ks Q (pc + 1) lv (aI (x - y) :: st) h) : EW M d kc ks Q pc lv (aI y :: aI x :: st) h :=
  ew_of (fun lo hs => okI hn (ok_t (ok_t hs))) (fun D p l e R s m args below meth c Z A H locs cells slots ad0 ad ls G hX hR hS hs hv hl k => lv_isub G.1.1 G.1.2.1 hd (by rw [← Int32.ofInt_sub]; exact k)) k
theorem ew_imul {x y : Int} (hd : decode M.2.1 pc = .ok (.imul, 1)) (hn : inI (x * y)) (k : EW M d kc ks Q (pc + 1) lv (aI (x * y) :: st) h) : EW M d kc ks Q pc lv (aI y :: aI x :: st) h :=
  ew_of (fun lo hs => okI hn (ok_t (ok_t hs))) (fun D p l e R s m args below meth c Z A H locs cells slots ad0 ad ls G hX hR hS hs hv hl k => lv_imul G.1.1 G.1.2.1 hd (by rw [← Int32.ofInt_mul]; exact k)) k
theorem ew_iaddW {x y : Int} (hd : decode M.2.1 pc = .ok (.iadd, 1)) (k : EW M d kc ks Q (pc + 1) lv (aI (jwrap (x + y)) :: st) h) : EW M d kc ks Q pc lv (aI y :: aI x :: st) h :=
  ew_of (fun lo hs => okI (e_32 _) (ok_t (ok_t hs))) (fun D p l e R s m args below meth c Z A H locs cells slots ad0 ad ls G hX hR hS hs hv hl k => lv_iadd G.1.1 G.1.2.1 hd (by rw [← Int32.ofInt_add, ← Int32.ofInt_toInt (Int32.ofInt (x + y))]; exact k)) k
theorem ew_iand {x y : Int} (hd : decode M.2.1 pc = .ok (.iand, 1)) (k : EW M d kc ks Q (pc + 1) lv (aI (jand x y) :: st) h) : EW M d kc ks Q pc lv (aI y :: aI x :: st) h :=
  ew_of (fun lo hs => okI (e_32 _) (ok_t (ok_t hs))) (fun D p l e R s m args below meth c Z A H locs cells slots ad0 ad ls G hX hR hS hs hv hl k => lv_iand G.1.1 G.1.2.1 hd (by rw [List.map_cons, e_vI] at k; exact k)) k
theorem ew_ior {x y : Int} (hd : decode M.2.1 pc = .ok (.ior, 1)) (k : EW M d kc ks Q (pc + 1) lv (aI (jor x y) :: st) h) : EW M d kc ks Q pc lv (aI y :: aI x :: st) h :=
  ew_of (fun lo hs => okI (e_32 _) (ok_t (ok_t hs))) (fun D p l e R s m args below meth c Z A H locs cells slots ad0 ad ls G hX hR hS hs hv hl k => lv_ior G.1.1 G.1.2.1 hd (by rw [List.map_cons, e_vI] at k; exact k)) k
theorem ew_ixor {x y : Int} (hd : decode M.2.1 pc = .ok (.ixor, 1)) (k : EW M d kc ks Q (pc + 1) lv (aI (jxor x y) :: st) h) : EW M d kc ks Q pc lv (aI y :: aI x :: st) h :=
  ew_of (fun lo hs => okI (e_32 _) (ok_t (ok_t hs))) (fun D p l e R s m args below meth c Z A H locs cells slots ad0 ad ls G hX hR hS hs hv hl k => lv_ixor G.1.1 G.1.2.1 hd (by rw [List.map_cons, e_vI] at k; exact k)) k
theorem ew_ishl {x y : Int} (hd : decode M.2.1 pc = .ok (.ishl, 1)) (k : EW M d kc ks Q (pc + 1) lv (aI (jshl x y) :: st) h) : EW M d kc ks Q pc lv (aI y :: aI x :: st) h :=
  ew_of (fun lo hs => okI (e_32 _) (ok_t (ok_t hs))) (fun D p l e R s m args below meth c Z A H locs cells slots ad0 ad ls G hX hR hS hs hv hl k => lv_ishl G.1.1 G.1.2.1 hd (by rw [List.map_cons, e_vI] at k; exact k)) k
theorem ew_ishr {x y : Int} (hd : decode M.2.1 pc = .ok (.ishr, 1)) (k : EW M d kc ks Q (pc + 1) lv (aI (jshr x y) :: st) h) : EW M d kc ks Q pc lv (aI y :: aI x :: st) h :=
  ew_of (fun lo hs => okI (e_32 _) (ok_t (ok_t hs))) (fun D p l e R s m args below meth c Z A H locs cells slots ad0 ad ls G hX hR hS hs hv hl k => lv_ishr G.1.1 G.1.2.1 hd (by rw [List.map_cons, e_vI] at k; exact k)) k
theorem ew_iushr {x y : Int} (hd : decode M.2.1 pc = .ok (.iushr, 1)) (k : EW M d kc ks Q (pc + 1) lv (aI (jushr x y) :: st) h) : EW M d kc ks Q pc lv (aI y :: aI x :: st) h :=
  ew_of (fun lo hs => okI (e_32 _) (ok_t (ok_t hs))) (fun D p l e R s m args below meth c Z A H locs cells slots ad0 ad ls G hX hR hS hs hv hl k => lv_iushr G.1.1 G.1.2.1 hd (Int32.ofInt_toInt _).symm k) k
theorem ew_ladd {x y : Int} (hd : decode M.2.1 pc = .ok (.ladd, 1)) (hn : inL (x + y)) (k : EW M d kc ks Q (pc + 1) lv (aL (x + y) :: st) h) : EW M d kc ks Q pc lv (aL y :: aL x :: st) h :=
  ew_of (fun lo hs => okL hn (ok_t (ok_t hs))) (fun D p l e R s m args below meth c Z A H locs cells slots ad0 ad ls G hX hR hS hs hv hl k => lv_ladd G.1.1 G.1.2.1 hd (by rw [← Int64.ofInt_add]; exact k)) k
theorem ew_lmul {x y : Int} (hd : decode M.2.1 pc = .ok (.lmul, 1)) (hn : inL (x * y)) (k : EW M d kc ks Q (pc + 1) lv (aL (x * y) :: st) h) : EW M d kc ks Q pc lv (aL y :: aL x :: st) h :=
  ew_of (fun lo hs => okL hn (ok_t (ok_t hs))) (fun D p l e R s m args below meth c Z A H locs cells slots ad0 ad ls G hX hR hS hs hv hl k => lv_lmul G.1.1 G.1.2.1 hd (by rw [← Int64.ofInt_mul]; exact k)) k
theorem ew_lor {x y : Int} (hd : decode M.2.1 pc = .ok (.lor, 1)) (k : EW M d kc ks Q (pc + 1) lv (aL (jlor x y) :: st) h) : EW M d kc ks Q pc lv (aL y :: aL x :: st) h :=
  ew_of (fun lo hs => okL (e_64 _) (ok_t (ok_t hs))) (fun D p l e R s m args below meth c Z A H locs cells slots ad0 ad ls G hX hR hS hs hv hl k => lv_lor G.1.1 G.1.2.1 hd (by rw [List.map_cons, e_vL] at k; exact k)) k
theorem ew_lshl {x y : Int} (hd : decode M.2.1 pc = .ok (.lshl, 1)) (k : EW M d kc ks Q (pc + 1) lv (aL (jlshl x y) :: st) h) : EW M d kc ks Q pc lv (aI y :: aL x :: st) h :=
  ew_of (fun lo hs => okL (e_64 _) (ok_t (ok_t hs))) (fun D p l e R s m args below meth c Z A H locs cells slots ad0 ad ls G hX hR hS hs hv hl k => lv_lshl G.1.1 G.1.2.1 hd (Int64.ofInt_toInt _).symm k) k
theorem ew_lcmp {x y : Int} (hd : decode M.2.1 pc = .ok (.lcmp, 1)) (k : EW M d kc ks Q (pc + 1) lv (aI (jlcmp x y) :: st) h) : EW M d kc ks Q pc lv (aL y :: aL x :: st) h :=
  ew_of (fun lo hs => okI (by unfold jlcmp inI; split <;> (try split) <;> omega) (ok_t (ok_t hs))) (fun D p l e R s m args below meth c Z A H locs cells slots ad0 ad ls G hX hR hS hs hv hl k => W.lcmp G.1.1 G.1.2.1 hd (by rw [e_cmp (ok_h (ok_t hs)) (ok_h hs)]; exact k)) k
theorem ew_i2l {x : Int} (hd : decode M.2.1 pc = .ok (.i2l, 1)) (k : EW M d kc ks Q (pc + 1) lv (aL x :: st) h) : EW M d kc ks Q pc lv (aI x :: st) h :=
  ew_of (fun lo hs => okL (by have h1 : inI x := ok_h hs; exact ⟨by have := h1.1; omega, by have := h1.2; omega⟩) (ok_t hs)) (fun D p l e R s m args below meth c Z A H locs cells slots ad0 ad ls G hX hR hS hs hv hl k => lv_i2l G.1.1 G.1.2.1 hd (by have h1 : inI x := ok_h hs; exact Int64.toInt_inj.mp (by rw [Int32.toInt_toInt64, e_ti h1, e_t64 ⟨by have := h1.1; omega, by have := h1.2; omega⟩])) k) k
theorem ew_l2i {x : Int} (hd : decode M.2.1 pc = .ok (.l2i, 1)) (hn : inI x) (k : EW M d kc ks Q (pc + 1) lv (aI x :: st) h) : EW M d kc ks Q pc lv (aL x :: st) h :=
  ew_of (fun lo hs => okI hn (ok_t hs)) (fun D p l e R s m args below meth c Z A H locs cells slots ad0 ad ls G hX hR hS hs hv hl k => lv_l2i G.1.1 G.1.2.1 hd (by rw [Int64.toInt32_ofInt]) k) k
theorem ew_i2b {x : Int} (hd : decode M.2.1 pc = .ok (.i2b, 1)) (k : EW M d kc ks Q (pc + 1) lv (aI (jb x) :: st) h) : EW M d kc ks Q pc lv (aI x :: st) h :=
  ew_of (fun lo hs => okI (e_32 _) (ok_t hs)) (fun D p l e R s m args below meth c Z A H locs cells slots ad0 ad ls G hX hR hS hs hv hl k => lv_i2b G.1.1 G.1.2.1 hd (Int32.ofInt_toInt _).symm k) k
theorem ew_i2c {x : Int} (hd : decode M.2.1 pc = .ok (.i2c, 1)) (h0 : 0 ≤ x) (h1 : x < 65536) (k : EW M d kc ks Q (pc + 1) lv (aI x :: st) h) : EW M d kc ks Q pc lv (aI x :: st) h :=
  ew_of (fun lo hs => hs) (fun D p l e R s m args below meth c Z A H locs cells slots ad0 ad ls G hX hR hS hs hv hl k => lv_i2c G.1.1 G.1.2.1 hd (lg_i2c_word (by rw [e_ti (ok_h hs)]; exact h0) (by rw [e_ti (ok_h hs)]; exact h1)) k) k
theorem e_cI (ad : EA) (n : Int) : (e_v ad (aI n)).category = 1 := rfl
theorem e_cL (ad : EA) (n : Int) : (e_v ad (aL n)).category = 2 := rfl
theorem e_cR (ad : EA) (r : Option EId) : (e_v ad (aR r)).category = 1 := by cases r <;> rfl
def e_is2 : AV → Bool
  | Sum.inr (Sum.inl _) => true
  | _ => false
theorem e_cat (ad : EA) (v : AV) : (e_v ad v).category = if e_is2 v then 2 else 1 := by
  match v with
  | Sum.inl n => rfl
  | Sum.inr (Sum.inl n) => rfl
  | Sum.inr (Sum.inr none) => rfl
  | Sum.inr (Sum.inr (some i)) => rfl
theorem e_cat1 (ad : EA) {v : AV} (hv : e_is2 v = false) : (e_v ad v).category = 1 := by rw [e_cat, hv]; rfl
theorem e_cat2 (ad : EA) {v : AV} (hv : e_is2 v = true) : (e_v ad v).category = 2 := by rw [e_cat, hv]; rfl
theorem ew_dup {v : AV} (hd : decode M.2.1 pc = .ok (.dup, 1)) (hc : e_is2 v = false) (k : EW M d kc ks Q (pc + 1) lv (v :: v :: st) h) : EW M d kc ks Q pc lv (v :: st) h :=
  ew_of (fun lo hs => ok1 (ok_h hs) hs) (fun D p l e R s m args below meth c Z A H locs cells slots ad0 ad ls G hX hR hS hs hv hl k => lv_dup G.1.1 G.1.2.1 hd (e_cat1 ad hc) k) k
theorem ew_pop {v : AV} (hd : decode M.2.1 pc = .ok (.pop, 1)) (hc : e_is2 v = false) (k : EW M d kc ks Q (pc + 1) lv (st) h) : EW M d kc ks Q pc lv (v :: st) h :=
  ew_of (fun lo hs => ok_t hs) (fun D p l e R s m args below meth c Z A H locs cells slots ad0 ad ls G hX hR hS hs hv hl k => lv_pop G.1.1 G.1.2.1 hd (e_cat1 ad hc) k) k
theorem ew_dup_x1 {v w : AV} (hd : decode M.2.1 pc = .ok (.dup_x1, 1)) (hc : e_is2 v = false) (hc2 : e_is2 w = false) (k : EW M d kc ks Q (pc + 1) lv (v :: w :: v :: st) h) : EW M d kc ks Q pc lv (v :: w :: st) h :=
  ew_of (fun lo hs => ok1 (ok_h hs) (ok1 (ok_h (ok_t hs)) (ok1 (ok_h hs) (ok_t (ok_t hs))))) (fun D p l e R s m args below meth c Z A H locs cells slots ad0 ad ls G hX hR hS hs hv hl k => lv_dup_x1 G.1.1 G.1.2.1 hd (e_cat1 ad hc) (e_cat1 ad hc2) k) k
theorem ew_dup2 {v w : AV} (hd : decode M.2.1 pc = .ok (.dup2, 1)) (hc : e_is2 v = false) (hc2 : e_is2 w = false) (k : EW M d kc ks Q (pc + 1) lv (v :: w :: v :: w :: st) h) : EW M d kc ks Q pc lv (v :: w :: st) h :=
  ew_of (fun lo hs => ok1 (ok_h hs) (ok1 (ok_h (ok_t hs)) hs)) (fun D p l e R s m args below meth c Z A H locs cells slots ad0 ad ls G hX hR hS hs hv hl k => lv_dup2_11 G.1.1 G.1.2.1 hd (e_cat1 ad hc) (e_cat1 ad hc2) k) k
def e_flt (i : Nat) (l : List (Nat × AV)) : List (Nat × AV) := l.filter fun q => !(q.1 == i) && !(q.1 + 1 == i && e_is2 q.2)
def e_flt2 (i : Nat) (l : List (Nat × AV)) : List (Nat × AV) := l.filter fun q => !(q.1 == i) && (!(q.1 == i + 1) && !(q.1 + 1 == i && e_is2 q.2))
theorem e_cb (ad : EA) (v : AV) : ((e_v ad v).category == 2) = e_is2 v := by
  rw [e_cat]
  cases e_is2 v <;> rfl
theorem e_flt_map (ad : EA) (i : Nat) (l : List (Nat × AV)) : (l.map fun q => (q.1, e_v ad q.2)).filter (fun q => !(q.1 == i) && !(q.1 + 1 == i && q.2.category == 2)) = (e_flt i l).map fun q => (q.1, e_v ad q.2) := by
  unfold e_flt
  rw [List.filter_map]
  congr 1
  apply List.filter_congr
  intro q _
  simp only [Function.comp_apply, e_cb]
theorem e_flt2_map (ad : EA) (i : Nat) (l : List (Nat × AV)) : (l.map fun q => (q.1, e_v ad q.2)).filter (fun q => !(q.1 == i) && (!(q.1 == i + 1) && !(q.1 + 1 == i && q.2.category == 2))) = (e_flt2 i l).map fun q => (q.1, e_v ad q.2) := by
  unfold e_flt2
  rw [List.filter_map]
  congr 1
  apply List.filter_congr
  intro q _
  simp only [Function.comp_apply, e_cb]
/-- a step that stores a local -/
theorem ew_ofS {pc' : Nat} {lv' : List (Nat × AV)} {st' : List AV} (hok : (∀ q ∈ lv, e_okv h q.2) → (∀ v ∈ st, e_okv h v) → (∀ q ∈ lv', e_okv h q.2) ∧ ∀ v ∈ st', e_okv h v)
    (hW : ∀ (D : ED) (p : Program) (l : Launch) (e : Env) (R : Room) (s : State) (m : MethodId) (args : Array Value) (below : List Frame) (meth : Method) (c : Code) (Z : State → Prop) (A : Nat → Prop) (H : Heap) (locs : List Loc) (cells slots : Nat) (ad0 ad : EA) (ls : Array Slot),
      e_G M D p l s m args meth c ad0 A → (∀ v ∈ st, e_okv h v) → lv_has ls M.2.2.1 (lv.map fun q => (q.1, e_v ad q.2)) → (∀ ls' : Array Slot, lv_has ls' M.2.2.1 (lv'.map fun q => (q.1, e_v ad q.2)) → W p l e R s m args below meth c H locs cells slots Z (F0 m pc' ls' (st'.map (e_v ad)))) → W p l e R s m args below meth c H locs cells slots Z (F0 m pc ls (st.map (e_v ad))))
    (k : EW M d kc ks Q pc' lv' st' h) : EW M d kc ks Q pc lv st h := by
  intro D p l e R s m args below meth c Z A ad0 h0 G E H locs cells slots ad ls I hst
  obtain ⟨o1, o2⟩ := hok I.2.1.1 hst
  exact hW D p l e R s m args below meth c Z A H locs cells slots ad0 ad ls G hst I.2.1.2 (fun ls' hl' => k D p l e R s m args below meth c Z A ad0 h0 G E H locs cells slots ad ls' ⟨I.1, ⟨o1, hl'⟩, I.2.2⟩ o2)
theorem e_flt_ok {i : Nat} (lo : ∀ q ∈ lv, e_okv h q.2) : ∀ q ∈ e_flt i lv, e_okv h q.2 := fun q hq => lo q (List.mem_filter.mp hq).1
theorem e_flt2_ok {i : Nat} (lo : ∀ q ∈ lv, e_okv h q.2) : ∀ q ∈ e_flt2 i lv, e_okv h q.2 := fun q hq => lo q (List.mem_filter.mp hq).1
theorem okl {i : Nat} {v : AV} {l : List (Nat × AV)} (hv : e_okv h v) (hs : ∀ q ∈ l, e_okv h q.2) : ∀ q ∈ (i, v) :: l, e_okv h q.2 := List.forall_mem_cons.mpr ⟨hv, hs⟩
theorem ew_istore_n {j : Fin 4} {i : Nat} {x : Int} (hd : decode M.2.1 pc = .ok (.istore_n j, 1)) (hj : (j : Nat) = i) (hn : i < M.2.2.1) {lv' : List (Nat × AV)} (hl' : (i, aI x) :: e_flt i lv = lv') (k : EW M d kc ks Q (pc + 1) lv' st h) : EW M d kc ks Q pc lv (aI x :: st) h := by
  subst hl'
  exact ew_ofS (fun lo hs => ⟨okl (ok_h hs) (e_flt_ok lo), ok_t hs⟩) (fun D p l e R s m args below meth c Z A H locs cells slots ad0 ad ls G hs hl kk => lv_istore_n G.1.1 G.1.2.1 hd hj hl hn (by rw [e_flt_map]; rfl) (fun ls' hl'' => kk ls' hl'')) k
theorem ew_istore {i : Nat} {x : Int} (hd : decode M.2.1 pc = .ok (.istore i, 2))  (hn : i < M.2.2.1) {lv' : List (Nat × AV)} (hl' : (i, aI x) :: e_flt i lv = lv') (k : EW M d kc ks Q (pc + 2) lv' st h) : EW M d kc ks Q pc lv (aI x :: st) h := by
  subst hl'
  exact ew_ofS (fun lo hs => ⟨okl (ok_h hs) (e_flt_ok lo), ok_t hs⟩) (fun D p l e R s m args below meth c Z A H locs cells slots ad0 ad ls G hs hl kk => lv_istore G.1.1 G.1.2.1 hd hl hn (by rw [e_flt_map]; rfl) (fun ls' hl'' => kk ls' hl'')) k
theorem ew_lstore_n {j : Fin 4} {i : Nat} {x : Int} (hd : decode M.2.1 pc = .ok (.lstore_n j, 1)) (hj : (j : Nat) = i) (hn : i + 1 < M.2.2.1) {lv' : List (Nat × AV)} (hl' : (i, aL x) :: e_flt2 i lv = lv') (k : EW M d kc ks Q (pc + 1) lv' st h) : EW M d kc ks Q pc lv (aL x :: st) h := by
  subst hl'
  exact ew_ofS (fun lo hs => ⟨okl (ok_h hs) (e_flt2_ok lo), ok_t hs⟩) (fun D p l e R s m args below meth c Z A H locs cells slots ad0 ad ls G hs hl kk => lv_lstore_n G.1.1 G.1.2.1 hd hj hl hn (by rw [e_flt2_map]; rfl) (fun ls' hl'' => kk ls' hl'')) k
theorem ew_lstore {i : Nat} {x : Int} (hd : decode M.2.1 pc = .ok (.lstore i, 2))  (hn : i + 1 < M.2.2.1) {lv' : List (Nat × AV)} (hl' : (i, aL x) :: e_flt2 i lv = lv') (k : EW M d kc ks Q (pc + 2) lv' st h) : EW M d kc ks Q pc lv (aL x :: st) h := by
  subst hl'
  exact ew_ofS (fun lo hs => ⟨okl (ok_h hs) (e_flt2_ok lo), ok_t hs⟩) (fun D p l e R s m args below meth c Z A H locs cells slots ad0 ad ls G hs hl kk => lv_lstore G.1.1 G.1.2.1 hd hl hn (by rw [e_flt2_map]; rfl) (fun ls' hl'' => kk ls' hl'')) k
theorem ew_astore_n {j : Fin 4} {i : Nat} {x : Option EId} (hd : decode M.2.1 pc = .ok (.astore_n j, 1)) (hj : (j : Nat) = i) (hn : i < M.2.2.1) {lv' : List (Nat × AV)} (hl' : (i, aR x) :: e_flt i lv = lv') (k : EW M d kc ks Q (pc + 1) lv' st h) : EW M d kc ks Q pc lv (aR x :: st) h := by
  subst hl'
  refine ew_ofS (fun lo hs => ⟨okl (ok_h hs) (e_flt_ok lo), ok_t hs⟩) (fun D p l e R s m args below meth c Z A H locs cells slots ad0 ad ls G hs hl kk => ?_) k
  cases x with
  | none => exact lv_astore_nN G.1.1 G.1.2.1 hd hj hl hn (by rw [e_flt_map]; rfl) (fun ls' hl'' => kk ls' hl'')
  | some a => exact lv_astore_n G.1.1 G.1.2.1 hd hj hl hn (by rw [e_flt_map]; rfl) (fun ls' hl'' => kk ls' hl'')
theorem ew_astore {i : Nat} {x : Option EId} (hd : decode M.2.1 pc = .ok (.astore i, 2))  (hn : i < M.2.2.1) {lv' : List (Nat × AV)} (hl' : (i, aR x) :: e_flt i lv = lv') (k : EW M d kc ks Q (pc + 2) lv' st h) : EW M d kc ks Q pc lv (aR x :: st) h := by
  subst hl'
  refine ew_ofS (fun lo hs => ⟨okl (ok_h hs) (e_flt_ok lo), ok_t hs⟩) (fun D p l e R s m args below meth c Z A H locs cells slots ad0 ad ls G hs hl kk => ?_) k
  cases x with
  | none => exact lv_astoreN G.1.1 G.1.2.1 hd hl hn (by rw [e_flt_map]; rfl) (fun ls' hl'' => kk ls' hl'')
  | some a => exact lv_astore G.1.1 G.1.2.1 hd hl hn (by rw [e_flt_map]; rfl) (fun ls' hl'' => kk ls' hl'')
theorem ew_iinc {i : Nat} {n x : Int} (hd : decode M.2.1 pc = .ok (.iinc i n, 3)) (hm : (i, aI x) ∈ lv) (hi : i < M.2.2.1) (hn : inI (x + n)) {lv' : List (Nat × AV)} (hl' : (i, aI (x + n)) :: e_flt i lv = lv') (k : EW M d kc ks Q (pc + 3) lv' st h) : EW M d kc ks Q pc lv st h := by
  subst hl'
  refine ew_ofS (fun lo hs => ⟨okl (v := aI (x + n)) hn (e_flt_ok lo), hs⟩) (fun D p l e R s m args below meth c Z A H locs cells slots ad0 ad ls G hs hl kk => ?_) k
  obtain ⟨j, hj⟩ := List.getElem?_of_mem (List.mem_map.mpr ⟨_, hm, rfl⟩ : (i, e_v ad (aI x)) ∈ lv.map fun q => (q.1, e_v ad q.2))
  exact lv_iinc (k := j) (v := Int32.ofInt (x + n)) G.1.1 G.1.2.1 hd hl hj (Int32.ofInt_add x n).symm hi (by rw [e_flt_map]; rfl) (fun ls' hl'' => kk ls' hl'')
theorem ew_goto {off : Int} {tgt : Nat} (hd : decode M.2.1 pc = .ok (.goto off, 3)) (ht : (pc : Int) + off = (tgt : Int)) (k : EW M d kc ks Q tgt lv st h) : EW M d kc ks Q pc lv st h :=
  ew_of (fun lo hs => hs) (fun D p l e R s m args below meth c Z A H locs cells slots ad0 ad ls G hX hR hS hs hv hl k => lv_goto G.1.1 G.1.2.1 hd ht k) k
theorem ew_icmp_eq {x y : Int} {off : Int} {tgt : Nat} (hd : decode M.2.1 pc = .ok (.if_icmp .eq off, 3)) (ht : (pc : Int) + off = (tgt : Int)) (k1 : x = y → EW M d kc ks Q tgt lv st h) (k2 : ¬ x = y → EW M d kc ks Q (pc + 3) lv st h) : EW M d kc ks Q pc lv (aI y :: aI x :: st) h := by
  by_cases hc : x = y
  · exact ew_of (fun lo hs => ok_t (ok_t hs)) (fun D p l e R s m args below meth c Z A H locs cells slots ad0 ad ls G hX hR hS hs hv hl k => lv_icmp_eq G.1.1 G.1.2.1 hd ht (fun _ => k) (fun q => absurd ((e_eq (ok_h (ok_t hs)) (ok_h hs)).mpr hc) q)) (k1 hc)
  · exact ew_of (fun lo hs => ok_t (ok_t hs)) (fun D p l e R s m args below meth c Z A H locs cells slots ad0 ad ls G hX hR hS hs hv hl k => lv_icmp_eq G.1.1 G.1.2.1 hd ht (fun q => absurd ((e_eq (ok_h (ok_t hs)) (ok_h hs)).mp q) hc) (fun _ => k)) (k2 hc)
theorem ew_if_eq {x : Int} {off : Int} {tgt : Nat} (hd : decode M.2.1 pc = .ok (.ifCond .eq off, 3)) (ht : (pc : Int) + off = (tgt : Int)) (k1 : x = 0 → EW M d kc ks Q tgt lv st h) (k2 : ¬ x = 0 → EW M d kc ks Q (pc + 3) lv st h) : EW M d kc ks Q pc lv (aI x :: st) h := by
  by_cases hc : x = 0
  · exact ew_of (fun lo hs => ok_t hs) (fun D p l e R s m args below meth c Z A H locs cells slots ad0 ad ls G hX hR hS hs hv hl k => lv_if_eq G.1.1 G.1.2.1 hd ht (fun _ => k) (fun q => absurd ((e_eq (ok_h hs) in0).mpr hc) q)) (k1 hc)
  · exact ew_of (fun lo hs => ok_t hs) (fun D p l e R s m args below meth c Z A H locs cells slots ad0 ad ls G hX hR hS hs hv hl k => lv_if_eq G.1.1 G.1.2.1 hd ht (fun q => absurd ((e_eq (ok_h hs) in0).mp q) hc) (fun _ => k)) (k2 hc)
theorem ew_icmp_ne {x y : Int} {off : Int} {tgt : Nat} (hd : decode M.2.1 pc = .ok (.if_icmp .ne off, 3)) (ht : (pc : Int) + off = (tgt : Int)) (k1 : ¬ x = y → EW M d kc ks Q tgt lv st h) (k2 : x = y → EW M d kc ks Q (pc + 3) lv st h) : EW M d kc ks Q pc lv (aI y :: aI x :: st) h := by
  by_cases hc : x = y
  · exact ew_of (fun lo hs => ok_t (ok_t hs)) (fun D p l e R s m args below meth c Z A H locs cells slots ad0 ad ls G hX hR hS hs hv hl k => lv_icmp_ne G.1.1 G.1.2.1 hd ht (fun q => absurd ((e_eq (ok_h (ok_t hs)) (ok_h hs)).mpr hc) q) (fun _ => k)) (k2 hc)
  · exact ew_of (fun lo hs => ok_t (ok_t hs)) (fun D p l e R s m args below meth c Z A H locs cells slots ad0 ad ls G hX hR hS hs hv hl k => lv_icmp_ne G.1.1 G.1.2.1 hd ht (fun _ => k) (fun q => absurd ((e_eq (ok_h (ok_t hs)) (ok_h hs)).mp q) hc)) (k1 hc)
theorem ew_if_ne {x : Int} {off : Int} {tgt : Nat} (hd : decode M.2.1 pc = .ok (.ifCond .ne off, 3)) (ht : (pc : Int) + off = (tgt : Int)) (k1 : ¬ x = 0 → EW M d kc ks Q tgt lv st h) (k2 : x = 0 → EW M d kc ks Q (pc + 3) lv st h) : EW M d kc ks Q pc lv (aI x :: st) h := by
  by_cases hc : x = 0
  · exact ew_of (fun lo hs => ok_t hs) (fun D p l e R s m args below meth c Z A H locs cells slots ad0 ad ls G hX hR hS hs hv hl k => lv_if_ne G.1.1 G.1.2.1 hd ht (fun q => absurd ((e_eq (ok_h hs) in0).mpr hc) q) (fun _ => k)) (k2 hc)
  · exact ew_of (fun lo hs => ok_t hs) (fun D p l e R s m args below meth c Z A H locs cells slots ad0 ad ls G hX hR hS hs hv hl k => lv_if_ne G.1.1 G.1.2.1 hd ht (fun _ => k) (fun q => absurd ((e_eq (ok_h hs) in0).mp q) hc)) (k1 hc)
theorem ew_icmp_lt {x y : Int} {off : Int} {tgt : Nat} (hd : decode M.2.1 pc = .ok (.if_icmp .lt off, 3)) (ht : (pc : Int) + off = (tgt : Int)) (k1 : x < y → EW M d kc ks Q tgt lv st h) (k2 : ¬ x < y → EW M d kc ks Q (pc + 3) lv st h) : EW M d kc ks Q pc lv (aI y :: aI x :: st) h := by
  by_cases hc : x < y
  · exact ew_of (fun lo hs => ok_t (ok_t hs)) (fun D p l e R s m args below meth c Z A H locs cells slots ad0 ad ls G hX hR hS hs hv hl k => lv_icmp_lt G.1.1 G.1.2.1 hd ht (fun _ => k) (fun q => absurd ((e_lt (ok_h (ok_t hs)) (ok_h hs)).mpr hc) q)) (k1 hc)
  · exact ew_of (fun lo hs => ok_t (ok_t hs)) (fun D p l e R s m args below meth c Z A H locs cells slots ad0 ad ls G hX hR hS hs hv hl k => lv_icmp_lt G.1.1 G.1.2.1 hd ht (fun q => absurd ((e_lt (ok_h (ok_t hs)) (ok_h hs)).mp q) hc) (fun _ => k)) (k2 hc)
theorem ew_if_lt {x : Int} {off : Int} {tgt : Nat} (hd : decode M.2.1 pc = .ok (.ifCond .lt off, 3)) (ht : (pc : Int) + off = (tgt : Int)) (k1 : x < 0 → EW M d kc ks Q tgt lv st h) (k2 : ¬ x < 0 → EW M d kc ks Q (pc + 3) lv st h) : EW M d kc ks Q pc lv (aI x :: st) h := by
  by_cases hc : x < 0
  · exact ew_of (fun lo hs => ok_t hs) (fun D p l e R s m args below meth c Z A H locs cells slots ad0 ad ls G hX hR hS hs hv hl k => lv_if_lt G.1.1 G.1.2.1 hd ht (fun _ => k) (fun q => absurd ((e_lt (ok_h hs) in0).mpr hc) q)) (k1 hc)
  · exact ew_of (fun lo hs => ok_t hs) (fun D p l e R s m args below meth c Z A H locs cells slots ad0 ad ls G hX hR hS hs hv hl k => lv_if_lt G.1.1 G.1.2.1 hd ht (fun q => absurd ((e_lt (ok_h hs) in0).mp q) hc) (fun _ => k)) (k2 hc)
theorem ew_icmp_ge {x y : Int} {off : Int} {tgt : Nat} (hd : decode M.2.1 pc = .ok (.if_icmp .ge off, 3)) (ht : (pc : Int) + off = (tgt : Int)) (k1 : y ≤ x → EW M d kc ks Q tgt lv st h) (k2 : ¬ y ≤ x → EW M d kc ks Q (pc + 3) lv st h) : EW M d kc ks Q pc lv (aI y :: aI x :: st) h := by
  by_cases hc : y ≤ x
  · exact ew_of (fun lo hs => ok_t (ok_t hs)) (fun D p l e R s m args below meth c Z A H locs cells slots ad0 ad ls G hX hR hS hs hv hl k => lv_icmp_ge G.1.1 G.1.2.1 hd ht (fun _ => k) (fun q => absurd ((e_le (ok_h hs) (ok_h (ok_t hs))).mpr hc) q)) (k1 hc)
  · exact ew_of (fun lo hs => ok_t (ok_t hs)) (fun D p l e R s m args below meth c Z A H locs cells slots ad0 ad ls G hX hR hS hs hv hl k => lv_icmp_ge G.1.1 G.1.2.1 hd ht (fun q => absurd ((e_le (ok_h hs) (ok_h (ok_t hs))).mp q) hc) (fun _ => k)) (k2 hc)
theorem ew_if_ge {x : Int} {off : Int} {tgt : Nat} (hd : decode M.2.1 pc = .ok (.ifCond .ge off, 3)) (ht : (pc : Int) + off = (tgt : Int)) (k1 : 0 ≤ x → EW M d kc ks Q tgt lv st h) (k2 : ¬ 0 ≤ x → EW M d kc ks Q (pc + 3) lv st h) : EW M d kc ks Q pc lv (aI x :: st) h := by
  by_cases hc : 0 ≤ x
  · exact ew_of (fun lo hs => ok_t hs) (fun D p l e R s m args below meth c Z A H locs cells slots ad0 ad ls G hX hR hS hs hv hl k => lv_if_ge G.1.1 G.1.2.1 hd ht (fun _ => k) (fun q => absurd ((e_le in0 (ok_h hs)).mpr hc) q)) (k1 hc)
  · exact ew_of (fun lo hs => ok_t hs) (fun D p l e R s m args below meth c Z A H locs cells slots ad0 ad ls G hX hR hS hs hv hl k => lv_if_ge G.1.1 G.1.2.1 hd ht (fun q => absurd ((e_le in0 (ok_h hs)).mp q) hc) (fun _ => k)) (k2 hc)
theorem ew_icmp_gt {x y : Int} {off : Int} {tgt : Nat} (hd : decode M.2.1 pc = .ok (.if_icmp .gt off, 3)) (ht : (pc : Int) + off = (tgt : Int)) (k1 : y < x → EW M d kc ks Q tgt lv st h) (k2 : ¬ y < x → EW M d kc ks Q (pc + 3) lv st h) : EW M d kc ks Q pc lv (aI y :: aI x :: st) h := by
  by_cases hc : y < x
  · exact ew_of (fun lo hs => ok_t (ok_t hs)) (fun D p l e R s m args below meth c Z A H locs cells slots ad0 ad ls G hX hR hS hs hv hl k => lv_icmp_gt G.1.1 G.1.2.1 hd ht (fun _ => k) (fun q => absurd ((e_lt (ok_h hs) (ok_h (ok_t hs))).mpr hc) q)) (k1 hc)
  · exact ew_of (fun lo hs => ok_t (ok_t hs)) (fun D p l e R s m args below meth c Z A H locs cells slots ad0 ad ls G hX hR hS hs hv hl k => lv_icmp_gt G.1.1 G.1.2.1 hd ht (fun q => absurd ((e_lt (ok_h hs) (ok_h (ok_t hs))).mp q) hc) (fun _ => k)) (k2 hc)
theorem ew_if_gt {x : Int} {off : Int} {tgt : Nat} (hd : decode M.2.1 pc = .ok (.ifCond .gt off, 3)) (ht : (pc : Int) + off = (tgt : Int)) (k1 : 0 < x → EW M d kc ks Q tgt lv st h) (k2 : ¬ 0 < x → EW M d kc ks Q (pc + 3) lv st h) : EW M d kc ks Q pc lv (aI x :: st) h := by
  by_cases hc : 0 < x
  · exact ew_of (fun lo hs => ok_t hs) (fun D p l e R s m args below meth c Z A H locs cells slots ad0 ad ls G hX hR hS hs hv hl k => lv_if_gt G.1.1 G.1.2.1 hd ht (fun _ => k) (fun q => absurd ((e_lt in0 (ok_h hs)).mpr hc) q)) (k1 hc)
  · exact ew_of (fun lo hs => ok_t hs) (fun D p l e R s m args below meth c Z A H locs cells slots ad0 ad ls G hX hR hS hs hv hl k => lv_if_gt G.1.1 G.1.2.1 hd ht (fun q => absurd ((e_lt in0 (ok_h hs)).mp q) hc) (fun _ => k)) (k2 hc)
theorem ew_icmp_le {x y : Int} {off : Int} {tgt : Nat} (hd : decode M.2.1 pc = .ok (.if_icmp .le off, 3)) (ht : (pc : Int) + off = (tgt : Int)) (k1 : x ≤ y → EW M d kc ks Q tgt lv st h) (k2 : ¬ x ≤ y → EW M d kc ks Q (pc + 3) lv st h) : EW M d kc ks Q pc lv (aI y :: aI x :: st) h := by
  by_cases hc : x ≤ y
  · exact ew_of (fun lo hs => ok_t (ok_t hs)) (fun D p l e R s m args below meth c Z A H locs cells slots ad0 ad ls G hX hR hS hs hv hl k => lv_icmp_le G.1.1 G.1.2.1 hd ht (fun _ => k) (fun q => absurd ((e_le (ok_h (ok_t hs)) (ok_h hs)).mpr hc) q)) (k1 hc)
  · exact ew_of (fun lo hs => ok_t (ok_t hs)) (fun D p l e R s m args below meth c Z A H locs cells slots ad0 ad ls G hX hR hS hs hv hl k => lv_icmp_le G.1.1 G.1.2.1 hd ht (fun q => absurd ((e_le (ok_h (ok_t hs)) (ok_h hs)).mp q) hc) (fun _ => k)) (k2 hc)
theorem ew_if_le {x : Int} {off : Int} {tgt : Nat} (hd : decode M.2.1 pc = .ok (.ifCond .le off, 3)) (ht : (pc : Int) + off = (tgt : Int)) (k1 : x ≤ 0 → EW M d kc ks Q tgt lv st h) (k2 : ¬ x ≤ 0 → EW M d kc ks Q (pc + 3) lv st h) : EW M d kc ks Q pc lv (aI x :: st) h := by
  by_cases hc : x ≤ 0
  · exact ew_of (fun lo hs => ok_t hs) (fun D p l e R s m args below meth c Z A H locs cells slots ad0 ad ls G hX hR hS hs hv hl k => lv_if_le G.1.1 G.1.2.1 hd ht (fun _ => k) (fun q => absurd ((e_le (ok_h hs) in0).mpr hc) q)) (k1 hc)
  · exact ew_of (fun lo hs => ok_t hs) (fun D p l e R s m args below meth c Z A H locs cells slots ad0 ad ls G hX hR hS hs hv hl k => lv_if_le G.1.1 G.1.2.1 hd ht (fun q => absurd ((e_le (ok_h hs) in0).mp q) hc) (fun _ => k)) (k2 hc)
theorem ew_ifnull {r : Option EId} {off : Int} {tgt : Nat} (hd : decode M.2.1 pc = .ok (.ifnull off, 3)) (ht : (pc : Int) + off = (tgt : Int)) (k1 : r = none → EW M d kc ks Q tgt lv st h) (k2 : ¬ r = none → EW M d kc ks Q (pc + 3) lv st h) : EW M d kc ks Q pc lv (aR r :: st) h := by
  cases r with
  | none => exact ew_of (fun lo hs => ok_t hs) (fun D p l e R s m args below meth c Z A H locs cells slots ad0 ad ls G hX hR hS hs hv hl k => lv_ifnullN G.1.1 G.1.2.1 hd ht k) (k1 rfl)
  | some a => exact ew_of (fun lo hs => ok_t hs) (fun D p l e R s m args below meth c Z A H locs cells slots ad0 ad ls G hX hR hS hs hv hl k => lv_ifnull G.1.1 G.1.2.1 hd k) (k2 (fun q => by cases q))
theorem ew_ifnonnull {r : Option EId} {off : Int} {tgt : Nat} (hd : decode M.2.1 pc = .ok (.ifnonnull off, 3)) (ht : (pc : Int) + off = (tgt : Int)) (k1 : ¬ r = none → EW M d kc ks Q tgt lv st h) (k2 : r = none → EW M d kc ks Q (pc + 3) lv st h) : EW M d kc ks Q pc lv (aR r :: st) h := by
  cases r with
  | none => exact ew_of (fun lo hs => ok_t hs) (fun D p l e R s m args below meth c Z A H locs cells slots ad0 ad ls G hX hR hS hs hv hl k => lv_ifnonnullN G.1.1 G.1.2.1 hd k) (k2 rfl)
  | some a => exact ew_of (fun lo hs => ok_t hs) (fun D p l e R s m args below meth c Z A H locs cells slots ad0 ad ls G hX hR hS hs hv hl k => lv_ifnonnull G.1.1 G.1.2.1 hd ht k) (k1 (fun q => by cases q))
theorem ew_tableOut {x dflt lo hi : Int} {offs : Array Int} {len tgt : Nat} (hd : decode M.2.1 pc = .ok (.tableswitch dflt lo hi offs, len)) (hc : x < lo ∨ hi < x) (ht : (pc : Int) + dflt = (tgt : Int)) (k : EW M d kc ks Q tgt lv st h) : EW M d kc ks Q pc lv (aI x :: st) h :=
  ew_of (fun lo hs => ok_t hs) (fun D p l e R s m args below meth c Z A H locs cells slots ad0 ad ls G hX hR hS hs hv hl k => lv_tableOut G.1.1 G.1.2.1 hd (by rw [e_ti (ok_h hs)]; exact hc) ht k) k
theorem ew_tableIn {x dflt lo hi off : Int} {offs : Array Int} {len tgt : Nat} (hd : decode M.2.1 pc = .ok (.tableswitch dflt lo hi offs, len)) (h1 : ¬ x < lo) (h2 : ¬ hi < x) (ho : offs[(x - lo).toNat]? = some off) (ht : (pc : Int) + off = (tgt : Int)) (k : EW M d kc ks Q tgt lv st h) : EW M d kc ks Q pc lv (aI x :: st) h :=
  ew_of (fun lo hs => ok_t hs) (fun D p l e R s m args below meth c Z A H locs cells slots ad0 ad ls G hX hR hS hs hv hl k => lv_tableIn G.1.1 G.1.2.1 hd (by rw [e_ti (ok_h hs)]; exact h1) (by rw [e_ti (ok_h hs)]; exact h2) (by rw [e_ti (ok_h hs)]; exact ho) ht k) k
theorem ew_ldc {idx : Nat} {n : Int} (hd : decode M.2.1 pc = .ok (.ldc idx, 2)) (hn : inI n) (hw : Cond.constant M.1.cls idx (Int32.ofInt n) ∈ lw_all) (k : EW M d kc ks Q (pc + 2) lv (aI n :: st) h) : EW M d kc ks Q pc lv st h :=
  ew_of (fun lo hs => okI hn hs) (fun D p l e R s m args below meth c Z A H locs cells slots ad0 ad ls G hX hR hS hs hv hl k => lv_ldc G.1.1 G.1.2.1 G.1.2.2.2.2.2.1 (G.2.1.1 _ hw) hd k) k
theorem ew_ldc_w {idx : Nat} {n : Int} (hd : decode M.2.1 pc = .ok (.ldc_w idx, 3)) (hn : inI n) (hw : Cond.constant M.1.cls idx (Int32.ofInt n) ∈ lw_all) (k : EW M d kc ks Q (pc + 3) lv (aI n :: st) h) : EW M d kc ks Q pc lv st h :=
  ew_of (fun lo hs => okI hn hs) (fun D p l e R s m args below meth c Z A H locs cells slots ad0 ad ls G hX hR hS hs hv hl k => lv_ldcw G.1.1 G.1.2.1 G.1.2.2.2.2.2.1 (G.2.1.1 _ hw) hd k) k
theorem ew_ldc2 {idx : Nat} {n : Int} (hd : decode M.2.1 pc = .ok (.ldc2_w idx, 3)) (hn : inL n) (hw : Cond.constantLong M.1.cls idx (Int64.ofInt n) ∈ lw_all) (k : EW M d kc ks Q (pc + 3) lv (aL n :: st) h) : EW M d kc ks Q pc lv st h :=
  ew_of (fun lo hs => okL hn hs) (fun D p l e R s m args below meth c Z A H locs cells slots ad0 ad ls G hX hR hS hs hv hl k => lv_ldc2 G.1.1 G.1.2.1 G.1.2.2.2.2.2.1 (G.2.1.1 _ hw) hd k) k
/-- a String constant -/
theorem ew_ldcS {idx i : Nat} {tx : String} (hd : decode M.2.1 pc = .ok (.ldc idx, 2)) (hw : (M.1.cls, idx, tx, i) ∈ e_strs) (k : EW M d kc ks Q (pc + 2) lv (aR (some (9, 13, i)) :: st) h) : EW M d kc ks Q pc lv st h :=
  ew_of (fun lo hs => ok1 (v := aR (some (9, 13, i))) (Or.inr rfl) hs) (fun D p l e R s m args below meth c Z A H locs cells slots ad0 ad ls G hX hR hS hs hv hl k => va_ldcS G.1.1 G.1.2.1 G.1.2.2.2.2.2.1 (by have h1 := G.2.2.2.1.2.1.2 _ hw; rw [← hX (9, 13, i) (Or.inr rfl)] at h1; exact h1) hd k) k
end EWR
