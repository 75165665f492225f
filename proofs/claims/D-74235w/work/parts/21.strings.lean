/-! Constants: rules; String.length, charAt, indexOf; Integer.valueOf, intValue -/
set_option maxRecDepth 100000
section EWK
variable {M : EM} {d kc ks : Nat} {Q : AO → AH → Prop} {pc idx : Nat} {lv : List (Nat × AV)} {st rest : List AV} {h : AH}
theorem e_a9 {ad0 ad : EA} (hX : e_X (fun _ => none) ad0 ad) (a b : Nat) : ad (9, a, b) = ad0 (9, a, b) := hX _ (Or.inr rfl)
/-- a static of which a reference or null is known -/
theorem ew_getsQ {k : Nat} {o n ds : String} (hd : decode M.2.1 pc = .ok (.getstatic idx, 3)) (hz : e_zqs[k]? = some (o, n, ds)) (w1 : Cond.fieldLink M.1.cls idx o n ds ∈ lw_all) (k1 : ∀ v : Option EId, v = none ∨ v = some (9, 17, k) → EW M d kc ks Q (pc + 3) lv (aR v :: st) h) : EW M d kc ks Q pc lv st h := by
  intro D p l e R s m args below meth c Z A ad0 h0 G E H locs cells slots ad ls I hst
  have hX : e_X (fun _ => none) ad0 ad := fun i hi => I.1.2.1 i (Or.inr (hi.resolve_left fun q => q rfl))
  have hz := G.2.2.2.1.2.2.2.2.1 k _ hz
  refine va_gets G.1.1 G.1.2.1 (v := e_zv ad0 k) hz I.1.2.2.2 G.1.2.2.2.2.2.1 (G.2.1.1 _ w1) (fun x hx => hx) hd ?_
  unfold e_zv
  by_cases e0 : ad0 (9, 18, k) = 0
  · rw [if_pos e0]
    exact k1 _ (Or.inl rfl) D p l e R s m args below meth c Z A ad0 h0 G E H locs cells slots ad ls I (List.forall_mem_cons.mpr ⟨trivial, hst⟩)
  · rw [if_neg e0, ← e_a9 hX 17 k]
    exact k1 _ (Or.inr rfl) D p l e R s m args below meth c Z A ad0 h0 G E H locs cells slots ad ls I (List.forall_mem_cons.mpr ⟨Or.inr rfl, hst⟩)
/-- value and coder of a literal -/
theorem ew_kval {i : Nat} (hi : i < 5) (hd : decode M.2.1 pc = .ok (.getfield idx, 3)) (w1 : Cond.fieldLink M.1.cls idx "java/lang/String" "value" "[B" ∈ lw_all) (k : EW M d kc ks Q (pc + 3) lv (aR (some (9, 14, i)) :: st) h) : EW M d kc ks Q pc lv (aR (some (9, 13, i)) :: st) h :=
  ew_of (st' := (aR (some (9, 14, i)) :: st)) (fun lo hs => List.forall_mem_cons.mpr ⟨Or.inr rfl, ok_t hs⟩) (fun D p l e R s m args below meth c Z A H locs cells slots ad0 ad ls G hX hR hS hs hv hl k => by
    refine vk_getf G.1.1 G.1.2.1 (o := "java/lang/String") (v := .ref (ad (9, 14, i))) (q := ad (9, 13, i)) ?_ hS G.1.2.2.2.2.2.1 (G.2.1.1 _ w1) (fun x hx => hx) hd k
    rw [e_a9 hX, e_a9 hX]
    exact (G.2.2.2.1.2.1.1.1 i hi).2.2.1) k
theorem ew_kcoder {i : Nat} (hi : i < 5) (hd : decode M.2.1 pc = .ok (.getfield idx, 3)) (w1 : Cond.fieldLink M.1.cls idx "java/lang/String" "coder" "B" ∈ lw_all) (k : EW M d kc ks Q (pc + 3) lv (aI 0 :: st) h) : EW M d kc ks Q pc lv (aR (some (9, 13, i)) :: st) h :=
  ew_of (st' := (aI 0 :: st)) (fun lo hs => List.forall_mem_cons.mpr ⟨in0, ok_t hs⟩) (fun D p l e R s m args below meth c Z A H locs cells slots ad0 ad ls G hX hR hS hs hv hl k => by
    refine vk_getf G.1.1 G.1.2.1 (o := "java/lang/String") (v := .int 0) (q := ad (9, 13, i)) ?_ hS G.1.2.2.2.2.2.1 (G.2.1.1 _ w1) (fun x hx => hx) hd k
    rw [e_a9 hX]
    exact (G.2.2.2.1.2.1.1.1 i hi).2.1) k
theorem e_len5 {i : Nat} (hi : i < 5) : e_len.getD i 0 ≤ 5 := by
  rcases (show i = 0 ∨ i = 1 ∨ i = 2 ∨ i = 3 ∨ i = 4 by omega) with rfl | rfl | rfl | rfl | rfl <;> decide
theorem ew_kalen {i : Nat} (hi : i < 5) (hd : decode M.2.1 pc = .ok (.arraylength, 1)) (k : EW M d kc ks Q (pc + 1) lv (aI ((e_len.getD i 0 : Nat) : Int) :: st) h) : EW M d kc ks Q pc lv (aR (some (9, 14, i)) :: st) h := by
  have h5 := e_len5 hi
  refine ew_of (st' := (aI ((e_len.getD i 0 : Nat) : Int) :: st)) (fun lo hs => List.forall_mem_cons.mpr ⟨(⟨by omega, by omega⟩ : inI _), ok_t hs⟩) (fun D p l e R s m args below meth c Z A H locs cells slots ad0 ad ls G hX hR hS hs hv hl k => ?_) k
  obtain ⟨cell, h1, h2, h3, h4, h5, h6, h7⟩ := ((G.2.2.2.1.2.1.1.1 i hi).2.2.2).kept hS.2.1
  replace h1 : H[ad (9, 14, i)]? = some cell := by rw [e_a9 hX]; exact h1
  exact W.alen (n := Int32.ofInt ((e_len.getD i 0 : Nat) : Int)) G.1.1 G.1.2.1 h1 h2 (by rw [Int32.ofInt_eq_ofNat]; exact h5) rfl rfl hd k
theorem ew_kbald {i : Nat} {x : Int} (hi : i < 5) (hd : decode M.2.1 pc = .ok (.baload, 1)) (h0 : 0 ≤ x) (h1 : x < ((e_len.getD i 0 : Nat) : Int)) (k : EW M d kc ks Q (pc + 1) lv (aI ((e_byt.getD i []).getD x.toNat 0).toInt :: st) h) : EW M d kc ks Q pc lv (aI x :: aR (some (9, 14, i)) :: st) h := by
  have h5 := e_len5 hi
  have hx : inI x := ⟨by omega, by omega⟩
  obtain ⟨x1, x2⟩ := e_ix hx h0
  refine ew_of (st' := (aI ((e_byt.getD i []).getD x.toNat 0).toInt :: st)) (fun lo hs => List.forall_mem_cons.mpr ⟨(⟨Int32.le_toInt _, Int32.toInt_lt _⟩ : inI _), ok_t (ok_t hs)⟩) (fun D p l e R s m args below meth c Z A H locs cells slots ad0 ad ls G hX hR hS hs hv hl k => ?_) k
  obtain ⟨cell, h1', h2, h3, h4, h5', h6, h7⟩ := ((G.2.2.2.1.2.1.1.1 i hi).2.2.2).kept hS.2.1
  replace h1' : H[ad (9, 14, i)]? = some cell := by rw [e_a9 hX]; exact h1'
  have hk : e_v ad (aI ((e_byt.getD i []).getD x.toNat 0).toInt) = .int ((e_byt.getD i []).getD (Int32.ofInt x).toNatClampNeg 0) := by
    show Value.int (Int32.ofInt _) = _
    rw [Int32.ofInt_toInt, x1]
  rw [List.map_cons, hk] at k
  have hlt : (Int32.ofInt x).toNatClampNeg < e_len.getD i 0 := by rw [x1]; omega
  exact W.bald G.1.1 G.1.2.1 h1' h2 h3 (fun q => by rcases q with q | q; exact x2 q; omega) (h6 _ hlt) rfl rfl hd k
/-- references out of a constant array -/
theorem ew_kaald {x : Int} (hd : decode M.2.1 pc = .ok (.aaload, 1)) (h0 : 0 ≤ x) (h1 : x < 256) (k : EW M d kc ks Q (pc + 1) lv (aR (some (9, 12, x.toNat)) :: st) h) : EW M d kc ks Q pc lv (aI x :: aR (some (9, 15, 0)) :: st) h := by
  obtain ⟨x1, x2⟩ := e_ix (i := x) ⟨by omega, by omega⟩ h0
  refine ew_of (st' := (aR (some (9, 12, x.toNat)) :: st)) (fun lo hs => List.forall_mem_cons.mpr ⟨Or.inr rfl, ok_t (ok_t hs)⟩) (fun D p l e R s m args below meth c Z A H locs cells slots ad0 ad ls G hX hR hS hs hv hl k => ?_) k
  refine vb_tq G.1.1 G.1.2.1 (N := 256) (t := ad (9, 15, 0)) (f := fun k => .ref (ad0 (9, 12, k))) (by rw [e_a9 hX]; exact G.2.2.2.1.1.2) hS (fun q => by rcases q with q | q; exact x2 q; omega) (v := .ref (ad (9, 12, x.toNat))) (by rw [x1, e_a9 hX]) hd k
theorem ew_kaaldS {x : Int} (hd : decode M.2.1 pc = .ok (.aaload, 1)) (h0 : 0 ≤ x) (h1 : x < 4) (k : EW M d kc ks Q (pc + 1) lv (aR (some (9, 13, x.toNat)) :: st) h) : EW M d kc ks Q pc lv (aI x :: aR (some (9, 16, 0)) :: st) h := by
  obtain ⟨x1, x2⟩ := e_ix (i := x) ⟨by omega, by omega⟩ h0
  refine ew_of (st' := (aR (some (9, 13, x.toNat)) :: st)) (fun lo hs => List.forall_mem_cons.mpr ⟨Or.inr rfl, ok_t (ok_t hs)⟩) (fun D p l e R s m args below meth c Z A H locs cells slots ad0 ad ls G hX hR hS hs hv hl k => ?_) k
  refine vb_tq G.1.1 G.1.2.1 (N := 4) (t := ad (9, 16, 0)) (f := fun k => .ref (ad0 (9, 13, k))) (by rw [e_a9 hX]; exact G.2.2.2.1.2.2.1) hS (fun q => by rcases q with q | q; exact x2 q; omega) (v := .ref (ad (9, 13, x.toNat))) (by rw [x1, e_a9 hX]) hd k
theorem ew_kalenS (hd : decode M.2.1 pc = .ok (.arraylength, 1)) (k : EW M d kc ks Q (pc + 1) lv (aI 4 :: st) h) : EW M d kc ks Q pc lv (aR (some (9, 16, 0)) :: st) h := by
  refine ew_of (st' := (aI 4 :: st)) (fun lo hs => List.forall_mem_cons.mpr ⟨(⟨by omega, by omega⟩ : inI 4), ok_t hs⟩) (fun D p l e R s m args below meth c Z A H locs cells slots ad0 ad ls G hX hR hS hs hv hl k => ?_) k
  obtain ⟨cell, h1, h2, h3, h4, h5, h6, h7⟩ := (G.2.2.2.1.2.2.1).kept hS.2.1
  replace h1 : H[ad (9, 16, 0)]? = some cell := by rw [e_a9 hX]; exact h1
  exact W.alen (n := 4) G.1.1 G.1.2.1 h1 h2 h5 rfl rfl hd k
/-- the number of a cached Integer -/
theorem ew_kint {x : Nat} (hx : x < 256) (hd : decode M.2.1 pc = .ok (.getfield idx, 3)) (w1 : Cond.fieldLink M.1.cls idx "java/lang/Integer" "value" "I" ∈ lw_all) (k : EW M d kc ks Q (pc + 3) lv (aI ((x : Int) - 128) :: st) h) : EW M d kc ks Q pc lv (aR (some (9, 12, x)) :: st) h :=
  ew_of (st' := (aI ((x : Int) - 128) :: st)) (fun lo hs => List.forall_mem_cons.mpr ⟨(⟨by omega, by omega⟩ : inI _), ok_t hs⟩) (fun D p l e R s m args below meth c Z A H locs cells slots ad0 ad ls G hX hR hS hs hv hl k => by
    refine vk_getf G.1.1 G.1.2.1 (o := "java/lang/Integer") (v := .int (Int32.ofInt ((x : Int) - 128))) (q := ad (9, 12, x)) ?_ hS G.1.2.2.2.2.2.1 (G.2.1.1 _ w1) (fun x hx => hx) hd k
    have e : Int32.ofInt ((x : Int) - 128) = vb_c x := by
      unfold vb_c
      rw [Int32.ofInt_sub, Int32.ofInt_eq_ofNat]
      rfl
    rw [e_a9 hX, e]
    exact G.2.2.2.1.1.1.2 x hx) k
end EWK
def jmax (x y : Int) : Int := if x < y then y else x
def jmin (x y : Int) : Int := if y < x then y else x
theorem e_ltL {x y : Int} (hx : inL x) (hy : inL y) : Int64.ofInt x < Int64.ofInt y ↔ x < y := by
  rw [Int64.lt_iff_toInt_lt, Int64.toInt_ofInt_of_le hx.1 hx.2, Int64.toInt_ofInt_of_le hy.1 hy.2]
section EWMM
variable {M : EM} {d kc ks : Nat} {Q : AO → AH → Prop} {pc idx : Nat} {lv : List (Nat × AV)} {st rest : List AV} {h : AH} {x y : Int}
theorem ew_max (hd : decode M.2.1 pc = .ok (.invokestatic idx, 3)) (w1 : Cond.methodLink M.1.cls idx ⟨"java/lang/Math", "max", "(II)I"⟩ ∈ lw_all) (h8 : (rest.map fun v => if e_is2 v then 2 else 1).sum ≤ 8) (k : EW M (d + 1) kc ks Q (pc + 3) lv (aI (jmax x y) :: rest) h) : EW M (d + 1) kc ks Q pc lv (aI y :: aI x :: rest) h := by
  intro D p l e R s m args below meth c Z A ad0 h0 G E H locs cells slots ad ls I hst
  obtain ⟨a1, a2, a3, a4⟩ := I.2.2
  have := e_cat8 ad h8
  have hy : inI y := ok_h hst
  have hx : inI x := ok_h (ok_t hst)
  have K := k D p l e R s m args below meth c Z A ad0 h0 G E H locs cells slots ad ls I (List.forall_mem_cons.mpr ⟨(by unfold jmax; split; exact hy; exact hx : inI (jmax x y)), ok_t (ok_t hst)⟩)
  have e1 : e_v ad (aI (jmax x y)) = .int (if Int32.ofInt x < Int32.ofInt y then Int32.ofInt y else Int32.ofInt x) := by
    show Value.int (Int32.ofInt (jmax x y)) = _
    unfold jmax
    by_cases z : x < y
    · rw [if_pos z, if_pos ((e_lt hx hy).mpr z)]
    · rw [if_neg z, if_neg (fun q => z ((e_lt hx hy).mp q))]
  rw [List.map_cons, e1] at K
  exact va_mmax G.1.1 G.1.2.1 (G.1.2.2.1.trans I.2.1.2.1.symm) G.1.2.2.2.2.2.1 (G.2.1.1 _ w1) (G.2.1.1 _ q494) (G.2.1.1 _ q121) (G.2.1.1 _ q495) (by omega) (by omega) (by omega) (by omega) hd K
theorem ew_min (hd : decode M.2.1 pc = .ok (.invokestatic idx, 3)) (w1 : Cond.methodLink M.1.cls idx ⟨"java/lang/Math", "min", "(II)I"⟩ ∈ lw_all) (h8 : (rest.map fun v => if e_is2 v then 2 else 1).sum ≤ 8) (k : EW M (d + 1) kc ks Q (pc + 3) lv (aI (jmin x y) :: rest) h) : EW M (d + 1) kc ks Q pc lv (aI y :: aI x :: rest) h := by
  intro D p l e R s m args below meth c Z A ad0 h0 G E H locs cells slots ad ls I hst
  obtain ⟨a1, a2, a3, a4⟩ := I.2.2
  have := e_cat8 ad h8
  have hy : inI y := ok_h hst
  have hx : inI x := ok_h (ok_t hst)
  have K := k D p l e R s m args below meth c Z A ad0 h0 G E H locs cells slots ad ls I (List.forall_mem_cons.mpr ⟨(by unfold jmin; split; exact hy; exact hx : inI (jmin x y)), ok_t (ok_t hst)⟩)
  have e1 : e_v ad (aI (jmin x y)) = .int (if Int32.ofInt y < Int32.ofInt x then Int32.ofInt y else Int32.ofInt x) := by
    show Value.int (Int32.ofInt (jmin x y)) = _
    unfold jmin
    by_cases z : y < x
    · rw [if_pos z, if_pos ((e_lt hy hx).mpr z)]
    · rw [if_neg z, if_neg (fun q => z ((e_lt hy hx).mp q))]
  rw [List.map_cons, e1] at K
  exact va_mmin G.1.1 G.1.2.1 (G.1.2.2.1.trans I.2.1.2.1.symm) G.1.2.2.2.2.2.1 (G.2.1.1 _ w1) (G.2.1.1 _ q497) (G.2.1.1 _ q121) (G.2.1.1 _ q498) (by omega) (by omega) (by omega) (by omega) hd K
theorem ew_minL (hd : decode M.2.1 pc = .ok (.invokestatic idx, 3)) (w1 : Cond.methodLink M.1.cls idx ⟨"java/lang/Math", "min", "(JJ)J"⟩ ∈ lw_all) (h8 : (rest.map fun v => if e_is2 v then 2 else 1).sum ≤ 8) (k : EW M (d + 1) kc ks Q (pc + 3) lv (aL (jmin x y) :: rest) h) : EW M (d + 1) kc ks Q pc lv (aL y :: aL x :: rest) h := by
  intro D p l e R s m args below meth c Z A ad0 h0 G E H locs cells slots ad ls I hst
  obtain ⟨a1, a2, a3, a4⟩ := I.2.2
  have := e_cat8 ad h8
  have hy : inL y := ok_h hst
  have hx : inL x := ok_h (ok_t hst)
  have K := k D p l e R s m args below meth c Z A ad0 h0 G E H locs cells slots ad ls I (List.forall_mem_cons.mpr ⟨(by unfold jmin; split; exact hy; exact hx : inL (jmin x y)), ok_t (ok_t hst)⟩)
  have e1 : e_v ad (aL (jmin x y)) = .long (if Int64.ofInt y < Int64.ofInt x then Int64.ofInt y else Int64.ofInt x) := by
    show Value.long (Int64.ofInt (jmin x y)) = _
    unfold jmin
    by_cases z : y < x
    · rw [if_pos z, if_pos ((e_ltL hy hx).mpr z)]
    · rw [if_neg z, if_neg (fun q => z ((e_ltL hy hx).mp q))]
  rw [List.map_cons, e1] at K
  exact va_mmin_long G.1.1 G.1.2.1 (G.1.2.2.1.trans I.2.1.2.1.symm) G.1.2.2.2.2.2.1 (G.2.1.1 _ w1) (G.2.1.1 _ q1271) (G.2.1.1 _ q121) (G.2.1.1 _ q1272) (by omega) (by omega) (by omega) (by omega) hd K
end EWMM
section EWKC
variable {M M' : EM} {d kc ks mc ms : Nat} {Q Q' : AO → AH → Prop} {pc : Nat} {lv : List (Nat × AV)} {rest : List AV} {h : AH}
/-- a call to a literal -/
theorem ew_callVk {idx n x : Nat} {as st : List AV} (hx : x < 5) (hst0 : as.reverse ++ aR (some (9, 13, x)) :: rest = st) (hd : decode M.2.1 pc = .ok (.invokevirtual idx, 3)) (hm : e_mth M' n) (hn : as.length = n) (hC : M'.1.cls = "java/lang/String")
    (w1 : Cond.methodLink M.1.cls idx M'.1 ∈ lw_all) (w2 : Cond.instanceMethod M'.1 ∈ lw_all) (w3 : Cond.selects M'.1.cls M'.1 M'.1 ∈ lw_all) (h8 : (rest.map fun v => if e_is2 v then 2 else 1).sum ≤ 8) (hmc : mc ≤ kc) (hms : ms ≤ ks)
    (hS : Sp M' d mc ms (aR (some (9, 13, x)) :: as) h Q')
    (kr : ∀ o h', Q' (Sum.inl o) h' → (∀ i, h i ≠ none → h' i ≠ none) → EW M (d + 1) (kc - mc) (ks - ms) Q (pc + 3) lv (o.toList ++ rest) h')
    (kx : ∀ E i h', Q' (Sum.inr (E, i)) h' → (∀ i, h i ≠ none → h' i ≠ none) → EX M (d + 1) (kc - mc) (ks - ms) Q pc lv h' E i) :
    EW M (d + 1) kc ks Q pc lv st h := by
  subst hst0
  intro D p l e R s m args below meth c Z A ad0 h0 G E H locs cells slots ad ls I hst
  have hX : e_X (fun _ => none) ad0 ad := fun i hi => I.1.2.1 i (Or.inr (hi.resolve_left fun q => q rfl))
  obtain ⟨ok1, ok2⟩ := ok_as hst
  have hM := hS D l ad H.size G.2.2.2.2.2 ok1
  rw [hm.ws] at hM
  rw [e_mapR]
  have hp : PreV s H M'.1.cls (ad (9, 13, x)) (e_Pc D ad h H.size (aR (some (9, 13, x)) :: as)) (as.map (e_v ad)) := ⟨e_blind, by rw [hC, e_a9 hX]; exact vk_recv (i := x) G.2.2.2.1.2.1.1 hx I.1.2.2.2, fun U hU hW => e_pre G I U hU hW⟩
  have hfix : CallFix p m c M.2.1 M.2.2.1 s args lw_all M.1.cls := ⟨G.1.1, G.1.2.1, G.1.2.2.1, G.1.2.2.2.2.2.1, G.2.1.1⟩
  obtain ⟨a1, a2, a3, a4⟩ := I.2.2
  obtain ⟨⟨⟨b1, b2, b3, b4, b5, b6⟩, b7, b8, b9⟩, b10⟩ := e_C6 (mc := mc) (ms := ms) G hm a3 a4
  refine e_call (n := 3) (a := (Value.ref (ad (9, 13, x)) :: as.map (e_v ad)).toArray) G E I ok2 hmc hms ?_ kr kx
  exact vx_runV hfix hM ⟨⟨b1, b2, b3, b4, b5, b6, b7, b8, b9, b10, G.2.1.1 _ w1⟩, G.2.1.1 _ w2, G.2.1.1 _ w3⟩ hp rfl (by rw [List.length_map]; exact hn) I.2.1.2.1 rfl (lv_room (e_cat8 ad h8)) hd ⟨by omega, by omega⟩
/-- a call to a cached Integer -/
theorem ew_callVi {idx n x : Nat} {as st : List AV} (hx : x < 256) (hst0 : as.reverse ++ aR (some (9, 12, x)) :: rest = st) (hd : decode M.2.1 pc = .ok (.invokevirtual idx, 3)) (hm : e_mth M' n) (hn : as.length = n) (hC : M'.1.cls = "java/lang/Integer")
    (w1 : Cond.methodLink M.1.cls idx M'.1 ∈ lw_all) (w2 : Cond.instanceMethod M'.1 ∈ lw_all) (w3 : Cond.selects M'.1.cls M'.1 M'.1 ∈ lw_all) (h8 : (rest.map fun v => if e_is2 v then 2 else 1).sum ≤ 8) (hmc : mc ≤ kc) (hms : ms ≤ ks)
    (hS : Sp M' d mc ms (aR (some (9, 12, x)) :: as) h Q')
    (kr : ∀ o h', Q' (Sum.inl o) h' → (∀ i, h i ≠ none → h' i ≠ none) → EW M (d + 1) (kc - mc) (ks - ms) Q (pc + 3) lv (o.toList ++ rest) h')
    (kx : ∀ E i h', Q' (Sum.inr (E, i)) h' → (∀ i, h i ≠ none → h' i ≠ none) → EX M (d + 1) (kc - mc) (ks - ms) Q pc lv h' E i) :
    EW M (d + 1) kc ks Q pc lv st h := by
  subst hst0
  intro D p l e R s m args below meth c Z A ad0 h0 G E H locs cells slots ad ls I hst
  have hX : e_X (fun _ => none) ad0 ad := fun i hi => I.1.2.1 i (Or.inr (hi.resolve_left fun q => q rfl))
  obtain ⟨ok1, ok2⟩ := ok_as hst
  have hM := hS D l ad H.size G.2.2.2.2.2 ok1
  rw [hm.ws] at hM
  rw [e_mapR]
  have hp : PreV s H M'.1.cls (ad (9, 12, x)) (e_Pc D ad h H.size (aR (some (9, 12, x)) :: as)) (as.map (e_v ad)) := ⟨e_blind, by rw [hC, e_a9 hX]; (obtain ⟨cell, h1, h2, h3, -⟩ := (G.2.2.2.1.1.1.1 x hx).kept I.1.2.2.2.2.1; exact ⟨cell, h1, h2, h3⟩), fun U hU hW => e_pre G I U hU hW⟩
  have hfix : CallFix p m c M.2.1 M.2.2.1 s args lw_all M.1.cls := ⟨G.1.1, G.1.2.1, G.1.2.2.1, G.1.2.2.2.2.2.1, G.2.1.1⟩
  obtain ⟨a1, a2, a3, a4⟩ := I.2.2
  obtain ⟨⟨⟨b1, b2, b3, b4, b5, b6⟩, b7, b8, b9⟩, b10⟩ := e_C6 (mc := mc) (ms := ms) G hm a3 a4
  refine e_call (n := 3) (a := (Value.ref (ad (9, 12, x)) :: as.map (e_v ad)).toArray) G E I ok2 hmc hms ?_ kr kx
  exact vx_runV hfix hM ⟨⟨b1, b2, b3, b4, b5, b6, b7, b8, b9, b10, G.2.1.1 _ w1⟩, G.2.1.1 _ w2, G.2.1.1 _ w3⟩ hp rfl (by rw [List.length_map]; exact hn) I.2.1.2.1 rfl (lv_room (e_cat8 ad h8)) hd ⟨by omega, by omega⟩
end EWKC
