/-! EW: making cells; casts; statics; references in arrays -/
set_option maxRecDepth 100000
section EWA
variable {M : EM} {d kc ks : Nat} {Q : AO → AH → Prop} {pc : Nat} {lv : List (Nat × AV)} {st : List AV} {h : AH}
/-- a step that makes a cell, under the name i -/
theorem ew_ofN {pc' n : Nat} {st' : List AV} {i : EId} {c1 : ACell} (hi : h i = none) (h9 : i.1 ≠ 9) (hok : (∀ v ∈ st, e_okv h v) → ∀ v ∈ st', e_okv h v) (hok1 : e_okc h c1)
    (hW : ∀ (D : ED) (p : Program) (l : Launch) (e : Env) (R : Room) (s : State) (m : MethodId) (args : Array Value) (below : List Frame) (meth : Method) (c : Code) (Z : State → Prop) (A : Nat → Prop) (H : Heap) (locs : List Loc) (cells slots : Nat) (ad0 ad : EA) (ls : Array Slot),
      e_G M D p l s m args meth c ad0 A → (∀ v ∈ st, e_okv h v) → cells + 1 ≤ R.cells → slots + n ≤ R.slots → e_X (fun _ => none) ad0 ad →
      (∀ (H1 : Heap) (ad' : EA), (ad' = fun j => if j = i then H.size else ad j) → (∀ ad'' : EA, e_at D ad'' H.size H1 c1) → H1.size = H.size + 1 → (∀ q : Nat, q < H.size → H1[q]? = H[q]?) → W p l e R s m args below meth c H1 locs (cells + 1) (slots + n) Z (F0 m pc' ls (.ref H.size :: st'.map (e_v ad)))) → W p l e R s m args below meth c H locs cells slots Z (F0 m pc ls (st.map (e_v ad))))
    (k : EW M d kc ks Q pc' lv (aR (some i) :: st') (hup h i c1)) : EW M d (kc + 1) (ks + n) Q pc lv st h := by
  intro D p l e R s m args below meth c Z A ad0 h0 G E H locs cells slots ad ls I hst
  obtain ⟨⟨hR, hX, hdm, hS⟩, ⟨lo, hl⟩, r1, r2, r3, r4⟩ := I
  refine hW D p l e R s m args below meth c Z A H locs cells slots ad0 ad ls G hst (by omega) (by omega) (fun i hi => hX i (Or.inr (hi.resolve_left fun q => q rfl))) (fun H1 ad' ead hc z oq => ?_)
  have hA : A H.size := G.2.2.2.2.1 _ hS.1
  obtain ⟨hR', hX'⟩ := hR.make hi h9 rfl (hc _) hA hok1 oq
  rw [← ead] at hR' hX'
  have hst' : (aR (some i) :: st').map (e_v ad') = .ref H.size :: st'.map (e_v ad) := by
    rw [List.map_cons]
    congr 1
    · show Value.ref (ad' i) = _
      rw [ead]
      show Value.ref (if i = i then H.size else ad i) = _
      rw [if_pos rfl]
    · exact List.map_congr_left fun v hv => e_v_eq (hok hst v hv) hX'
  have hlv : (lv.map fun q => (q.1, e_v ad' q.2)) = lv.map fun q => (q.1, e_v ad q.2) := List.map_congr_left fun q hq => by rw [e_v_eq (lo q hq) hX']
  have K := k D p l e R s m args below meth c Z A ad0 h0 G E H1 locs (cells + 1) (slots + n) ad' ls
    ⟨⟨hR', hX.trans hdm hX', fun j hj => hup_dom j (hdm j hj), ⟨Nat.le_trans hS.1 (by omega), fun x h1 h2 => (oq x (Nat.lt_of_lt_of_le h1 hS.1)).trans (hS.2.1 x h1 h2), hS.2.2⟩⟩, ⟨fun q hq => (lo q hq).mono hup_dom, by rw [hlv]; exact hl⟩, by omega, by omega, r3, r4⟩
    (List.forall_mem_cons.mpr ⟨Or.inl (by rw [hup_self]; exact fun q => by cases q), fun v hv => (hok hst v hv).mono hup_dom⟩)
  rw [hst'] at K
  exact K
theorem ew_new {idx ci n : Nat} {i : EId} {fs : Nat → AV} {r : vw_C} (hd : decode M.2.1 pc = .ok (.new idx, 3)) (hr : e_cl[ci]? = some r) (hn : r.2.2 = n) (w1 : Cond.classLink M.1.cls idx r.1 ∈ lw_all) (w2 : Cond.instantiable r.1 n ∈ lw_all) (w3 : Cond.initialized r.1 ∈ lw_all) (hfs : ∀ k, k < n → ∃ ty, parseFieldDescriptor (r.2.1 k).2.2.1 = some ty ∧ e_def ty (fs k)) (hi : h i = none) (h9 : i.1 ≠ 9)
    (k : EW M d kc ks Q (pc + 3) lv (aR (some i) :: st) (hup h i (kO ci fs))) : EW M d (kc + 1) (ks + n) Q pc lv st h := by
  subst hn
  have hdv : ∀ (ad : EA) (j : Nat) (ty0 : FieldType), j < r.2.2 → parseFieldDescriptor (r.2.1 j).2.2.1 = some ty0 → defaultValue ty0 = e_v ad (fs j) := by
    intro ad j ty0 hj hp
    obtain ⟨ty, h1, h2⟩ := hfs j hj
    cases h1.symm.trans hp
    exact e_def_ok ad h2
  refine ew_ofN (c1 := kO ci fs) hi h9 (fun hs => hs) (fun j r' hr' hj => ?_) (fun D p l e R s m args below meth c Z A H locs cells slots ad0 ad ls G hs r1 r2 hX kk => ?_) k
  · cases (e_cx_of hr).symm.trans hr'
    obtain ⟨ty, h1, h2⟩ := hfs j hj
    revert h2
    cases ty <;> intro h2 <;> first | exact False.elim h2 | (rw [show fs j = aI 0 from h2]; exact in0) | (rw [show fs j = aL 0 from h2]; exact ⟨by omega, by omega⟩) | (rw [show fs j = aR none from h2]; trivial)
  · obtain ⟨hin, ty0, hty0, hnm⟩ := e_cl_ok ci r hr
    have hKn := G.2.2.1.1 ci r hr
    refine W.newcK G.1.1 G.1.2.1 G.1.2.2.2.2.2.1 (G.2.1.1 _ w1) (G.2.1.1 _ w2) (G.2.1.1 _ w3) rfl hd r1 r2 hKn.2.1 rfl fun H1 kC hkC e1 z1 o1 => ?_
    refine kk H1 _ rfl (fun ad'' => ⟨r, e_cx_of hr, (u_born ty0 G.2.1.1 hin hKn hkC e1 hty0).to fun j hj => hdv ad'' j _ hj (hty0 j hj)⟩) z1 o1
theorem e_cls {D : ED} {s : State} (hK : e_K D s) {t : Nat} (ht : t < 4) {cA : ClassId} (h : s.vm.findClass ("[" ++ (e_ty t).toString) = some cA) : cA = D.2 t := by
  have h1 := (hK.2 t (by omega)).2
  rcases (show t = 0 ∨ t = 1 ∨ t = 2 ∨ t = 3 by omega) with rfl | rfl | rfl | rfl <;> exact Option.some.inj (h.symm.trans h1)
theorem ew_newI {at9 : ArrayType} {t N : Nat} {i : EId} {n : Int} (hd : decode M.2.1 pc = .ok (.newarray at9, 2)) (ht : newarray.typeOf at9 = e_ty t) (ht3 : t < 3) (hw : Cond.arrayClass (newarray.typeOf at9) ∈ lw_all) (h0 : n = (N : Int)) (hN : N ≤ 10000) (hi : h i = none) (h9 : i.1 ≠ 9)
    (k : EW M d kc ks Q (pc + 2) lv (aR (some i) :: st) (hup h i (kI t N (fun _ => 0)))) : EW M d (kc + 1) (ks + N) Q pc lv (aI n :: st) h := by
  subst h0
  refine ew_ofN (c1 := kI t N (fun _ => 0)) hi h9 (fun hs => ok_t hs) (fun j hj => in0) (fun D p l e R s m args below meth c Z A H locs cells slots ad0 ad ls G hs r1 r2 hX kk => ?_) k
  obtain ⟨x1, x2⟩ := e_ix (i := (N : Int)) (ok_h hs) (by omega)
  have hb : N * componentBytes (newarray.typeOf at9) ≤ 536870912 := by
    have : componentBytes (newarray.typeOf at9) ≤ 8 := by cases at9 <;> decide
    calc N * componentBytes (newarray.typeOf at9) ≤ 10000 * 8 := Nat.mul_le_mul hN this
      _ ≤ 536870912 := by decide
  refine va_newaK G.1.1 G.1.2.1 (G.2.1.1 _ hw) rfl hd rfl x2 (by rw [x1]; exact Int.toNat_natCast N) hb r1 r2 rfl fun H1 cA e1 z1 o1 hAr hNm => ?_
  rw [ht] at hNm e1
  have hcA : cA = D.2 t := e_cls G.2.2.1 (by omega) hNm
  subst hcA
  refine kk H1 _ rfl (fun ad'' => ⟨ht3, e1.trans ?_⟩) z1 o1
  rcases (show t = 0 ∨ t = 1 ∨ t = 2 by omega) with rfl | rfl | rfl <;> rfl
theorem ew_newL {N : Nat} {i : EId} {n : Int} (hd : decode M.2.1 pc = .ok (.newarray .long, 2)) (hw : Cond.arrayClass .long ∈ lw_all) (h0 : n = (N : Int)) (hN : N ≤ 10000) (hi : h i = none) (h9 : i.1 ≠ 9)
    (k : EW M d kc ks Q (pc + 2) lv (aR (some i) :: st) (hup h i (kL N (fun _ => 0)))) : EW M d (kc + 1) (ks + N) Q pc lv (aI n :: st) h := by
  subst h0
  refine ew_ofN (c1 := kL N (fun _ => 0)) hi h9 (fun hs => ok_t hs) (fun j hj => (⟨by decide, by decide⟩ : inL 0)) (fun D p l e R s m args below meth c Z A H locs cells slots ad0 ad ls G hs r1 r2 hX kk => ?_) k
  obtain ⟨x1, x2⟩ := e_ix (i := (N : Int)) (ok_h hs) (by omega)
  have hb : N * componentBytes (newarray.typeOf .long) ≤ 536870912 := by
    have : componentBytes (newarray.typeOf .long) ≤ 8 := by decide
    calc N * componentBytes (newarray.typeOf .long) ≤ 10000 * 8 := Nat.mul_le_mul hN this
      _ ≤ 536870912 := by decide
  refine va_newaK G.1.1 G.1.2.1 (atype := .long) (G.2.1.1 _ hw) rfl hd rfl x2 (by rw [x1]; exact Int.toNat_natCast N) hb r1 r2 rfl fun H1 cA e1 z1 o1 hAr hNm => ?_
  have hcA : cA = D.2 3 := e_cls (t := 3) G.2.2.1 (by omega) hNm
  subst hcA
  exact kk H1 _ rfl (fun ad'' => e1) z1 o1
theorem ew_anew {idx N : Nat} {i : EId} {n : Int} (hd : decode M.2.1 pc = .ok (.anewarray idx, 3)) (w1 : Cond.classLink M.1.cls idx "java/lang/Object" ∈ lw_all) (h0 : n = (N : Int)) (hN : N ≤ 10000) (hi : h i = none) (h9 : i.1 ≠ 9)
    (k : EW M d kc ks Q (pc + 3) lv (aR (some i) :: st) (hup h i (kQ 0 N (fun _ => none)))) : EW M d (kc + 1) (ks + N) Q pc lv (aI n :: st) h := by
  subst h0
  refine ew_ofN (c1 := kQ 0 N (fun _ => none)) hi h9 (fun hs => ok_t hs) (fun j hj => trivial) (fun D p l e R s m args below meth c Z A H locs cells slots ad0 ad ls G hs r1 r2 hX kk => ?_) k
  obtain ⟨x1, x2⟩ := e_ix (i := (N : Int)) (ok_h hs) (by omega)
  have x3 : (Int32.ofInt (N : Int)).toNatClampNeg = N := by rw [x1]; exact Int.toNat_natCast N
  refine W.anew G.1.1 G.1.2.1 G.1.2.2.2.2.2.1 (G.2.1.1 _ w1) (va_AO.use G.2.1.2.2.2.1) rfl hd rfl x2 (by rw [x3]; omega) r1 (by rw [x3]; exact r2) fun cA kA comp f1 f2 f3 f4 => ?_
  obtain ⟨kA', comp', -, -, -, g4⟩ := (G.2.2.1.2 4 (by omega)).2
  have hcA : cA = D.2 4 := Option.some.inj (f1.symm.trans g4)
  subst hcA
  rw [x3]
  refine kk _ _ rfl (fun ad'' => ⟨by omega, ?_⟩) (by rw [Array.size_push]) (fun q hq => by rw [Array.getElem?_push, if_neg (Nat.ne_of_lt hq)])
  rw [Array.getElem?_push_size]
  congr 1
  exact arrV_new (D.2 4) N .null
/-- a cast -/
theorem ew_castN {idx : Nat} (hd : decode M.2.1 pc = .ok (.checkcast idx, 3)) (k : EW M d kc ks Q (pc + 3) lv (aR none :: st) h) : EW M d kc ks Q pc lv (aR none :: st) h :=
  ew_of (fun lo hs => hs) (fun D p l e R s m args below meth c Z A H locs cells slots ad0 ad ls G hX hR hS hs hv hl k => lv_castN G.1.1 G.1.2.1 hd k) k
theorem e_recv {D : ED} {ad : EA} {A : Nat → Prop} {H : Heap} {s : State} {i : EId} {ci : Nat} {fs : Nat → AV} {r : vw_C} (hR : e_R D ad h A H) (hK : e_K D s) (hi : h i = some (kO ci fs)) (hr : e_cl[ci]? = some r) : ∃ cell : Cell, H[ad i]? = some cell ∧ cell.vm.isStatics = false ∧ s.vm.findClass r.1 = some cell.cls := by
  obtain ⟨⟨r', hr', cell, q1, q2, q3, q4⟩, -⟩ := hR.1 i _ hi
  cases (e_cx_of hr).symm.trans hr'
  exact ⟨cell, q1, by rw [q3]; rfl, by rw [q2]; exact (hK.1 ci r hr).2.1⟩
theorem ew_cast {idx ci : Nat} {i : EId} {fs : Nat → AV} {r : vw_C} (hd : decode M.2.1 pc = .ok (.checkcast idx, 3)) (hr : e_cl[ci]? = some r) (w1 : Cond.classLink M.1.cls idx r.1 ∈ lw_all) (hi : h i = some (kO ci fs)) (k : EW M d kc ks Q (pc + 3) lv (aR (some i) :: st) h) : EW M d kc ks Q pc lv (aR (some i) :: st) h :=
  ew_of (fun lo hs => hs) (fun D p l e R s m args below meth c Z A H locs cells slots ad0 ad ls G hX hR hS hs hv hl k => va_castE G.1.1 G.1.2.1 G.1.2.2.2.2.2.1 (G.2.1.1 _ w1) (e_recv hR G.2.2.1 hi hr) hd k) k
/-- a cached Integer, cast -/
theorem ew_castI {idx n : Nat} (hd : decode M.2.1 pc = .ok (.checkcast idx, 3)) (hn : n < 256) (w1 : Cond.classLink M.1.cls idx "java/lang/Integer" ∈ lw_all) (k : EW M d kc ks Q (pc + 3) lv (aR (some (9, 12, n)) :: st) h) : EW M d kc ks Q pc lv (aR (some (9, 12, n)) :: st) h :=
  ew_of (fun lo hs => hs) (fun D p l e R s m args below meth c Z A H locs cells slots ad0 ad ls G hX hR hS hs hv hl k => va_castE G.1.1 G.1.2.1 G.1.2.2.2.2.2.1 (G.2.1.1 _ w1) (by
    obtain ⟨cell, h1, h2, h3, -⟩ := (G.2.2.2.1.1.1.1 n hn).kept hS.2.1
    rw [hX (9, 12, n) (Or.inr rfl)]
    exact ⟨cell, h1, h2, h3⟩) hd k) k
theorem ew_gets {idx : Nat} {o n ds : String} {v : AV} (hd : decode M.2.1 pc = .ok (.getstatic idx, 3)) (hz : (o, n, ds, v) ∈ e_stats) (w1 : Cond.fieldLink M.1.cls idx o n ds ∈ lw_all) (k : EW M d kc ks Q (pc + 3) lv (v :: st) h) : EW M d kc ks Q pc lv st h := by
  have hv9 : ∀ q ∈ e_stats, (∀ h : AH, e_okv h q.2.2.2) ∧ ∀ ad0 ad : EA, e_X (fun _ => none) ad0 ad → e_v ad q.2.2.2 = e_v ad0 q.2.2.2 := by
    intro q hq
    simp only [List.mem_cons, List.not_mem_nil, or_false] at hq
    rcases hq with rfl | rfl | rfl | rfl
    · exact ⟨fun _ => Or.inr rfl, fun ad0 ad hX => congrArg Value.ref (hX _ (Or.inr rfl))⟩
    · exact ⟨fun _ => (⟨by omega, by omega⟩ : inI 127), fun ad0 ad hX => rfl⟩
    · exact ⟨fun _ => (⟨by omega, by omega⟩ : inI 1), fun ad0 ad hX => rfl⟩
    · exact ⟨fun _ => Or.inr rfl, fun ad0 ad hX => congrArg Value.ref (hX _ (Or.inr rfl))⟩
  refine ew_of (fun lo hs => ok1 ((hv9 _ hz).1 h) hs) (fun D p l e R s m args below meth c Z A H locs cells slots ad0 ad ls G hX hR hS hs hv hl k => ?_) k
  refine va_gets G.1.1 G.1.2.1 (v := e_v ad v) ?_ hS G.1.2.2.2.2.2.1 (G.2.1.1 _ w1) (fun x hx => hx) hd k
  rw [(hv9 _ hz).2 ad0 ad hX]
  exact G.2.2.2.1.2.2.2.1 _ hz
end EWA
