/-! MAKING a lambda's object, ASKING it (by hand) -/
set_option maxRecDepth 100000
theorem inv_args {α : Type} {x : Array Nat} {f : Nat → Nat → Nat → Option α} {r : α} (h : Lambda.shapeOf?.match_15 (fun _ => Option α) x f (fun _ => none) = some r) : ∃ a0 a1 a2, f a0 a1 a2 = some r := by
  rcases x with ⟨L⟩
  match L, h with
  | [], h => cases h
  | [_], h => cases h
  | [_, _], h => cases h
  | [a, b, c], h => exact ⟨a, b, c, h⟩
  | _ :: _ :: _ :: _ :: _, h => cases h
theorem site_facts {cf : ClassFile} {index : Nat} {sh : Lambda.Shape} (h : Lambda.shapeOf? cf index = some sh) :
    ∃ (b nt : Nat) (desc : String) (site : MethodDescriptor), cf.constantPool[index]? = some (.invokeDynamic b nt) ∧ cf.constantPool.nameAndType? nt = some (sh.name, desc) ∧ parseMethodDescriptor desc = some site ∧ site.parameters = sh.captured := by
  unfold Lambda.shapeOf? at h
  split at h
  · next b nt hc =>
    obtain ⟨entries, -, h⟩ := Option.bind_eq_some_iff.mp h
    obtain ⟨bm, -, h⟩ := Option.bind_eq_some_iff.mp h
    split at h
    · obtain ⟨_, -, h⟩ := Option.bind_eq_some_iff.mp h
      obtain ⟨a0, a1, a2, h⟩ := inv_args h
      split at h
      · split at h
        · split at h
          · obtain ⟨⟨name, desc⟩, hnt, h⟩ := Option.bind_eq_some_iff.mp h
            obtain ⟨site, hsite, h⟩ := Option.bind_eq_some_iff.mp h
            dsimp only at h
            split at h
            · obtain ⟨⟨implClass, implName, implDesc, implItf⟩, -, h⟩ := Option.bind_eq_some_iff.mp h
              obtain ⟨x1, -, h⟩ := Option.bind_eq_some_iff.mp h
              obtain ⟨x2, -, h⟩ := Option.bind_eq_some_iff.mp h
              obtain ⟨x3, -, h⟩ := Option.bind_eq_some_iff.mp h
              obtain ⟨x4, -, h⟩ := Option.bind_eq_some_iff.mp h
              obtain ⟨x5, -, h⟩ := Option.bind_eq_some_iff.mp h
              cases h
              exact ⟨b, nt, desc, site, hc, hnt, hsite, rfl⟩
            · cases h
          · cases h
        · cases h
      · cases h
    · cases h
  · cases h
theorem obj_0 {s : State} {args : Array Value} (h : (Cond.instantiable "java/lang/Object" 0).before args s = true) : ∀ o ok, s.vm.findClass "java/lang/Object" = some o → s.vm.classes[o]? = some ok → ok.instanceTypes.size = 0 := by
  intro o ok ho hok
  obtain ⟨cO, kO, hfO, hkO, -, -, -, hsz⟩ := Cond.instantiable_spec h
  cases hfO.symm.trans ho
  cases hkO.symm.trans hok
  exact hsz
theorem ew_ofN2 {M : EM} {d kc ks : Nat} {Q : AO → AH → Prop} {pc : Nat} {lv : List (Nat × AV)} {st : List AV} {h : AH} {pc' n : Nat} {st' : List AV} {i : EId} {c1 : ACell} (hi : h i = none) (h9 : i.1 ≠ 9) (hok : (∀ v ∈ st, e_okv h v) → ∀ v ∈ st', e_okv h v) (hok1 : (∀ v ∈ st, e_okv h v) → e_okc h c1)
    (hW : ∀ (D : ED) (p : Program) (l : Launch) (e : Env) (R : Room) (s : State) (m : MethodId) (args : Array Value) (below : List Frame) (meth : Method) (c : Code) (Z : State → Prop) (A : Nat → Prop) (H : Heap) (locs : List Loc) (cells slots : Nat) (ad0 ad : EA) (ls : Array Slot),
      e_G M D p l s m args meth c ad0 A → (∀ v ∈ st, e_okv h v) → cells + 1 ≤ R.cells → slots + n ≤ R.slots → 64 * d ≤ R.locals → ls.size = M.2.2.1 →
      (∀ (H1 : Heap), (∀ ad'' : EA, e_X h ad ad'' → e_at D ad'' H.size H1 c1) → H1.size = H.size + 1 → (∀ q : Nat, q < H.size → H1[q]? = H[q]?) → W p l e R s m args below meth c H1 locs (cells + 1) (slots + n) Z (F0 m pc' ls (.ref H.size :: st'.map (e_v ad)))) → W p l e R s m args below meth c H locs cells slots Z (F0 m pc ls (st.map (e_v ad))))
    (k : EW M d kc ks Q pc' lv (aR (some i) :: st') (hup h i c1)) : EW M d (kc + 1) (ks + n) Q pc lv st h := by
  intro D p l e R s m args below meth c Z A ad0 h0 G E H locs cells slots ad ls I hst
  obtain ⟨⟨hR, hX, hdm, hS⟩, ⟨lo, hl⟩, r1, r2, r3, r4⟩ := I
  refine hW D p l e R s m args below meth c Z A H locs cells slots ad0 ad ls G hst (by omega) (by omega) r4 hl.1 (fun H1 hc z oq => ?_)
  have hA : A H.size := G.2.2.2.2.1 _ hS.1
  have hX1 : e_X h ad (fun j => if j = i then H.size else ad j) := fun j hj => if_neg (fun e => by
    subst e
    rcases hj with hj | hj
    · exact hj hi
    · exact h9 hj)
  obtain ⟨ad', ead⟩ : ∃ ad' : EA, ad' = fun j => if j = i then H.size else ad j := ⟨_, rfl⟩
  obtain ⟨hR', hX'⟩ := hR.make hi h9 rfl (hc _ hX1) hA (hok1 hst) oq
  rw [← ead] at hR' hX'
  have hst' : (aR (some i) :: st').map (e_v ad') = .ref H.size :: st'.map (e_v ad) := by
    rw [List.map_cons]
    congr 1
    · show Value.ref (ad' i) = _
      rw [ead]
      show Value.ref (if i = i then H.size else ad i) = _
      rw [if_pos rfl]
    · exact List.map_congr_left fun v hv => e_v_eq (hok hst v hv) hX'
  have hlv : (lv.map fun q => (q.1, e_v ad' q.2)) = lv.map fun q => (q.1, e_v ad q.2) := List.map_congr_left fun q hq => by rw [e_v_eq (lo q hq) hX']
  have K := k D p l e R s m args below meth c Z A ad0 h0 G E H1 locs (cells + 1) (slots + n) ad' ls
    ⟨⟨hR', hX.trans hdm hX', fun j hj => hup_dom j (hdm j hj), ⟨Nat.le_trans hS.1 (by omega), fun x h1 h2 => (oq x (Nat.lt_of_lt_of_le h1 hS.1)).trans (hS.2.1 x h1 h2), hS.2.2⟩⟩, ⟨fun q hq => (lo q hq).mono hup_dom, by rw [hlv]; exact hl⟩, by omega, by omega, r3, r4⟩
    (List.forall_mem_cons.mpr ⟨Or.inl (by rw [hup_self]; exact fun q => by cases q), fun v hv => (hok hst v hv).mono hup_dom⟩)
  rw [hst'] at K
  exact K
section LAM
variable {M : EM} {d kc ks : Nat} {Q : AO → AH → Prop} {pc : Nat} {lv : List (Nat × AV)} {st : List AV} {h : AH}
theorem ew_mk0 {i : EId} {a b : Int} (hM : M.1 = yX1_fewest) (hd : decode M.2.1 23 = .ok (.invokedynamic 282, 5)) (hi : h i = none) (h9 : i.1 ≠ 9) (hl : 3090 ≤ 64 * d) (h8 : (st.map fun v => if e_is2 v then 2 else 1).sum ≤ 8)
    (k : EW M d kc ks Q 28 lv (aR (some i) :: st) (hup h i (kO 100 (fun k => if k = 0 then aI a else aI b)))) : EW M d (kc + 1) (ks + 2) Q 23 lv (aI b :: aI a :: st) h := by
  refine ew_ofN2 (st' := st) hi h9 (fun hs v hv => hs v (List.mem_cons_of_mem _ (List.mem_cons_of_mem _ hv))) (fun hs => ?_) ?_ k
  · intro j r hr hj
    show e_okv h (if j = 0 then aI a else aI b)
    split
    · exact hs _ (List.mem_cons_of_mem _ List.mem_cons_self)
    · exact hs _ List.mem_cons_self
  intro D p l e R s m args below meth c Z A H locs cells slots ad0 ad ls G hst r1 r2 r4 hls kk
  obtain ⟨mS, kS, cfS, i0, p0, hmS, hkS, hcfS, hsh, hfind, hmade, hcall, hj⟩ := G.2.1.2.2.2.2 0 (by decide)
  have hmm : s.methodNamed? yX1_fewest = some m := by rw [← hM]; exact G.1.2.2.2.2.2.2.2.2
  cases hmm.symm.trans hmS
  obtain ⟨bsm, nt, desc, site, hc, hnt, hsite, hpar⟩ := site_facts hsh
  obtain ⟨kN, hkN, hnm⟩ := className_of_methodNamed hmm
  cases hkS.symm.trans hkN
  obtain ⟨kK, tk, file, methk, ck, toy, t, g0, g1, hkK, -, -, -, -, -, -, -, -, -, -, -, -, -, -, -, -, hty, hkind, -⟩ := k0_facts hkS hnm hmade (obj_0 (G.2.1.1 _ q2022))
  have hvs : ((kK.instanceTypes.toList.zip [Value.int (Int32.ofInt a), Value.int (Int32.ofInt b)]).map fun (t, v) => narrow t v) = [Value.int (Int32.ofInt a), Value.int (Int32.ofInt b)] := by rw [hty]; rfl
  intro T hT X
  have hcat : ((st.map (e_v ad)).map fun v => v.category).sum ≤ 8 := by
    rw [List.map_map]
    refine Nat.le_trans (Nat.le_of_eq (congrArg List.sum (List.map_congr_left fun v _ => ?_))) h8
    exact e_cat ad v
  obtain ⟨X₁, st1⟩ := X.lambdaMakes G.1.1 (g := F0 m 23 ls ((aI b :: aI a :: st).map (e_v ad))) rfl (hls.trans G.1.2.2.1.symm) (by rw [G.1.2.1]; exact hd) (vals := [Value.int (Int32.ofInt a), Value.int (Int32.ofInt b)]) (rest := st.map (e_v ad))
    hkS hfind hcfS hc hnt (parseLong_of_parse hsite) (by rw [hpar]; rfl) rfl hkK
    (by rw [X.admits.platform]; show 2 * 0 + (1 + (1 + ((st.map (e_v ad)).map fun v => v.category).sum)) + 3072 ≤ R.locals; omega) r1 (by rw [hvs]; exact r2)
    (fun j v hv => by
      rw [hvs] at hv
      match j with
      | 0 => simp at hv; subst hv; simp [State.fitsSlot, State.slotType?, hkK, hkind, hty, fits]
      | 1 => simp at hv; subst hv; simp [State.fitsSlot, State.slotType?, hkK, hkind, hty, fits]
      | j + 2 => simp at hv)
  rw [hvs] at X₁ st1
  have hnew : (T.pushCell { cls := D.1.1 (100 + 0), slots := [Value.int (Int32.ofInt a), Value.int (Int32.ofInt b)].toArray, vm := .none }).heap[T.heap.size]? = some { cls := D.1.1 (100 + 0), slots := [Value.int (Int32.ofInt a), Value.int (Int32.ofInt b)].toArray, vm := .none } := State.heap_pushCell_size _ _
  have hold : ∀ q : Nat, q < H.size → (T.pushCell { cls := D.1.1 (100 + 0), slots := [Value.int (Int32.ofInt a), Value.int (Int32.ofInt b)].toArray, vm := .none }).heap[q]? = H[q]? := fun q hq => by
    rw [State.heap_pushCell_of_lt _ _ (by rw [hT]; exact hq), hT]
  have hsz : (T.pushCell { cls := D.1.1 (100 + 0), slots := [Value.int (Int32.ofInt a), Value.int (Int32.ofInt b)].toArray, vm := .none }).heap.size = H.size + 1 := by
    rw [← hT]
    exact Array.size_push _
  have K := kk _ (fun ad'' _ => ⟨("", TX1, 2), rfl, _, by rw [← hT]; exact hnew, rfl, rfl, fun j hj' => by
    rw [show D.1.2 100 j = j from hj j]
    match j, hj' with
    | 0, _ => rfl
    | 1, _ => rfl⟩) hsz hold
  obtain ⟨t2, a1, b1⟩ := K _ rfl X₁
  refine ⟨t2, st1 t2 ?_, b1⟩
  rw [hT]
  exact a1
theorem ew_mk1 {i : EId} (hM : M.1 = yX1_core) (hd : decode M.2.1 20 = .ok (.invokedynamic 293, 5)) (hi : h i = none) (h9 : i.1 ≠ 9) (hl : 3090 ≤ 64 * d) (h8 : (st.map fun v => if e_is2 v then 2 else 1).sum ≤ 8)
    (k : EW M d kc ks Q 25 lv (aR (some i) :: st) (hup h i (kO 101 (fun _ => aR (some xT))))) : EW M d (kc + 1) (ks + 1) Q 20 lv (aR (some xT) :: st) h := by
  refine ew_ofN2 (st' := st) hi h9 (fun hs v hv => hs v (List.mem_cons_of_mem _ hv)) (fun hs => ?_) ?_ k
  · intro j r hr hj
    exact hs _ List.mem_cons_self
  intro D p l e R s m args below meth c Z A H locs cells slots ad0 ad ls G hst r1 r2 r4 hls kk
  obtain ⟨mS, kS, cfS, i0, p0, hmS, hkS, hcfS, hsh, hfind, hmade, hcall, hj⟩ := G.2.1.2.2.2.2 1 (by decide)
  have hmm : s.methodNamed? yX1_core = some m := by rw [← hM]; exact G.1.2.2.2.2.2.2.2.2
  cases hmm.symm.trans hmS
  obtain ⟨bsm, nt, desc, site, hc, hnt, hsite, hpar⟩ := site_facts hsh
  obtain ⟨kN, hkN, hnm⟩ := className_of_methodNamed hmm
  cases hkS.symm.trans hkN
  obtain ⟨kK, tk, file, methk, ck, toy, t, g0, hkK, -, -, -, -, -, -, -, -, -, -, -, -, -, -, -, -, hty, hkind, -⟩ := k1_facts hkS hnm hmade (obj_0 (G.2.1.1 _ q2022))
  have hvs : ((kK.instanceTypes.toList.zip [Value.ref (ad xT)]).map fun (t, v) => narrow t v) = [Value.ref (ad xT)] := by rw [hty]; rfl
  intro T hT X
  have hcat : ((st.map (e_v ad)).map fun v => v.category).sum ≤ 8 := by
    rw [List.map_map]
    refine Nat.le_trans (Nat.le_of_eq (congrArg List.sum (List.map_congr_left fun v _ => ?_))) h8
    exact e_cat ad v
  obtain ⟨X₁, st1⟩ := X.lambdaMakes G.1.1 (g := F0 m 20 ls ((aR (some xT) :: st).map (e_v ad))) rfl (hls.trans G.1.2.2.1.symm) (by rw [G.1.2.1]; exact hd) (vals := [Value.ref (ad xT)]) (rest := st.map (e_v ad))
    hkS hfind hcfS hc hnt (parseLong_of_parse hsite) (by rw [hpar]; rfl) rfl hkK
    (by rw [X.admits.platform]; show 2 * 0 + (1 + ((st.map (e_v ad)).map fun v => v.category).sum) + 3072 ≤ R.locals; omega) r1 (by rw [hvs]; exact r2)
    (fun j v hv => by
      rw [hvs] at hv
      match j with
      | 0 => simp at hv; subst hv; simp [State.fitsSlot, State.slotType?, hkK, hkind, hty, fits]
      | j + 1 => simp at hv)
  rw [hvs] at X₁ st1
  have hnew : (T.pushCell { cls := D.1.1 (100 + 1), slots := [Value.ref (ad xT)].toArray, vm := .none }).heap[T.heap.size]? = some { cls := D.1.1 (100 + 1), slots := [Value.ref (ad xT)].toArray, vm := .none } := State.heap_pushCell_size _ _
  have hold : ∀ q : Nat, q < H.size → (T.pushCell { cls := D.1.1 (100 + 1), slots := [Value.ref (ad xT)].toArray, vm := .none }).heap[q]? = H[q]? := fun q hq => by
    rw [State.heap_pushCell_of_lt _ _ (by rw [hT]; exact hq), hT]
  have hsz : (T.pushCell { cls := D.1.1 (100 + 1), slots := [Value.ref (ad xT)].toArray, vm := .none }).heap.size = H.size + 1 := by
    rw [← hT]
    exact Array.size_push _
  have K := kk _ (fun ad'' hX => ⟨("", TX1, 1), rfl, _, by rw [← hT]; exact hnew, rfl, rfl, fun j hj' => by
    rw [show D.1.2 101 j = j from hj j]
    match j, hj' with
    | 0, _ => exact congrArg (fun q => some (Value.ref q)) (hX xT (hst _ List.mem_cons_self)).symm⟩) hsz hold
  obtain ⟨t2, a1, b1⟩ := K _ rfl X₁
  refine ⟨t2, st1 t2 ?_, b1⟩
  rw [hT]
  exact a1
end LAM
