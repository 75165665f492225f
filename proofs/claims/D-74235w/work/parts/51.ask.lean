/-! ASKING a lambda's object (by hand) -/
set_option maxRecDepth 100000
abbrev yHolds : MethodName := ⟨"ReasonCloser$Asked", "holds", "(LReasonCloser$Closed;)Z"⟩
section KF
variable {p : Program} {l : Launch} {e : Env} {R : Room} {s : State} {m : MethodId} {args : Array Value} {below : List Frame} {meth : Method} {c : Code} {T : State} {locs : List Loc} {cells slots : Nat} {pc : Nat} {ls : Array Slot} {rest : List Value}
theorem kf_get (Y : Stand p l e R s m args below meth c T locs cells slots) (hexec : p.tables.exec = Jvm.exec) {index cF a : Nat} {field : Field} {cell : Cell} {v : Value}
    (hr : T.vm.fieldReady m.cls index cF field) (hst : field.isStatic = false) (hcell : T.heap[a]? = some cell) (hk : cell.vm ≠ .unknown) (hv : cell.slots[field.slot]? = some v)
    (hdg : decode c.code pc = .ok (.getfield index, 3)) : Goes p e below T (F0 m pc ls (.ref a :: rest)) T (F0 m (pc + 3) ls (v :: rest)) := by
  intro tg htg
  jvm_step Y.here [hexec, hdg, getfield.wp_ready (e := e) (s := T) (c := cF) (field := field) (a := a) (rest := rest) (cell := cell) (v := v) (f := F0 m pc ls (.ref a :: rest)) Y.here.top hr hst rfl hcell hk hv]
  exact htg
theorem kf_al (Y : Stand p l e R s m args below meth c T locs cells slots) (hexec : p.tables.exec = Jvm.exec) {j : Fin 4} {a : Nat} (hdg : decode c.code pc = .ok (.aload_n j, 1)) (hl : ls[(j : Nat)]? = some (.val (.ref a))) : Goes p e below T (F0 m pc ls rest) T (F0 m (pc + 1) ls (.ref a :: rest)) := by
  intro tg htg
  jvm_step Y.here [hexec, hdg, hl, Value.isRef]
  exact htg
theorem kf_static (Y : Stand p l e R s m args below meth c T locs cells slots) (hexec : p.tables.exec = Jvm.exec) (hsize : ls.size = c.maxLocals) {index : Nat} {y : MethodName} {t : MethodId} {kt : Class} {metht : Method}
    {argsL : List Value} (href : plainRef T e m.cls index) (hr : T.vm.methodReady m.cls index t) (hkt : T.vm.classes[t.cls]? = some kt) (hmt : T.vm.method? t = some metht) (hpoly : signaturePolymorphic kt metht = false)
    (hstatic : metht.isStatic = true) (hinit : kt.init = .initialized) (hlen : argsL.length = metht.sig.parameters.length) (hnamed : T.methodNamed? y = some t)
    {W9 : Nat} {Pre : Pt → Array Value → Prop} {Post : Pt → Array Value → Option Value → Pt → Prop} (hK : Back l R p e below s args y 3 W9 Pre Post) (hW : (rest.map fun v => v.category).sum ≤ W9)
    (hpre : Pre ⟨T, locs, cells, slots⟩ argsL.toArray) (hdg : decode c.code pc = .ok (.invokestatic index, 3)) :
    ∃ (v : Option Value) (B : Pt), Stand p l e R s m args below meth c B.U B.locs B.cells B.slots ∧ Post ⟨T, locs, cells, slots⟩ argsL.toArray v B ∧ Goes p e below T (F0 m pc ls (argsL.reverse ++ rest)) B.U (F0 m (pc + 3) ls (v.toList ++ rest)) := by
  obtain ⟨v, B, Y', hpost, hsteps⟩ := hK m meth c ⟨T, locs, cells, slots⟩ (F0 m pc ls rest) (.invokestatic index) t argsL.toArray Y rfl hsize hdg (by show 2 * 0 + (rest.map fun v => v.category).sum ≤ W9; omega) hnamed hpre
  refine ⟨v, B, Y', hpost, fun tg htg => ?_⟩
  jvm_step Y.here [hexec, hdg, invokestatic.wp_ready (e := e) (s := T) (m := t) (k := kt) (meth := metht) (args := argsL) (rest := rest) (f := F0 m pc ls (argsL.reverse ++ rest)) Y.here.top href hr hkt hmt hpoly hstatic hinit hlen rfl]
  intro acts
  rw [doInvoke_state]
  exact hsteps.trans htg
theorem kf_virtual (Y : Stand p l e R s m args below meth c T locs cells slots) (hexec : p.tables.exec = Jvm.exec) (hsize : ls.size = c.maxLocals) {index a : Nat} {y : MethodName} {r t : MethodId} {kr kt : Class} {methr metht : Method}
    {cell : Cell} {argsL : List Value} (hnc : namesAClass T m.cls index) (hr : T.vm.methodReady m.cls index r) (hkr : T.vm.classes[r.cls]? = some kr) (hmr : T.vm.method? r = some methr) (hpoly : signaturePolymorphic kr methr = false)
    (hstatic : methr.isStatic = false) (hlen : argsL.length = methr.sig.parameters.length) (hcell : T.heap[a]? = some cell) (hobj : ∀ q, cell.vm ≠ .statics q)
    (hsel : selectMethod e.platform T.vm cell.cls r = .method t) (hmt : T.vm.method? t = some metht) (habs : metht.isAbstract = false) (hkt : T.vm.classes[t.cls]? = some kt) (hitf : kt.isInterface = false) (hnamed : T.methodNamed? y = some t)
    {W9 : Nat} {Pre : Pt → Array Value → Prop} {Post : Pt → Array Value → Option Value → Pt → Prop} (hK : Back l R p e below s args y 3 W9 Pre Post) (hW : (rest.map fun v => v.category).sum ≤ W9)
    (hpre : Pre ⟨T, locs, cells, slots⟩ (.ref a :: argsL).toArray) (hdg : decode c.code pc = .ok (.invokevirtual index, 3)) :
    ∃ (v : Option Value) (B : Pt), Stand p l e R s m args below meth c B.U B.locs B.cells B.slots ∧ Post ⟨T, locs, cells, slots⟩ (.ref a :: argsL).toArray v B ∧ Goes p e below T (F0 m pc ls (argsL.reverse ++ .ref a :: rest)) B.U (F0 m (pc + 3) ls (v.toList ++ rest)) := by
  obtain ⟨v, B, Y', hpost, hsteps⟩ := hK m meth c ⟨T, locs, cells, slots⟩ (F0 m pc ls rest) (.invokevirtual index) t (.ref a :: argsL).toArray Y rfl hsize hdg (by show 2 * 0 + (rest.map fun v => v.category).sum ≤ W9; omega) hnamed hpre
  refine ⟨v, B, Y', hpost, fun tg htg => ?_⟩
  jvm_step Y.here [hexec, hdg, invokevirtual.wp_ready (e := e) (s := T) (r := r) (m := t) (k := kr) (mk := kt) (rmeth := methr) (meth := metht) (a := a) (args := argsL) (rest := rest) (cell := cell) (f := F0 m pc ls (argsL.reverse ++ .ref a :: rest)) Y.here.top hnc hr hkr hmr hpoly hstatic hlen rfl hcell hobj hsel hmt habs hkt hitf]
  intro acts
  rw [doInvoke_state]
  exact hsteps.trans htg
theorem kf_ret (Y : Stand p l e R s m args below meth c T locs cells slots) (hexec : p.tables.exec = Jvm.exec) {w : Int32} (hret : meth.sig.returnType = some .boolean) (hn : narrow .boolean (.int w) = .int w)
    (hdg : decode c.code pc = .ok (.ireturn, 1)) {fs : List Frame} (hleave : ∀ (f : JFrame) (acts : List Action), f.method = m → f.locked = none → f.entered = [] → (doReturn e (T.setTop f) acts (some (.int w))).1 = T.setFrames fs) :
    Steps p.tables e below (T.setTop (F0 m pc ls [.int w])) (T.setFrames fs) := by
  have hm' : T.vm.method? m = some meth := Y.method'
  jvm_step Y.here [Y.here.top, hexec, hdg, hm', hret, hn]
  first | (intro acts; rw [hleave _ acts rfl rfl rfl]) | rw [hleave _ _ rfl rfl rfl]
  exact Steps.refl _
/-- through the forwarder and back -/
theorem kf_through {U : State} {L : List Loc} {cc nn : Nat} (X : Stand p l e R s m args below meth c U L cc nn) {g : JFrame} (hg : g.method = m) (hsize : g.locals.size = c.maxLocals) {ig : Instr} {len : Nat} (hdg : decode c.code g.pc = .ok (ig, len))
    {mk : MethodId} {methk : Method} {ck : Code} (a : Array Value) {R' : Room} (hmk : U.vm.method? mk = some methk) (hck : methk.code = some ck) (hlk : methk.locks = false) (hpk : U.plainMethod mk)
    (hframes : R'.frames + 1 ≤ R.frames) (hlocals : 2 * g.monitorRoom + (g.stack.map fun v => v.category).sum + (ck.maxLocals + 11) + R'.locals ≤ R.locals) (hcells : cc + R'.cells ≤ R.cells) (hslots : nn + R'.slots ≤ R.slots)
    {Φ : Option Value → State → List Loc → Nat → Nat → Prop}
    (body : ∀ U₀, U₀ = (U.setTop g).pushFrame (.java (entryFrame mk a ck.maxLocals)) → Stand p l e R' (U.calling g mk a) mk a (.java g :: below) methk ck U₀ [] 0 0 →
      ∃ v U₁ L₁ c₁ n₁, Stand p l e R' (U.calling g mk a) mk a (.java g :: below) methk ck U₁ L₁ c₁ n₁ ∧ (methk.sig.returnType = none → v = none) ∧ Φ v U₁ L₁ c₁ n₁ ∧
        ∀ fs, (∀ (f : JFrame) (acts : List Action), f.method = mk → f.locked = none → f.entered = [] → (doReturn e (U₁.setTop f) acts v).1 = U₁.setFrames fs) → Steps p.tables e (.java g :: below) (U₀.setTop (entryFrame mk a ck.maxLocals)) (U₁.setFrames fs)) :
    ∃ v T' U₁ L₁ c₁ n₁, Stand p l e R s m args below meth c T' (L ++ L₁) (cc + c₁) (nn + n₁) ∧ Φ v U₁ L₁ c₁ n₁ ∧ T'.heap = U₁.heap ∧ T'.vm = U₁.vm ∧
      Steps p.tables e below (doInvoke e (U.setTop g) [] mk a).1 (T'.setTop { g with pc := g.pc + len, stack := v.toList ++ g.stack }) := by
  obtain ⟨Y₀, hin⟩ := X.into hg hsize hdg a (R' := R') hmk hck hlk hpk hframes hlocals hcells hslots
  obtain ⟨v, U₁, L₁, c₁, n₁, Y₁, hv, hΦ, hsteps⟩ := body _ rfl Y₀
  obtain ⟨fs, hleave, -, hended, hWe, hsame⟩ := Y₁.leave (v := v) hv hlk
  obtain ⟨T', X', -, -, ht⟩ := X.outOf hg hdg hended hWe hsame
  refine ⟨v, T', U₁, L₁, c₁, n₁, X', hΦ, (congrArg State.heap ht).symm, (congrArg State.vm ht).symm, ?_⟩
  rw [hin [], ← ht]
  exact Steps.weaken (mid := [.java g]) (hsteps fs hleave)
end KF
theorem bool_narrow {n : Int} (h : n = 0 ∨ n = 1) : narrow .boolean (.int (Int32.ofInt n)) = .int (Int32.ofInt n) := by
  rcases h with rfl | rfl <;> decide
section ASK
variable {M : EM} {d kc ks mc ms : Nat} {Q Q' : AO → AH → Prop} {pc : Nat} {lv : List (Nat × AV)} {rest : List AV} {h : AH}
set_option maxHeartbeats 4000000 in
theorem ew_ask0 {idx cnt : Nat} {i j : EId} {fs : Nat → AV} (hd : decode M.2.1 pc = .ok (.invokeinterface idx cnt, 5)) (w1 : Cond.methodLink M.1.cls idx yHolds ∈ lw_all) (hi : h i = some (kO 100 fs)) (h8 : (rest.map fun v => if e_is2 v then 2 else 1).sum ≤ 8) (hmc : mc ≤ kc) (hms : ms ≤ ks)
    (hS : Sp mm_X1_lambda_fewest_0 d mc ms [fs 0, fs 1, aR (some j)] h Q') (hQx : ∀ x h', ¬ Q' (Sum.inr x) h') (hQo : ∀ o h', Q' (Sum.inl o) h' → ∃ n, o = some (aI n) ∧ (n = 0 ∨ n = 1))
    (kr : ∀ o h', Q' (Sum.inl o) h' → (∀ i, h i ≠ none → h' i ≠ none) → EW M (d + 2) (kc - mc) (ks - ms) Q (pc + 5) lv (o.toList ++ rest) h') : EW M (d + 2) kc ks Q pc lv (aR (some j) :: aR (some i) :: rest) h := by
  intro D p l e R s m args below meth c Z A ad0 h0 G E H locs cells slots ad ls I hst
  obtain ⟨⟨rr, hrr, cell, q1, q2, q3, q4⟩, -, hokc, -⟩ := I.1.1.1 i _ hi
  have er : ("", TX1, 2) = rr := Option.some.inj hrr
  subst er
  have hokf : ∀ v ∈ [fs 0, fs 1, aR (some j)], e_okv h v := List.forall_mem_cons.mpr ⟨hokc 0 _ rfl (by decide), List.forall_mem_cons.mpr ⟨hokc 1 _ rfl (by decide), List.forall_mem_cons.mpr ⟨hst _ List.mem_cons_self, fun _ q => by cases q⟩⟩⟩
  obtain ⟨mS, kS, cfS, i0, p0, hmS, hkS, hcfS, hsh, hfind, hmade, hcall, hj⟩ := G.2.1.2.2.2.2 0 (by decide)
  obtain ⟨kN, hkN, hnm⟩ := className_of_methodNamed hmS
  cases hkS.symm.trans hkN
  have hM := hS D l ad H.size G.2.2.2.2.2 hokf
  rw [me_X1_lambda_fewest_0.ws] at hM
  obtain ⟨a1, a2, a3, a4⟩ := I.2.2
  refine e_call (n := 5) (a := #[e_v ad (fs 0), e_v ad (fs 1), Value.ref (ad j)]) (mc := mc) (ms := ms) (st0 := (aR (some j) :: aR (some i) :: rest).map (e_v ad)) G E I (fun v hv => hst v (List.mem_cons_of_mem _ (List.mem_cons_of_mem _ hv))) hmc hms (fun T hT X => Or.inl ?_) kr (fun E' i' h' q _ => (hQx _ _ q).elim)
  obtain ⟨r0, r, hn, hrm, hstR, hsigR⟩ := Cond.declares_spec (G.2.1.2.1.use (args := args) q1203 rfl)
  obtain ⟨cL, kL, r1, hcL, hkL, hiL, hfoundL, hn1⟩ := Cond.interfaceMethod_spec (G.2.1.2.1.use (args := args) q1202 rfl)
  cases hn.symm.trans hn1
  have hr0cls : r0.cls = cL := Option.some.inj ((findClass_of_methodNamed hn).symm.trans hcL)
  obtain ⟨hnameR, hdescR⟩ := name_of_methodNamed hn hrm
  have e1 : (e_si 0).2.2.2.sam.toString = "(LReasonCloser$Closed;)Z" := by decide +kernel
  obtain ⟨-, -, -, -, -, -, -, iface', -, -, -, -, found, -, -, -, -, -, hi', -, -, -, -, -, -, hfound', -, -, -, -, -, -, -, -, -, -, hsel⟩ := Lambda.isMade_spec hmade
  cases hcL.symm.trans (show s.vm.findClass "ReasonCloser$Asked" = some iface' from hi')
  have hfr : found = r0 := by
    have h1 : s.methodFound? "ReasonCloser$Asked" "holds" "(LReasonCloser$Closed;)Z" = some r0 := hfoundL
    have hcL' : s.vm.findClass "ReasonCloser$Asked" = some cL := hcL
    simp only [State.methodFound?, hcL', hkL, hiL, Option.bind_eq_bind, Option.bind_some] at h1
    rw [e1] at hfound'
    have h2 : ((methodIn cL "holds" "(LReasonCloser$Closed;)Z" true none).ask { classPath := fun _ => none } s.vm).1 = .ok found := hfound'
    rw [h2] at h1
    exact Option.some.inj h1
  subst hfr
  obtain ⟨i2, hi2, hasg, hway⟩ := State.lambdaCallable_spec hcall
  cases hcL.symm.trans (show s.vm.findClass "ReasonCloser$Asked" = some i2 from hi2)
  rw [e1] at hway
  obtain ⟨kK, tk, file, methk, ck, toy, tB, g0, g1, hkK, hkn, hfile, hpool, hmk, hck, hbytes, hmlK, hlkK, hfl, hretk, htoy, htk, hitf, hlook, hready, hclsR, hty, hkind, hf0, hf0s, hf0n, hf1, hf1s, hf1n⟩ := k0_facts hkS hnm hmade (obj_0 (G.2.1.1 _ q2022))
  have hsigY : parseMethodDescriptor "(LReasonCloser$Closed;)Z" = some ⟨[.object "ReasonCloser$Closed"], some .boolean⟩ := by decide +kernel
  have hcat : ((rest.map (e_v ad)).map fun v => v.category).sum ≤ 8 := by
    rw [List.map_map]
    refine Nat.le_trans (Nat.le_of_eq (congrArg List.sum (List.map_congr_left fun v _ => ?_))) h8
    exact e_cat ad v
  obtain ⟨vm₁, X₁, hstep₁⟩ := X.invokeinterface G.1.1 G.1.2.2.2.2.2.1 (G.2.1.1 _ w1) hn hrm hstR (ki := kL) (by rw [hr0cls]; exact hkL) hiL ⟨by decide, by decide⟩ (a := ad i) (cell := cell) (kcell := kK) (by rw [hT]; exact q1) (fun z hz => by rw [q3] at hz; cases hz) (by rw [q2]; exact hkK) (by rw [q2, hr0cls]; exact hasg)
    (m' := ⟨D.1.1 (100 + 0), 1⟩) (meth' := methk) (by rw [Launch.admits_selectMethod X.admits, q2]; exact hsel) hmk (by rw [q2, hnameR, hdescR]; exact hway) (by rw [hfl]; decide) (by simp [Method.isAbstract, hfl, hasFlag, Acc.abstract])
    (g := F0 m pc ls ((aR (some j) :: aR (some i) :: rest).map (e_v ad))) rfl (argsL := [.ref (ad j)]) (rest := rest.map (e_v ad)) (by rw [← Option.some.inj (hsigY.symm.trans hsigR)]; rfl) rfl (by rw [G.1.2.1]; exact hd)
  have hW₁ : s.WarmedH (T.setVm vm₁).vm := X₁.warmed
  have hh₁ : (T.setVm vm₁).heap = H := hT
  generalize T.setVm vm₁ = T₁ at X₁ hstep₁ hW₁ hh₁
  obtain ⟨kS₁, hkS₁, eS₁⟩ := hW₁.alike.2.2 _ _ hkS
  have hO₁ : ∀ U : State, s.WarmedH U.vm → ∀ o ok, U.vm.findClass "java/lang/Object" = some o → U.vm.classes[o]? = some ok → ok.instanceTypes.size = 0 := fun U hW => obj_0 (args := #[]) (word_at hW (Or.inl rfl) (G.2.1.1 _ q2022))
  obtain ⟨kK, tk, file, methk', ck, toy, tB, g0, g1, hkK, hkn, hfile, hpool, hmk, hck, hbytes, hmlK, hlkK, hfl, hretk, htoy, htk, hitf, hlook, hready, hclsR, hty, hkind, hf0, hf0s, hf0n, hf1, hf1s, hf1n⟩ := k0_facts hkS₁ (by rw [eS₁]; exact hnm) (Lambda.isMade_warmer hW₁ hmade) (hO₁ T₁ hW₁)
  -- the target
  have hcodeU : ∀ (a' : Array Value) (U : State), s.WarmedH U.vm → (Cond.code yX1_lambda_fewest_0 cX1_lambda_fewest_0 3 (some .boolean)).before a' U = true := fun a' U hW => pay_in G.2.1.1 (lw_meth me_X1_lambda_fewest_0.2.1) _ List.mem_cons_self a' U hW
  have hwsU : ∀ w ∈ ws_ yX1_lambda_fewest_0 cX1_lambda_fewest_0 3 (some .boolean), ∀ (a' : Array Value) (U : State), s.WarmedH U.vm → w.before a' U = true := pay_in G.2.1.1 (lw_meth me_X1_lambda_fewest_0.2.1)
  cases hnB : T₁.methodNamed? yX1_lambda_fewest_0 with
  | none =>
    have := hcodeU #[] T₁ hW₁
    simp [Cond.before, Cond.holds, Cond.value, hnB] at this
  | some mB =>
  obtain ⟨methB, cB, hmB, -, -, -, -, -, -, hsigB⟩ := Cond.code_spec hnB (hcodeU #[] T₁ hW₁)
  have hstaticB : methB.isStatic = true := Cond.static_spec hnB hmB (word_at (a' := #[]) hW₁ (Or.inl rfl) (G.2.1.1 _ q1188))
  have hfT : T₁.vm.findClass "ReasonCloser" = some mB.cls := findClass_of_methodNamed hnB
  cases htoy.symm.trans hfT
  have hinitK : tk.init = .initialized := Cond.initialized_spec hfT htk (word_at (a' := #[]) hW₁ (Or.inl rfl) (G.2.1.1 _ q108))
  obtain ⟨kT', hkT', hnameT⟩ := className_of_methodNamed hnB
  cases htk.symm.trans hkT'
  have htB : tB = mB := by
    have h1 : T₁.methodFound? "ReasonCloser" "lambda$fewest$0" "(IILReasonCloser$Closed;)Z" = some mB := State.methodFound?_of_named hnB ⟨by decide, by decide⟩
    simp only [State.methodFound?, hfT, htk, Option.bind_eq_bind, Option.bind_some] at h1
    rw [hlook] at h1
    exact Option.some.inj h1
  subst htB
  have hsp : ∀ z : Method, signaturePolymorphic tk z = false := fun z => by
    have h9 : tk.name = "ReasonCloser" := hnameT
    simp [signaturePolymorphic, h9]
  obtain ⟨b, hmem⟩ := memberRef_ask' (e := e) (vm := T₁.vm) (d := D.1.1 (100 + 0)) (index := 26) hkK hfile (Or.inl (by rw [hpool]; exact k0_eM.1)) (by rw [hpool]; exact k0_eM.2.2)
  have hlenB : 3 = methB.sig.parameters.length := by
    have : parseMethodDescriptor "(IILReasonCloser$Closed;)Z" = some ⟨[.int, .int, .object "ReasonCloser$Closed"], some .boolean⟩ := by decide +kernel
    rw [← Option.some.inj (this.symm.trans hsigB)]
    rfl
  obtain ⟨v, T', U₁, L₁, c₁, n₁, X', ⟨st₀, t, ph, pc1, pn1, pL, pU, pv, pQ⟩, hh', hv', hsteps⟩ := kf_through X₁ (g := F0 m pc ls (rest.map (e_v ad))) rfl (I.2.1.2.1.trans G.1.2.2.1.symm) (by rw [G.1.2.1]; exact hd) #[.ref (ad i), .ref (ad j)] (R' := ({ frames := d + 1, cells := mc, slots := ms, locals := 64 * (d + 1) } : Room)) hmk hck hlkK
    (State.plainMethod.of_name (fun k' hk' => by cases hkK.symm.trans hk'; rw [hkn]; decide)) (by show d + 1 + 1 ≤ R.frames; omega) (by rw [hmlK]; show 2 * 0 + ((rest.map (e_v ad)).map fun v => v.category).sum + (2 + 11) + 64 * (d + 1) ≤ R.locals; omega) (by show cells + mc ≤ R.cells; omega) (by show slots + ms ≤ R.slots; omega)
    (Φ := fun v U₁ L₁ c₁ n₁ => ∃ st₀ t : State, st₀.heap = H ∧ c₁ = mc ∧ n₁ = ms ∧ (∀ q ∈ L₁, e_A ad h H.size q.base) ∧ U₁.heap = t.heap ∧ U₁.vm = t.vm ∧ e_Qc D ad h (e_A ad h H.size) Q' #[e_v ad (fs 0), e_v ad (fs 1), Value.ref (ad j)] st₀ (.returned v) t)
    (fun U₀ hU₀ Y₀ => by
      have hvm : U₀.vm = T₁.vm := by rw [hU₀]; rfl
      have hheap : U₀.heap = H := by rw [hU₀]; exact hh₁
      have hW₀ : s.WarmedH U₀.vm := by rw [hvm]; exact hW₁
      have hnB₀ : U₀.methodNamed? yX1_lambda_fewest_0 = some tB := by
        have : (T₁.setVm U₀.vm).methodNamed? yX1_lambda_fewest_0 = some tB := by rw [hvm]; exact hnB
        exact this
      rw [hmlK, show entryFrame ⟨D.1.1 (100 + 0), 1⟩ #[Value.ref (ad i), Value.ref (ad j)] 2 = F0 ⟨D.1.1 (100 + 0), 1⟩ 0 #[.val (.ref (ad i)), .val (.ref (ad j))] [] from rfl]
      have hvb := vx_back (l := l) (R := ({ frames := d + 1, cells := mc, slots := ms, locals := 64 * (d + 1) } : Room)) (p := p) (e := e) (below := .java (F0 m pc ls (rest.map (e_v ad))) :: below) (s := T₁.calling (F0 m pc ls (rest.map (e_v ad))) ⟨D.1.1 (100 + 0), 1⟩ #[.ref (ad i), .ref (ad j)]) (sargs := #[.ref (ad i), .ref (ad j)]) (len := 3) (W9 := 0) (bytes := cX1_lambda_fewest_0) (maxL := 3) (ret := some .boolean) hM e_blind rfl rfl (Nat.le_refl _) (by show 0 + (3 + 11) + 64 * d ≤ 64 * (d + 1); omega) (fun w hw a' U hW => hwsU w hw a' U (State.WarmedH.trans hW₁ hW)) List.mem_cons_self (fun a' U hW => word_at (State.WarmedH.trans hW₁ hW) (Or.inl rfl) (G.2.1.1 _ q108))
      have hK : Back l ({ frames := d + 1, cells := mc, slots := ms, locals := 64 * (d + 1) } : Room) p e (.java (F0 m pc ls (rest.map (e_v ad))) :: below) (T₁.calling (F0 m pc ls (rest.map (e_v ad))) ⟨D.1.1 (100 + 0), 1⟩ #[.ref (ad i), .ref (ad j)]) #[.ref (ad i), .ref (ad j)] yX1_lambda_fewest_0 3 0 _ _ := fun m9 meth9 c9 A9 g9 ig9 mk9 a9 w1 w2 w3 w4 w5 w6 w7 => by
        rcases hvb m9 meth9 c9 A9 g9 ig9 mk9 a9 w1 w2 w3 w4 w5 w6 w7 with z | ⟨q, B, -, ⟨_, _, _, _, _, _, -, -, ⟨⟨_, h', _, -, hq, -⟩, -⟩, -⟩, -⟩
        · exact z
        · exact (hQx _ _ hq).elim
      have t0 := kf_al (p := p) (pc := 0) (ls := #[.val (.ref (ad i)), .val (.ref (ad j))]) (rest := []) Y₀ G.1.1 (j := 0) (by rw [hbytes]; exact k0_d0) rfl
      have t1 := kf_get (p := p) (pc := 1) (ls := #[.val (.ref (ad i)), .val (.ref (ad j))]) (rest := []) Y₀ G.1.1 (cF := D.1.1 (100 + 0)) (by rw [hvm]; exact hf0) hf0s (by rw [hheap]; exact q1) (by rw [q3]; exact fun z => by cases z) (by rw [hf0n, ← hj 0]; exact q4 0 (by decide)) (by rw [hbytes]; exact k0_d1)
      have t4 := kf_al (p := p) (pc := 4) (ls := #[.val (.ref (ad i)), .val (.ref (ad j))]) (rest := [e_v ad (fs 0)]) Y₀ G.1.1 (j := 0) (by rw [hbytes]; exact k0_d4) rfl
      have t5 := kf_get (p := p) (pc := 5) (ls := #[.val (.ref (ad i)), .val (.ref (ad j))]) (rest := [e_v ad (fs 0)]) Y₀ G.1.1 (cF := D.1.1 (100 + 0)) (by rw [hvm]; exact hf1) hf1s (by rw [hheap]; exact q1) (by rw [q3]; exact fun z => by cases z) (by rw [hf1n, ← hj 1]; exact q4 1 (by decide)) (by rw [hbytes]; exact k0_d5)
      have t8 := kf_al (p := p) (pc := 8) (ls := #[.val (.ref (ad i)), .val (.ref (ad j))]) (rest := [e_v ad (fs 1), e_v ad (fs 0)]) Y₀ G.1.1 (j := 1) (by rw [hbytes]; exact k0_d8) rfl
      obtain ⟨v, ⟨U₁, L₁, c₁, n₁⟩, Y₁, ⟨g9, mk9, t, L, z1, z2, z3, z4, z5, z6, z7⟩, t9⟩ := kf_static (pc := 9) (ls := #[.val (.ref (ad i)), .val (.ref (ad j))]) (rest := []) Y₀ G.1.1 (by rw [hmlK]; rfl) (index := 26) (y := yX1_lambda_fewest_0) (t := tB) (kt := tk) (metht := methB) (argsL := [e_v ad (fs 0), e_v ad (fs 1), Value.ref (ad j)])
        ⟨22, _, _, b, tB.cls, tk, by rw [hvm]; exact hmem, by rw [hvm]; exact hclsR, by rw [hvm]; exact htk, by simp [hsp]⟩ (by rw [hvm]; exact hready) (by rw [hvm]; exact htk) (by rw [hvm]; exact hmB) (hsp _) hstaticB hinitK hlenB hnB₀ hK (Nat.le_refl 0) ⟨by show 0 + mc ≤ mc; omega, by show 0 + ms ≤ ms; omega, e_pre G I U₀ hheap hW₀⟩ (by rw [hbytes]; exact k0_d9)
      dsimp only [Pt.U, Pt.locs, Pt.cells, Pt.slots] at Y₁ z1 z2 z3 z4 z5 z6 z7 t9
      obtain ⟨⟨o, h', ad', ov, oq, -⟩, -⟩ := id z3
      obtain ⟨n, on, o01⟩ := hQo _ _ oq
      subst on
      have ev : v = some (.int (Int32.ofInt n)) := by injection ov
      subst ev
      refine ⟨_, U₁, L₁, c₁, n₁, Y₁, (fun q => by rw [hretk] at q; cases q), ⟨_, t, hheap, by rw [z6]; exact Nat.zero_add _, by rw [z7]; exact Nat.zero_add _, fun q hq => z5 q (by rw [z4] at hq; exact hq), z1, z2, z3⟩, fun fs hleave => ?_⟩
      exact t0 _ (t1 _ (t4 _ (t5 _ (t8 _ (t9 _ (kf_ret Y₁ G.1.1 hretk (bool_narrow o01) (by rw [hbytes]; exact k0_d12) hleave))))))
      )
  subst pc1 pn1
  exact ⟨v, st₀, t, T', L₁, ph, X', pL, hh'.trans pU, hv'.trans pv, pQ, fun tg htg => hstep₁ _ fun acts => by rw [doInvoke_state]; exact hsteps.trans htg⟩
set_option maxHeartbeats 4000000 in
theorem ew_ask1 {idx cnt : Nat} {i j : EId} {fs : Nat → AV} (hd : decode M.2.1 pc = .ok (.invokeinterface idx cnt, 5)) (w1 : Cond.methodLink M.1.cls idx yHolds ∈ lw_all) (hi : h i = some (kO 101 fs)) (hf : fs 0 = aR (some xT)) {fx : Nat → AV} (hx : h xT = some (kO 0 fx)) (h8 : (rest.map fun v => if e_is2 v then 2 else 1).sum ≤ 8) (hmc : mc ≤ kc) (hms : ms ≤ ks)
    (hS : Sp mm_X1_lambda_core_1 d mc ms [fs 0, aR (some j)] h Q') (hQx : ∀ x h', ¬ Q' (Sum.inr x) h') (hQo : ∀ o h', Q' (Sum.inl o) h' → ∃ n, o = some (aI n) ∧ (n = 0 ∨ n = 1))
    (kr : ∀ o h', Q' (Sum.inl o) h' → (∀ i, h i ≠ none → h' i ≠ none) → EW M (d + 2) (kc - mc) (ks - ms) Q (pc + 5) lv (o.toList ++ rest) h') : EW M (d + 2) kc ks Q pc lv (aR (some j) :: aR (some i) :: rest) h := by
  intro D p l e R s m args below meth c Z A ad0 h0 G E H locs cells slots ad ls I hst
  obtain ⟨⟨rr, hrr, cell, q1, q2, q3, q4⟩, -, hokc, -⟩ := I.1.1.1 i _ hi
  have er : ("", TX1, 1) = rr := Option.some.inj hrr
  subst er
  have hokf : ∀ v ∈ [fs 0, aR (some j)], e_okv h v := List.forall_mem_cons.mpr ⟨hokc 0 _ rfl (by decide), List.forall_mem_cons.mpr ⟨hst _ List.mem_cons_self, fun _ q => by cases q⟩⟩
  obtain ⟨⟨rx, hrx, cx, x1, x2, x3, -⟩, -⟩ := I.1.1.1 xT _ hx
  have hcx : s.vm.findClass "ReasonCloser" = some (D.1.1 0) := (G.2.2.1.1 0 _ rfl).2.1
  obtain ⟨mS, kS, cfS, i0, p0, hmS, hkS, hcfS, hsh, hfind, hmade, hcall, hj⟩ := G.2.1.2.2.2.2 1 (by decide)
  obtain ⟨kN, hkN, hnm⟩ := className_of_methodNamed hmS
  cases hkS.symm.trans hkN
  have hM := hS D l ad H.size G.2.2.2.2.2 hokf
  rw [me_X1_lambda_core_1.ws] at hM
  obtain ⟨a1, a2, a3, a4⟩ := I.2.2
  refine e_call (n := 5) (a := #[Value.ref (ad xT), Value.ref (ad j)]) (mc := mc) (ms := ms) (st0 := (aR (some j) :: aR (some i) :: rest).map (e_v ad)) G E I (fun v hv => hst v (List.mem_cons_of_mem _ (List.mem_cons_of_mem _ hv))) hmc hms (fun T hT X => Or.inl ?_) kr (fun E' i' h' q _ => (hQx _ _ q).elim)
  obtain ⟨r0, r, hn, hrm, hstR, hsigR⟩ := Cond.declares_spec (G.2.1.2.1.use (args := args) q1203 rfl)
  obtain ⟨cL, kL, r1, hcL, hkL, hiL, hfoundL, hn1⟩ := Cond.interfaceMethod_spec (G.2.1.2.1.use (args := args) q1202 rfl)
  cases hn.symm.trans hn1
  have hr0cls : r0.cls = cL := Option.some.inj ((findClass_of_methodNamed hn).symm.trans hcL)
  obtain ⟨hnameR, hdescR⟩ := name_of_methodNamed hn hrm
  have e1 : (e_si 1).2.2.2.sam.toString = "(LReasonCloser$Closed;)Z" := by decide +kernel
  obtain ⟨-, -, -, -, -, -, -, iface', -, -, -, -, found, -, -, -, -, -, hi', -, -, -, -, -, -, hfound', -, -, -, -, -, -, -, -, -, -, hsel⟩ := Lambda.isMade_spec hmade
  cases hcL.symm.trans (show s.vm.findClass "ReasonCloser$Asked" = some iface' from hi')
  have hfr : found = r0 := by
    have h1 : s.methodFound? "ReasonCloser$Asked" "holds" "(LReasonCloser$Closed;)Z" = some r0 := hfoundL
    have hcL' : s.vm.findClass "ReasonCloser$Asked" = some cL := hcL
    simp only [State.methodFound?, hcL', hkL, hiL, Option.bind_eq_bind, Option.bind_some] at h1
    rw [e1] at hfound'
    have h2 : ((methodIn cL "holds" "(LReasonCloser$Closed;)Z" true none).ask { classPath := fun _ => none } s.vm).1 = .ok found := hfound'
    rw [h2] at h1
    exact Option.some.inj h1
  subst hfr
  obtain ⟨i2, hi2, hasg, hway⟩ := State.lambdaCallable_spec hcall
  cases hcL.symm.trans (show s.vm.findClass "ReasonCloser$Asked" = some i2 from hi2)
  rw [e1] at hway
  obtain ⟨kK, tk, file, methk, ck, toy, tB, g0, hkK, hkn, hfile, hpool, hmk, hck, hbytes, hmlK, hlkK, hfl, hretk, htoy, htk, hitf, hlook, hready, hclsR, hty, hkind, hf0, hf0s, hf0n⟩ := k1_facts hkS hnm hmade (obj_0 (G.2.1.1 _ q2022))
  have hsigY : parseMethodDescriptor "(LReasonCloser$Closed;)Z" = some ⟨[.object "ReasonCloser$Closed"], some .boolean⟩ := by decide +kernel
  have hcat : ((rest.map (e_v ad)).map fun v => v.category).sum ≤ 8 := by
    rw [List.map_map]
    refine Nat.le_trans (Nat.le_of_eq (congrArg List.sum (List.map_congr_left fun v _ => ?_))) h8
    exact e_cat ad v
  obtain ⟨vm₁, X₁, hstep₁⟩ := X.invokeinterface G.1.1 G.1.2.2.2.2.2.1 (G.2.1.1 _ w1) hn hrm hstR (ki := kL) (by rw [hr0cls]; exact hkL) hiL ⟨by decide, by decide⟩ (a := ad i) (cell := cell) (kcell := kK) (by rw [hT]; exact q1) (fun z hz => by rw [q3] at hz; cases hz) (by rw [q2]; exact hkK) (by rw [q2, hr0cls]; exact hasg)
    (m' := ⟨D.1.1 (100 + 1), 1⟩) (meth' := methk) (by rw [Launch.admits_selectMethod X.admits, q2]; exact hsel) hmk (by rw [q2, hnameR, hdescR]; exact hway) (by rw [hfl]; decide) (by simp [Method.isAbstract, hfl, hasFlag, Acc.abstract])
    (g := F0 m pc ls ((aR (some j) :: aR (some i) :: rest).map (e_v ad))) rfl (argsL := [.ref (ad j)]) (rest := rest.map (e_v ad)) (by rw [← Option.some.inj (hsigY.symm.trans hsigR)]; rfl) rfl (by rw [G.1.2.1]; exact hd)
  have hW₁ : s.WarmedH (T.setVm vm₁).vm := X₁.warmed
  have hh₁ : (T.setVm vm₁).heap = H := hT
  generalize T.setVm vm₁ = T₁ at X₁ hstep₁ hW₁ hh₁
  obtain ⟨kS₁, hkS₁, eS₁⟩ := hW₁.alike.2.2 _ _ hkS
  have hO₁ : ∀ U : State, s.WarmedH U.vm → ∀ o ok, U.vm.findClass "java/lang/Object" = some o → U.vm.classes[o]? = some ok → ok.instanceTypes.size = 0 := fun U hW => obj_0 (args := #[]) (word_at hW (Or.inl rfl) (G.2.1.1 _ q2022))
  obtain ⟨kK, tk, file, methk', ck, toy, tB, g0, hkK, hkn, hfile, hpool, hmk, hck, hbytes, hmlK, hlkK, hfl, hretk, htoy, htk, hitf, hlook, hready, hclsR, hty, hkind, hf0, hf0s, hf0n⟩ := k1_facts hkS₁ (by rw [eS₁]; exact hnm) (Lambda.isMade_warmer hW₁ hmade) (hO₁ T₁ hW₁)
  -- the target
  have hcodeU : ∀ (a' : Array Value) (U : State), s.WarmedH U.vm → (Cond.code yX1_lambda_core_1 cX1_lambda_core_1 2 (some .boolean)).before a' U = true := fun a' U hW => pay_in G.2.1.1 (lw_meth me_X1_lambda_core_1.2.1) _ List.mem_cons_self a' U hW
  have hwsU : ∀ w ∈ ws_ yX1_lambda_core_1 cX1_lambda_core_1 2 (some .boolean), ∀ (a' : Array Value) (U : State), s.WarmedH U.vm → w.before a' U = true := pay_in G.2.1.1 (lw_meth me_X1_lambda_core_1.2.1)
  cases hnB : T₁.methodNamed? yX1_lambda_core_1 with
  | none =>
    have := hcodeU #[] T₁ hW₁
    simp [Cond.before, Cond.holds, Cond.value, hnB] at this
  | some mB =>
  obtain ⟨methB, cB, hmB, -, -, -, -, -, -, hsigB⟩ := Cond.code_spec hnB (hcodeU #[] T₁ hW₁)
  obtain ⟨mk2, methM, hnamed2, hmethM, hstB, habB⟩ := Cond.instanceMethod_spec (word_at (a' := #[]) hW₁ (Or.inl rfl) (G.2.1.1 _ q1233))
  cases hnB.symm.trans hnamed2
  cases hmB.symm.trans hmethM
  have hy9 : yX1_lambda_core_1.cls ≠ "java/lang/invoke/MethodHandle" ∧ yX1_lambda_core_1.cls ≠ "java/lang/invoke/VarHandle" := ⟨by decide, by decide⟩
  obtain ⟨c2, r2, m2, s1, s2, s3, s4, kP, hkP, hkPi⟩ := Cond.selects_spec (word_at (a' := #[]) hW₁ (Or.inl rfl) (G.2.1.1 _ qs41))
  cases (State.methodFound?_of_named hnB hy9).symm.trans s2
  cases hnB.symm.trans s3
  have hfT : T₁.vm.findClass "ReasonCloser" = some mB.cls := findClass_of_methodNamed hnB
  cases htoy.symm.trans hfT
  have e2 : c2 = D.1.1 0 := by
    have h1 : T₁.vm.findClass "ReasonCloser" = some (D.1.1 0) := by rw [hW₁.alike.findClass]; exact hcx
    exact Option.some.inj (s1.symm.trans h1)
  obtain ⟨kT', hkT', hnameT⟩ := className_of_methodNamed hnB
  cases htk.symm.trans hkT'
  have htB : tB = mB := by
    have h1 : T₁.methodFound? "ReasonCloser" "lambda$core$1" "(LReasonCloser$Closed;)Z" = some mB := State.methodFound?_of_named hnB hy9
    simp only [State.methodFound?, hfT, htk, Option.bind_eq_bind, Option.bind_some] at h1
    rw [hlook] at h1
    exact Option.some.inj h1
  subst htB
  have hsp : ∀ z : Method, signaturePolymorphic tk z = false := fun z => by
    have h9 : tk.name = "ReasonCloser" := hnameT
    simp [signaturePolymorphic, h9]
  have hlenB : 1 = methB.sig.parameters.length := by
    rw [← Option.some.inj (hsigY.symm.trans hsigB)]
    rfl
  obtain ⟨v, T', U₁, L₁, c₁, n₁, X', ⟨st₀, t, ph, pc1, pn1, pL, pU, pv, pQ⟩, hh', hv', hsteps⟩ := kf_through X₁ (g := F0 m pc ls (rest.map (e_v ad))) rfl (I.2.1.2.1.trans G.1.2.2.1.symm) (by rw [G.1.2.1]; exact hd) #[.ref (ad i), .ref (ad j)] (R' := ({ frames := d + 1, cells := mc, slots := ms, locals := 64 * (d + 1) } : Room)) hmk hck hlkK
    (State.plainMethod.of_name (fun k' hk' => by cases hkK.symm.trans hk'; rw [hkn]; decide)) (by show d + 1 + 1 ≤ R.frames; omega) (by rw [hmlK]; show 2 * 0 + ((rest.map (e_v ad)).map fun v => v.category).sum + (2 + 11) + 64 * (d + 1) ≤ R.locals; omega) (by show cells + mc ≤ R.cells; omega) (by show slots + ms ≤ R.slots; omega)
    (Φ := fun v U₁ L₁ c₁ n₁ => ∃ st₀ t : State, st₀.heap = H ∧ c₁ = mc ∧ n₁ = ms ∧ (∀ q ∈ L₁, e_A ad h H.size q.base) ∧ U₁.heap = t.heap ∧ U₁.vm = t.vm ∧ e_Qc D ad h (e_A ad h H.size) Q' #[Value.ref (ad xT), Value.ref (ad j)] st₀ (.returned v) t)
    (fun U₀ hU₀ Y₀ => by
      have hvm : U₀.vm = T₁.vm := by rw [hU₀]; rfl
      have hheap : U₀.heap = H := by rw [hU₀]; exact hh₁
      have hW₀ : s.WarmedH U₀.vm := by rw [hvm]; exact hW₁
      have hnB₀ : U₀.methodNamed? yX1_lambda_core_1 = some tB := by
        have : (T₁.setVm U₀.vm).methodNamed? yX1_lambda_core_1 = some tB := by rw [hvm]; exact hnB
        exact this
      rw [hmlK, show entryFrame ⟨D.1.1 (100 + 1), 1⟩ #[Value.ref (ad i), Value.ref (ad j)] 2 = F0 ⟨D.1.1 (100 + 1), 1⟩ 0 #[.val (.ref (ad i)), .val (.ref (ad j))] [] from rfl]
      have hvb := vx_back (l := l) (R := ({ frames := d + 1, cells := mc, slots := ms, locals := 64 * (d + 1) } : Room)) (p := p) (e := e) (below := .java (F0 m pc ls (rest.map (e_v ad))) :: below) (s := T₁.calling (F0 m pc ls (rest.map (e_v ad))) ⟨D.1.1 (100 + 1), 1⟩ #[.ref (ad i), .ref (ad j)]) (sargs := #[.ref (ad i), .ref (ad j)]) (len := 3) (W9 := 0) (bytes := cX1_lambda_core_1) (maxL := 2) (ret := some .boolean) hM e_blind rfl rfl (Nat.le_refl _) (by show 0 + (2 + 11) + 64 * d ≤ 64 * (d + 1); omega) (fun w hw a' U hW => hwsU w hw a' U (State.WarmedH.trans hW₁ hW)) List.mem_cons_self (fun a' U hW => word_at (State.WarmedH.trans hW₁ hW) (Or.inl rfl) (G.2.1.1 _ q108))
      have hK : Back l ({ frames := d + 1, cells := mc, slots := ms, locals := 64 * (d + 1) } : Room) p e (.java (F0 m pc ls (rest.map (e_v ad))) :: below) (T₁.calling (F0 m pc ls (rest.map (e_v ad))) ⟨D.1.1 (100 + 1), 1⟩ #[.ref (ad i), .ref (ad j)]) #[.ref (ad i), .ref (ad j)] yX1_lambda_core_1 3 0 _ _ := fun m9 meth9 c9 A9 g9 ig9 mk9 a9 w1 w2 w3 w4 w5 w6 w7 => by
        rcases hvb m9 meth9 c9 A9 g9 ig9 mk9 a9 w1 w2 w3 w4 w5 w6 w7 with z | ⟨q, B, -, ⟨_, _, _, _, _, _, -, -, ⟨⟨_, h', _, -, hq, -⟩, -⟩, -⟩, -⟩
        · exact z
        · exact (hQx _ _ hq).elim
      have t0 := kf_al (p := p) (pc := 0) (ls := #[.val (.ref (ad i)), .val (.ref (ad j))]) (rest := []) Y₀ G.1.1 (j := 0) (by rw [hbytes]; exact k1_d0) rfl
      have hq4 : cell.slots[0]? = some (Value.ref (ad xT)) := by
        have := q4 0 (by decide)
        rw [hj 0] at this
        rw [this]
        show some (e_v ad (fs 0)) = _
        rw [hf]
        rfl
      have t1 := kf_get (p := p) (pc := 1) (ls := #[.val (.ref (ad i)), .val (.ref (ad j))]) (rest := []) Y₀ G.1.1 (cF := D.1.1 (100 + 1)) (by rw [hvm]; exact hf0) hf0s (by rw [hheap]; exact q1) (by rw [q3]; exact fun z => by cases z) (v := Value.ref (ad xT)) (by rw [hf0n]; exact hq4) (by rw [hbytes]; exact k1_d1)
      have t4 := kf_al (p := p) (pc := 4) (ls := #[.val (.ref (ad i)), .val (.ref (ad j))]) (rest := [Value.ref (ad xT)]) Y₀ G.1.1 (j := 1) (by rw [hbytes]; exact k1_d4) rfl
      have hpre : e_Pc D ad h H.size [fs 0, aR (some j)] #[Value.ref (ad xT), Value.ref (ad j)] U₀ := by
        have := e_pre (as := [fs 0, aR (some j)]) G I U₀ hheap hW₀
        rw [show ([fs 0, aR (some j)].map (e_v ad)).toArray = #[Value.ref (ad xT), Value.ref (ad j)] from by rw [hf]; rfl] at this
        exact this
      obtain ⟨v, ⟨U₁, L₁, c₁, n₁⟩, Y₁, ⟨g9, mk9, t, L, z1, z2, z3, z4, z5, z6, z7⟩, t9⟩ := kf_virtual (pc := 5) (ls := #[.val (.ref (ad i)), .val (.ref (ad j))]) (rest := []) Y₀ G.1.1 (by rw [hmlK]; rfl) (index := 22) (a := ad xT) (y := yX1_lambda_core_1) (r := tB) (t := tB) (kr := tk) (kt := kP) (methr := methB) (metht := methB) (cell := cx) (argsL := [Value.ref (ad j)])
        ⟨kK, file, 19, 21, tB.cls, tk, by rw [hvm]; exact hkK, hfile, by rw [hpool]; exact k1_eM.1, by rw [hvm]; exact hclsR, by rw [hvm]; exact htk, hitf⟩ (by rw [hvm]; exact hready) (by rw [hvm]; exact htk) (by rw [hvm]; exact hmB) (hsp _) hstB hlenB (by rw [hheap]; exact x1) (fun z hz => by rw [x3] at hz; cases hz)
        (by rw [Launch.admits_selectMethod X.admits, x2, hvm, ← e2]; exact s4) (by rw [hvm]; exact hmB) habB (by rw [hvm]; exact hkP) hkPi hnB₀ hK (Nat.le_refl 0) ⟨by show 0 + mc ≤ mc; omega, by show 0 + ms ≤ ms; omega, hpre⟩ (by rw [hbytes]; exact k1_d5)
      dsimp only [Pt.U, Pt.locs, Pt.cells, Pt.slots] at Y₁ z1 z2 z3 z4 z5 z6 z7 t9
      obtain ⟨⟨o, h', ad', ov, oq, -⟩, -⟩ := id z3
      obtain ⟨n, on, o01⟩ := hQo _ _ oq
      subst on
      have ev : v = some (.int (Int32.ofInt n)) := by injection ov
      subst ev
      refine ⟨_, U₁, L₁, c₁, n₁, Y₁, (fun q => by rw [hretk] at q; cases q), ⟨_, t, hheap, by rw [z6]; exact Nat.zero_add _, by rw [z7]; exact Nat.zero_add _, fun q hq => z5 q (by rw [z4] at hq; exact hq), z1, z2, z3⟩, fun fs hleave => ?_⟩
      exact t0 _ (t1 _ (t4 _ (t9 _ (kf_ret Y₁ G.1.1 hretk (bool_narrow o01) (by rw [hbytes]; exact k1_d8) hleave))))
      )
  subst pc1 pn1
  exact ⟨v, st₀, t, T', L₁, ph, X', pL, hh'.trans pU, hv'.trans pv, pQ, fun tg htg => hstep₁ _ fun acts => by rw [doInvoke_state]; exact hsteps.trans htg⟩
end ASK
