/-! EW: rules of calls -/
set_option maxRecDepth 100000
theorem e_blind {D : ED} {ad : EA} {h : AH} {sz : Nat} {as : List AV} : FrameBlind (e_Pc D ad h sz as) := by
  intro a U g mk hq
  obtain ⟨h1, h2, h3, ⟨h4, h5, h6, h9⟩, h7, h8⟩ := hq
  exact ⟨h1, h2, h3, ⟨fun w hw => va_Nw.same (e_tk_on (List.mem_filter.mp hw).2) (u := U) (U := U.calling g mk a) rfl (h4 w hw), e_FW.moved (u := U) (U := U.calling g mk a) (Vm.Alike.refl U.vm) h5, va_AO.moved (u := U) (U := U.calling g mk a) (Vm.Alike.refl U.vm) h6, e_L.warm (s := U) (t := U.calling g mk a) (State.WarmedH.refl U) h9⟩,
    e_K.moved (u := U) (U := U.calling g mk a) (Vm.Alike.refl U.vm) h7, e_K9.same (s := U) (U := U.calling g mk a) rfl rfl h8⟩
def e_mth (M : EM) (n : Nat) : Prop := M.2.2.2.2 = [] ∧ Cond.code M.1 M.2.1 M.2.2.1 M.2.2.2.1 ∈ lw_all ∧ Cond.initialized M.1.cls ∈ lw_all ∧ (M.1.cls ≠ "java/lang/invoke/MethodHandle" ∧ M.1.cls ≠ "java/lang/invoke/VarHandle" ∧ (parseMethodDescriptor M.1.desc).map (fun d => d.parameters.length) = some n) ∧ M.2.2.1 ≤ 45
theorem e_mth.ws {M : EM} {n : Nat} (h : e_mth M n) : e_ws M = ws_ M.1 M.2.1 M.2.2.1 M.2.2.2.1 := by unfold e_ws; rw [h.1]
section EWC
variable {M M' : EM} {d kc ks mc ms : Nat} {Q Q' : AO → AH → Prop} {pc : Nat} {lv : List (Nat × AV)} {rest : List AV} {h : AH}
variable {D : ED} {p : Program} {l : Launch} {e : Env} {R : Room} {s : State} {m : MethodId} {args : Array Value} {below : List Frame} {meth : Method} {c : Code} {Z : State → Prop} {A : Nat → Prop} {ad0 : EA} {h0 : AH} {H : Heap} {locs : List Loc} {cells slots : Nat} {ad : EA} {ls : Array Slot}
theorem e_pre {as : List AV} (G : e_G M D p l s m args meth c ad0 A) (I : e_I M D R s A ad0 h0 d kc ks H locs cells slots ad ls lv h) : ∀ U : State, U.heap = H → s.WarmedH U.vm → e_Pc D ad h H.size as (as.map (e_v ad)).toArray U := by
  intro U hU hW
  obtain ⟨⟨hR, hX, hdm, hS⟩, -⟩ := I
  have hX9 : e_X (fun _ => none) ad0 ad := fun i hi => hX i (Or.inr (hi.resolve_left fun q => q rfl))
  have hAB : ∀ q, e_A ad h H.size q → A q := by
    intro q hq
    rcases hq with ⟨i, hi, rfl⟩ | hq
    · cases hc : h i with
      | none => exact absurd hc hi
      | some ci => exact (hR.1 i ci hc).2.1
    · exact G.2.2.2.2.1 q (Nat.le_trans hS.1 hq)
  refine ⟨rfl, by rw [hU], by rw [hU]; exact ⟨fun i ci hi => ⟨(hR.1 i ci hi).1, Or.inl ⟨i, by rw [hi]; exact (fun q => by cases q), rfl⟩, (hR.1 i ci hi).2.2⟩, hR.2⟩, ⟨G.2.1.2.1.warm hW, G.2.1.2.2.1.moved hW.alike, va_AO.moved hW.alike G.2.1.2.2.2.1, G.2.1.2.2.2.2.warm hW⟩, e_K.moved hW.alike G.2.2.1, ?_⟩
  exact (e_K9.adr hX9 G.2.2.2.1).warm hW (by rw [hU]; exact hS.2.1) hAB
/-- behind a call -/
theorem e_call {n : Nat} {a : Array Value} {st0 : List Value} (G : e_G M D p l s m args meth c ad0 A) (E : e_Z M D p l e R s m args below meth c Z A ad0 h0 Q) (I : e_I M D R s A ad0 h0 d kc ks H locs cells slots ad ls lv h) (hst : ∀ v ∈ rest, e_okv h v) (hmc : mc ≤ kc) (hms : ms ≤ ks)
    (hr : ∀ T : State, T.heap = H → Stand p l e R s m args below meth c T locs cells slots →
      (∃ (v : Option Value) (st₀ t T' : State) (L : List Loc), st₀.heap = H ∧ Stand p l e R s m args below meth c T' (locs ++ L) (cells + mc) (slots + ms) ∧ (∀ q ∈ L, e_A ad h H.size q.base) ∧ T'.heap = t.heap ∧ T'.vm = t.vm ∧ e_Qc D ad h (e_A ad h H.size) Q' a st₀ (.returned v) t ∧
        Goes p e below T (F0 m pc ls st0) T' (F0 m (pc + n) ls (v.toList ++ rest.map (e_v ad)))) ∨
      (∃ (q : Addr) (st₀ t T' : State) (L : List Loc) (E : String) (ce : Cell), st₀.heap = H ∧ Stand p l e R s m args below meth c T' (locs ++ L) (cells + mc) (slots + ms) ∧ (∀ z ∈ L, e_A ad h H.size z.base) ∧ T'.heap = t.heap ∧ T'.vm = t.vm ∧ e_XC D ad h (e_A ad h H.size) Q' E q st₀ t ∧ t.heap[q]? = some ce ∧ ce.vm = .none ∧ s.vm.findClass E = some ce.cls ∧
        Steps p.tables e below (T.setTop (F0 m pc ls st0)) ((T'.setTop (F0 m pc ls (rest.map (e_v ad)))).pushFrame (.throwing q))))
    (kr : ∀ o h', Q' (Sum.inl o) h' → (∀ i, h i ≠ none → h' i ≠ none) → EW M d (kc - mc) (ks - ms) Q (pc + n) lv (o.toList ++ rest) h')
    (kx : ∀ E i h', Q' (Sum.inr (E, i)) h' → (∀ i, h i ≠ none → h' i ≠ none) → EX M d (kc - mc) (ks - ms) Q pc lv h' E i) :
    W p l e R s m args below meth c H locs cells slots Z (F0 m pc ls st0) := by
  obtain ⟨⟨hR, hX, hdm, hS⟩, ⟨lo, hl⟩, r1, r2, r3, r4⟩ := I
  have hAB : ∀ q, e_A ad h H.size q → A q := by
    intro q hq
    rcases hq with ⟨i, hi, rfl⟩ | hq
    · cases hc : h i with
      | none => exact absurd hc hi
      | some ci => exact (hR.1 i ci hc).2.1
    · exact G.2.2.2.2.1 q (Nat.le_trans hS.1 hq)
  intro T hT X
  rcases hr T hT X with ⟨v, st₀, t, T', L, g0, X', hL, e1, e2, ⟨⟨o, h', ad', ev, hq, hR', hX', hd', hok'⟩, hF⟩, st⟩ | ⟨q, st₀, t, T', L, E', ce, g0, X', hL, e1, e2, ⟨⟨i, h', ad', hin', hq, hR', hX', hd'⟩, hF⟩, hce, hcv, hcl, st⟩
  · cases ev
    obtain ⟨k1, k2, k3⟩ := vx_keep g0 e1 hS (fun q _ hq => hAB q hq) hAB hL hF
    have hlv : (lv.map fun q => (q.1, e_v ad' q.2)) = lv.map fun q => (q.1, e_v ad q.2) := List.map_congr_left fun q hq => by rw [e_v_eq (lo q hq) hX']
    have hrs : (o.map (e_v ad')).toList ++ rest.map (e_v ad) = (o.toList ++ rest).map (e_v ad') := by
      rw [List.map_append]
      congr 1
      · cases o <;> rfl
      · exact List.map_congr_left fun v hv => (e_v_eq (hst v hv) hX').symm
    have K := kr o h' hq hd' D p l e R s m args below meth c Z A ad0 h0 G E T'.heap (locs ++ L) (cells + mc) (slots + ms) ad' ls
      ⟨⟨by rw [e1]; exact hR'.mono hAB, hX.trans hdm hX', fun j hj => hd' j (hdm j hj), k3⟩, ⟨fun q hq => (lo q hq).mono hd', by rw [hlv]; exact hl⟩, by omega, by omega, r3, r4⟩ (fun v hv => by
        rcases List.mem_append.mp hv with hv | hv
        · exact hok' v (Option.mem_toList.mp hv)
        · exact (hst v hv).mono hd')
    rw [← hrs] at K
    obtain ⟨t2, a1, b1⟩ := K T' rfl X'
    exact ⟨t2, st t2 a1, b1⟩
  · obtain ⟨k1, k2, k3⟩ := vx_keep g0 e1 hS (fun q _ hq => hAB q hq) hAB hL hF
    have hlv : (lv.map fun q => (q.1, e_v ad' q.2)) = lv.map fun q => (q.1, e_v ad q.2) := List.map_congr_left fun q hq => by rw [e_v_eq (lo q hq) hX']
    obtain ⟨t2, a1, b1⟩ := kx E' i h' hq hd' D p l e R s m args below meth c Z A ad0 h0 G E T'.heap (locs ++ L) (cells + mc) (slots + ms) ad' ls (rest.map (e_v ad)) q ce
      ⟨⟨by rw [e1]; exact hR'.mono hAB, hX.trans hdm hX', fun j hj => hd' j (hdm j hj), k3⟩, ⟨fun q hq => (lo q hq).mono hd', by rw [hlv]; exact hl⟩, by omega, by omega, r3, r4⟩ hin' (by rw [e1]; exact hce) hcv hcl T' rfl X'
    exact ⟨t2, st.trans a1, b1⟩
theorem e_C6 {n : Nat} (G : e_G M D p l s m args meth c ad0 A) (hm : e_mth M' n) (hd : d + 1 ≤ R.frames) (hl : 64 * (d + 1) ≤ R.locals) :
    ((({ frames := d, cells := mc, slots := ms, locals := 64 * d } : Room).cells = mc ∧ ({ frames := d, cells := mc, slots := ms, locals := 64 * d } : Room).slots = ms ∧ ({ frames := d, cells := mc, slots := ms, locals := 64 * d } : Room).frames + 1 ≤ R.frames ∧ 8 + (M'.2.2.1 + 11) + ({ frames := d, cells := mc, slots := ms, locals := 64 * d } : Room).locals ≤ R.locals ∧ (∀ w ∈ ws_ M'.1 M'.2.1 M'.2.2.1 M'.2.2.2.1, ∀ (a' : Array Value) (U : State), s.WarmedH U.vm → w.before a' U = true) ∧ Cond.code M'.1 M'.2.1 M'.2.2.1 M'.2.2.2.1 ∈ ws_ M'.1 M'.2.1 M'.2.2.1 M'.2.2.2.1) ∧
    (Cond.code M'.1 M'.2.1 M'.2.2.1 M'.2.2.2.1).before args s = true ∧ (Cond.initialized M'.1.cls).before args s = true ∧ (M'.1.cls ≠ "java/lang/invoke/MethodHandle" ∧ M'.1.cls ≠ "java/lang/invoke/VarHandle")) ∧ (∀ sig, parseMethodDescriptor M'.1.desc = some sig → n = sig.parameters.length) := by
  obtain ⟨-, h2, h3, ⟨h4, h5, h6⟩, h7⟩ := hm
  refine ⟨⟨⟨rfl, rfl, hd, by show 8 + (M'.2.2.1 + 11) + 64 * d ≤ R.locals; omega, pay_in G.2.1.1 (lw_meth h2), List.mem_cons_self⟩, G.2.1.1 _ h2, G.2.1.1 _ h3, ⟨h4, h5⟩⟩, fun sig hs => ?_⟩
  rw [hs] at h6
  exact (Option.some.inj h6).symm
theorem e_cat8 {rest : List AV} (ad : EA) (h : (rest.map fun v => if e_is2 v then 2 else 1).sum ≤ 8) : ((rest.map (e_v ad)).map fun v => v.category).sum ≤ 8 := by
  rw [List.map_map]
  refine Nat.le_trans (Nat.le_of_eq (congrArg List.sum (List.map_congr_left fun v _ => ?_))) h
  exact e_cat ad v
theorem e_mapR {as : List AV} {ad : EA} {i : EId} : ((as.reverse ++ aR (some i) :: rest).map (e_v ad)) = (as.map (e_v ad)).reverse ++ .ref (ad i) :: rest.map (e_v ad) := by
  rw [List.map_append, List.map_reverse]; rfl
theorem e_mapS {as : List AV} {ad : EA} : ((as.reverse ++ rest).map (e_v ad)) = (as.map (e_v ad)).reverse ++ rest.map (e_v ad) := by
  rw [List.map_append, List.map_reverse]
theorem ok_as {as : List AV} {v : AV} (hst : ∀ w ∈ as.reverse ++ v :: rest, e_okv h w) : (∀ w ∈ v :: as, e_okv h w) ∧ ∀ w ∈ rest, e_okv h w := by
  refine ⟨fun w hw => ?_, fun w hw => hst w (List.mem_append_right _ (List.mem_cons_of_mem _ hw))⟩
  rcases List.mem_cons.mp hw with rfl | hw
  · exact hst _ (List.mem_append_right _ List.mem_cons_self)
  · exact hst w (List.mem_append_left _ (List.mem_reverse.mpr hw))
theorem ok_as0 {as : List AV} (hst : ∀ w ∈ as.reverse ++ rest, e_okv h w) : (∀ w ∈ as, e_okv h w) ∧ ∀ w ∈ rest, e_okv h w :=
  ⟨fun w hw => hst w (List.mem_append_left _ (List.mem_reverse.mpr hw)), fun w hw => hst w (List.mem_append_right _ hw)⟩
/-- an own or private method of the receiver's class, by invokevirtual (entry plain or a nest mate's) -/
theorem ew_callV {idx n ci : Nat} {i : EId} {fs : Nat → AV} {r : vw_C} {as st : List AV} (hst0 : as.reverse ++ aR (some i) :: rest = st) (hd : decode M.2.1 pc = .ok (.invokevirtual idx, 3)) (hm : e_mth M' n) (hn : as.length = n) (hr : e_cl[ci]? = some r) (hC : M'.1.cls = r.1) (hi : h i = some (kO ci fs))
    (w1 : Cond.methodLink M.1.cls idx M'.1 ∈ lw_all ∨ ∃ host, Cond.methodLinkNest M.1.cls idx M'.1 host ∈ lw_tbl) (w2 : Cond.instanceMethod M'.1 ∈ lw_all) (w3 : Cond.selects M'.1.cls M'.1 M'.1 ∈ lw_all) (h8 : (rest.map fun v => if e_is2 v then 2 else 1).sum ≤ 8) (hmc : mc ≤ kc) (hms : ms ≤ ks)
    (hS : Sp M' d mc ms (aR (some i) :: as) h Q')
    (kr : ∀ o h', Q' (Sum.inl o) h' → (∀ i, h i ≠ none → h' i ≠ none) → EW M (d + 1) (kc - mc) (ks - ms) Q (pc + 3) lv (o.toList ++ rest) h')
    (kx : ∀ E i h', Q' (Sum.inr (E, i)) h' → (∀ i, h i ≠ none → h' i ≠ none) → EX M (d + 1) (kc - mc) (ks - ms) Q pc lv h' E i) :
    EW M (d + 1) kc ks Q pc lv st h := by
  subst hst0
  intro D p l e R s m args below meth c Z A ad0 h0 G E H locs cells slots ad ls I hst
  obtain ⟨ok1, ok2⟩ := ok_as hst
  have hM := hS D l ad H.size G.2.2.2.2.2 ok1
  rw [hm.ws] at hM
  rw [e_mapR]
  have hp : PreV s H M'.1.cls (ad i) (e_Pc D ad h H.size (aR (some i) :: as)) (as.map (e_v ad)) := ⟨e_blind, by rw [hC]; exact e_recv I.1.1 G.2.2.1 hi hr, fun U hU hW => e_pre G I U hU hW⟩
  have hfix : CallFix p m c M.2.1 M.2.2.1 s args lw_all M.1.cls := ⟨G.1.1, G.1.2.1, G.1.2.2.1, G.1.2.2.2.2.2.1, G.2.1.1⟩
  obtain ⟨a1, a2, a3, a4⟩ := I.2.2
  obtain ⟨⟨⟨b1, b2, b3, b4, b5, b6⟩, b7, b8, b9⟩, b10⟩ := e_C6 (mc := mc) (ms := ms) G hm a3 a4
  refine e_call (n := 3) (a := (Value.ref (ad i) :: as.map (e_v ad)).toArray) G E I ok2 hmc hms ?_ kr kx
  rcases w1 with w1 | ⟨host, w1⟩
  · exact vx_runV hfix hM ⟨⟨b1, b2, b3, b4, b5, b6, b7, b8, b9, b10, G.2.1.1 _ w1⟩, G.2.1.1 _ w2, G.2.1.1 _ w3⟩ hp rfl (by rw [List.length_map]; exact hn) I.2.1.2.1 rfl (lv_room (e_cat8 ad h8)) hd ⟨by omega, by omega⟩
  · exact vx_runVN (host := host) hfix hM ⟨⟨⟨b1, b2, b3, b4, b5, b6⟩, b7, b8, b9, b10, G.2.1.2.1.use w1 rfl⟩, G.2.1.1 _ w2, G.2.1.1 _ w3⟩ hp rfl (by rw [List.length_map]; exact hn) I.2.1.2.1 rfl (lv_room (e_cat8 ad h8)) hd ⟨by omega, by omega⟩
/-- a static method -/
theorem ew_callS {idx n : Nat} {as st : List AV} (hst0 : as.reverse ++ rest = st) (hd : decode M.2.1 pc = .ok (.invokestatic idx, 3)) (hm : e_mth M' n) (hn : as.length = n)
    (w1 : Cond.methodLink M.1.cls idx M'.1 ∈ lw_all ∨ ∃ host, Cond.methodLinkNest M.1.cls idx M'.1 host ∈ lw_tbl) (w2 : Cond.static M'.1 ∈ lw_all) (h8 : (rest.map fun v => if e_is2 v then 2 else 1).sum ≤ 8) (hmc : mc ≤ kc) (hms : ms ≤ ks)
    (hS : Sp M' d mc ms as h Q')
    (kr : ∀ o h', Q' (Sum.inl o) h' → (∀ i, h i ≠ none → h' i ≠ none) → EW M (d + 1) (kc - mc) (ks - ms) Q (pc + 3) lv (o.toList ++ rest) h')
    (kx : ∀ E i h', Q' (Sum.inr (E, i)) h' → (∀ i, h i ≠ none → h' i ≠ none) → EX M (d + 1) (kc - mc) (ks - ms) Q pc lv h' E i) :
    EW M (d + 1) kc ks Q pc lv st h := by
  subst hst0
  intro D p l e R s m args below meth c Z A ad0 h0 G E H locs cells slots ad ls I hst
  obtain ⟨ok1, ok2⟩ := ok_as0 hst
  have hM := hS D l ad H.size G.2.2.2.2.2 ok1
  rw [hm.ws] at hM
  rw [e_mapS]
  have hp : PreS s H (e_Pc D ad h H.size as) (as.map (e_v ad)) := ⟨e_blind, fun U hU hW => e_pre G I U hU hW⟩
  have hfix : CallFix p m c M.2.1 M.2.2.1 s args lw_all M.1.cls := ⟨G.1.1, G.1.2.1, G.1.2.2.1, G.1.2.2.2.2.2.1, G.2.1.1⟩
  obtain ⟨a1, a2, a3, a4⟩ := I.2.2
  obtain ⟨⟨⟨b1, b2, b3, b4, b5, b6⟩, b7, b8, b9⟩, b10⟩ := e_C6 (mc := mc) (ms := ms) G hm a3 a4
  refine e_call (n := 3) (a := (as.map (e_v ad)).toArray) G E I ok2 hmc hms ?_ kr kx
  rcases w1 with w1 | ⟨host, w1⟩
  · exact vx_runS hfix hM ⟨⟨b1, b2, b3, b4, b5, b6, b7, b8, b9, b10, G.2.1.1 _ w1⟩, G.2.1.1 _ w2⟩ hp rfl (by rw [List.length_map]; exact hn) I.2.1.2.1 rfl (lv_room (e_cat8 ad h8)) hd ⟨by omega, by omega⟩
  · exact vx_runSN (host := host) hfix hM ⟨⟨⟨b1, b2, b3, b4, b5, b6⟩, b7, b8, b9, b10, G.2.1.2.1.use w1 rfl⟩, G.2.1.1 _ w2, trivial⟩ hp rfl (by rw [List.length_map]; exact hn) I.2.1.2.1 rfl (lv_room (e_cat8 ad h8)) hd ⟨by omega, by omega⟩
/-- a constructor -/
theorem ew_callI {idx n : Nat} {i : EId} {as st : List AV} (hst0 : as.reverse ++ aR (some i) :: rest = st) (hd : decode M.2.1 pc = .ok (.invokespecial idx, 3)) (hm : e_mth M' n) (hn : as.length = n) (hret : M'.2.2.2.1 = none) (hnm : M'.1.name = "<init>")
    (w1 : Cond.methodLink M.1.cls idx M'.1 ∈ lw_all ∨ ∃ host, Cond.methodLinkNest M.1.cls idx M'.1 host ∈ lw_tbl) (w2 : Cond.instanceMethod M'.1 ∈ lw_all) (h8 : (rest.map fun v => if e_is2 v then 2 else 1).sum ≤ 8) (hmc : mc ≤ kc) (hms : ms ≤ ks)
    (hS : Sp M' d mc ms (aR (some i) :: as) h Q')
    (kr : ∀ o h', Q' (Sum.inl o) h' → (∀ i, h i ≠ none → h' i ≠ none) → EW M (d + 1) (kc - mc) (ks - ms) Q (pc + 3) lv (o.toList ++ rest) h')
    (kx : ∀ E i h', Q' (Sum.inr (E, i)) h' → (∀ i, h i ≠ none → h' i ≠ none) → EX M (d + 1) (kc - mc) (ks - ms) Q pc lv h' E i) :
    EW M (d + 1) kc ks Q pc lv st h := by
  subst hst0
  intro D p l e R s m args below meth c Z A ad0 h0 G E H locs cells slots ad ls I hst
  obtain ⟨ok1, ok2⟩ := ok_as hst
  have hM := hS D l ad H.size G.2.2.2.2.2 ok1
  rw [hm.ws, hret] at hM
  rw [e_mapR]
  have hp : PreS s H (e_Pc D ad h H.size (aR (some i) :: as)) (.ref (ad i) :: as.map (e_v ad)) := ⟨e_blind, fun U hU hW => e_pre G I U hU hW⟩
  have hfix : CallFix p m c M.2.1 M.2.2.1 s args lw_all M.1.cls := ⟨G.1.1, G.1.2.1, G.1.2.2.1, G.1.2.2.2.2.2.1, G.2.1.1⟩
  obtain ⟨a1, a2, a3, a4⟩ := I.2.2
  obtain ⟨⟨⟨b1, b2, b3, b4, b5, b6⟩, b7, b8, b9⟩, b10⟩ := e_C6 (mc := mc) (ms := ms) G hm a3 a4
  rw [hret] at b5 b6 b7
  refine e_call (n := 3) (a := (Value.ref (ad i) :: as.map (e_v ad)).toArray) G E I ok2 hmc hms ?_ kr kx
  rcases w1 with w1 | ⟨host, w1⟩
  · exact vx_runI hfix hM ⟨⟨b1, b2, b3, b4, b5, b6, b7, b8, b9, b10, G.2.1.1 _ w1⟩, hnm, G.2.1.1 _ w2⟩ hp rfl (by rw [List.length_map]; exact hn) I.2.1.2.1 rfl (lv_room (e_cat8 ad h8)) hd ⟨by omega, by omega⟩
  · exact vx_runIN (host := host) hfix hM ⟨⟨⟨b1, b2, b3, b4, b5, b6⟩, b7, b8, b9, b10, G.2.1.2.1.use w1 rfl⟩, hnm, G.2.1.1 _ w2⟩ hp rfl (by rw [List.length_map]; exact hn) I.2.1.2.1 rfl (lv_room (e_cat8 ad h8)) hd ⟨by omega, by omega⟩
/-- a method that the receiver's class inherits or overrides: named x -/
theorem ew_callU {idx n ci : Nat} {i : EId} {fs : Nat → AV} {r : vw_C} {as st : List AV} {x : MethodName} {owner : String} (hst0 : as.reverse ++ aR (some i) :: rest = st) (hd : decode M.2.1 pc = .ok (.invokevirtual idx, 3)) (hm : e_mth M' n) (hn : as.length = n) (hr : e_cl[ci]? = some r) (hi : h i = some (kO ci fs)) (hxd : x.desc = M'.1.desc)
    (w1 : Cond.methodLink M.1.cls idx x ∈ lw_all) (w2 : Cond.sameMethod x.cls owner x.name x.desc ∈ lw_all) (w3 : Cond.selects r.1 x M'.1 ∈ lw_all) (w4 : Cond.instanceMethod M'.1 ∈ lw_all) (w5 : Cond.declares ⟨owner, x.name, x.desc⟩ ∈ lw_tbl ∨ (Cond.instanceMethod ⟨owner, x.name, x.desc⟩ ∈ lw_all ∧ ∃ b0 m0 r0, Cond.code ⟨owner, x.name, x.desc⟩ b0 m0 r0 ∈ lw_all))
    (ho : owner ≠ "java/lang/invoke/MethodHandle" ∧ owner ≠ "java/lang/invoke/VarHandle") (h8 : (rest.map fun v => if e_is2 v then 2 else 1).sum ≤ 8) (hmc : mc ≤ kc) (hms : ms ≤ ks)
    (hS : Sp M' d mc ms (aR (some i) :: as) h Q')
    (kr : ∀ o h', Q' (Sum.inl o) h' → (∀ i, h i ≠ none → h' i ≠ none) → EW M (d + 1) (kc - mc) (ks - ms) Q (pc + 3) lv (o.toList ++ rest) h')
    (kx : ∀ E i h', Q' (Sum.inr (E, i)) h' → (∀ i, h i ≠ none → h' i ≠ none) → EX M (d + 1) (kc - mc) (ks - ms) Q pc lv h' E i) :
    EW M (d + 1) kc ks Q pc lv st h := by
  subst hst0
  intro D p l e R s m args below meth c Z A ad0 h0 G E H locs cells slots ad ls I hst
  obtain ⟨ok1, ok2⟩ := ok_as hst
  have hM := hS D l ad H.size G.2.2.2.2.2 ok1
  rw [hm.ws] at hM
  rw [e_mapR]
  have hp : PreV s H r.1 (ad i) (e_Pc D ad h H.size (aR (some i) :: as)) (as.map (e_v ad)) := ⟨e_blind, e_recv I.1.1 G.2.2.1 hi hr, fun U hU hW => e_pre G I U hU hW⟩
  have hfix : CallFix p m c M.2.1 M.2.2.1 s args lw_all M.1.cls := ⟨G.1.1, G.1.2.1, G.1.2.2.1, G.1.2.2.2.2.2.1, G.2.1.1⟩
  obtain ⟨a1, a2, a3, a4⟩ := I.2.2
  obtain ⟨⟨⟨b1, b2, b3, b4, b5, b6⟩, b7, b8, b9⟩, b10⟩ := e_C6 (mc := mc) (ms := ms) G hm a3 a4
  refine e_call (n := 3) (a := (Value.ref (ad i) :: as.map (e_v ad)).toArray) G E I ok2 hmc hms ?_ kr kx
  have hdecl : va_Decl s ⟨owner, x.name, x.desc⟩ := by
    rcases w5 with w5 | ⟨w5, b0, m0, r0, w6⟩
    · obtain ⟨z1, z2, z3, z4, z5, z6⟩ := Cond.declares_spec (G.2.1.2.1.use (args := args) w5 rfl)
      exact ⟨z1, z2, z3, z4, z5, z6⟩
    · exact va_Decl.of (G.2.1.1 _ w5) (G.2.1.1 _ w6)
  exact vx_runU hfix hM ⟨⟨b1, b2, b3, b4, b5, b6⟩, b7, b8, ho, by rw [hxd]; exact b10, G.2.1.1 _ w1, G.2.1.1 _ w2, hdecl, G.2.1.1 _ w3, G.2.1.1 _ w4⟩ hp rfl (by rw [List.length_map]; exact hn) I.2.1.2.1 rfl (lv_room (e_cat8 ad h8)) hd ⟨by omega, by omega⟩
/-- super.m(..) -/
theorem ew_callSU {idx n ci : Nat} {i : EId} {fs : Nat → AV} {r : vw_C} {as st : List AV} (hst0 : as.reverse ++ aR (some i) :: rest = st) (hd : decode M.2.1 pc = .ok (.invokespecial idx, 3)) (hm : e_mth M' n) (hn : as.length = n) (hr : e_cl[ci]? = some r) (hi : h i = some (kO ci fs)) (hnm : M'.1.name ≠ "<init>")
    (w1 : Cond.methodLink M.1.cls idx M'.1 ∈ lw_all) (w2 : Cond.sameMethod M'.1.cls M'.1.cls M'.1.name M'.1.desc ∈ lw_all) (w3 : Cond.superclass M.1.cls M'.1.cls ∈ lw_all) (w4 : Cond.instanceMethod M'.1 ∈ lw_all) (h8 : (rest.map fun v => if e_is2 v then 2 else 1).sum ≤ 8) (hmc : mc ≤ kc) (hms : ms ≤ ks)
    (hS : Sp M' d mc ms (aR (some i) :: as) h Q')
    (kr : ∀ o h', Q' (Sum.inl o) h' → (∀ i, h i ≠ none → h' i ≠ none) → EW M (d + 1) (kc - mc) (ks - ms) Q (pc + 3) lv (o.toList ++ rest) h')
    (kx : ∀ E i h', Q' (Sum.inr (E, i)) h' → (∀ i, h i ≠ none → h' i ≠ none) → EX M (d + 1) (kc - mc) (ks - ms) Q pc lv h' E i) :
    EW M (d + 1) kc ks Q pc lv st h := by
  subst hst0
  intro D p l e R s m args below meth c Z A ad0 h0 G E H locs cells slots ad ls I hst
  obtain ⟨ok1, ok2⟩ := ok_as hst
  have hM := hS D l ad H.size G.2.2.2.2.2 ok1
  rw [hm.ws] at hM
  rw [e_mapR]
  have hp : PreV s H r.1 (ad i) (e_Pc D ad h H.size (aR (some i) :: as)) (as.map (e_v ad)) := ⟨e_blind, e_recv I.1.1 G.2.2.1 hi hr, fun U hU hW => e_pre G I U hU hW⟩
  have hfix : CallFix p m c M.2.1 M.2.2.1 s args lw_all M.1.cls := ⟨G.1.1, G.1.2.1, G.1.2.2.1, G.1.2.2.2.2.2.1, G.2.1.1⟩
  obtain ⟨a1, a2, a3, a4⟩ := I.2.2
  obtain ⟨⟨⟨b1, b2, b3, b4, b5, b6⟩, b7, b8, b9⟩, b10⟩ := e_C6 (mc := mc) (ms := ms) G hm a3 a4
  refine e_call (n := 3) (a := (Value.ref (ad i) :: as.map (e_v ad)).toArray) G E I ok2 hmc hms ?_ kr kx
  exact vx_runSU (G.2.2.1.1 ci r hr).2 hfix hM ⟨⟨b1, b2, b3, b4, b5, b6⟩, G.2.1.1 _ w1, G.2.1.1 _ w2, G.2.1.1 _ w3, G.2.1.1 _ w4, b8, b7, hnm, b10⟩ hp rfl (by rw [List.length_map]; exact hn) I.2.1.2.1 rfl (lv_room (e_cat8 ad h8)) hd ⟨by omega, by omega⟩
theorem e_selP {C : String} {y : MethodName} {n : Nat} {cC : ClassId} (hfc : s.vm.findClass C = some cC) (hy : y.cls ≠ "java/lang/invoke/MethodHandle" ∧ y.cls ≠ "java/lang/invoke/VarHandle")
    (hins : (Cond.instantiable y.cls n).before args s = true) (hpriv : (Cond.privateMethod y).before args s = true) (hinst : (Cond.instanceMethod y).before args s = true) : (Cond.selects C y y).before args s = true := by
  obtain ⟨c, k, hc, hk, -, hniab, -, -⟩ := Cond.instantiable_spec hins
  have hni : k.isInterface = false := (Bool.or_eq_false_iff.mp hniab).1
  obtain ⟨mk, methM, hnamed, hmethM, -, -⟩ := Cond.instanceMethod_spec hinst
  have hfound : s.methodFound? y.cls y.name y.desc = some mk := State.methodFound?_of_named hnamed hy
  have hcls : mk.cls = c := Option.some.inj ((findClass_of_methodNamed hnamed).symm.trans hc)
  have hsel : selectMethod {} s.vm cC mk = .method mk := selectMethod_private hmethM (Cond.privateMethod_at hpriv mk methM hnamed hmethM)
  simp only [Cond.before, Cond.holds, Cond.value, hfc, hfound, hnamed, hsel, hcls, hk]
  simp; exact hni
/-- a private method, on a receiver of any class of ours -/
theorem ew_callP {idx n n2 ci : Nat} {i : EId} {fs : Nat → AV} {r : vw_C} {as st : List AV} (hst0 : as.reverse ++ aR (some i) :: rest = st) (hd : decode M.2.1 pc = .ok (.invokevirtual idx, 3)) (hm : e_mth M' n) (hn : as.length = n) (hr : e_cl[ci]? = some r) (hi : h i = some (kO ci fs))
    (w1 : Cond.methodLink M.1.cls idx M'.1 ∈ lw_all) (w2 : Cond.instanceMethod M'.1 ∈ lw_all) (w3 : Cond.instantiable M'.1.cls n2 ∈ lw_all) (w4 : Cond.privateMethod M'.1 ∈ lw_tbl) (h8 : (rest.map fun v => if e_is2 v then 2 else 1).sum ≤ 8) (hmc : mc ≤ kc) (hms : ms ≤ ks)
    (hS : Sp M' d mc ms (aR (some i) :: as) h Q')
    (kr : ∀ o h', Q' (Sum.inl o) h' → (∀ i, h i ≠ none → h' i ≠ none) → EW M (d + 1) (kc - mc) (ks - ms) Q (pc + 3) lv (o.toList ++ rest) h')
    (kx : ∀ E i h', Q' (Sum.inr (E, i)) h' → (∀ i, h i ≠ none → h' i ≠ none) → EX M (d + 1) (kc - mc) (ks - ms) Q pc lv h' E i) :
    EW M (d + 1) kc ks Q pc lv st h := by
  subst hst0
  intro D p l e R s m args below meth c Z A ad0 h0 G E H locs cells slots ad ls I hst
  obtain ⟨ok1, ok2⟩ := ok_as hst
  have hM := hS D l ad H.size G.2.2.2.2.2 ok1
  rw [hm.ws] at hM
  rw [e_mapR]
  have hp : PreV s H r.1 (ad i) (e_Pc D ad h H.size (aR (some i) :: as)) (as.map (e_v ad)) := ⟨e_blind, e_recv I.1.1 G.2.2.1 hi hr, fun U hU hW => e_pre G I U hU hW⟩
  have hfix : CallFix p m c M.2.1 M.2.2.1 s args lw_all M.1.cls := ⟨G.1.1, G.1.2.1, G.1.2.2.1, G.1.2.2.2.2.2.1, G.2.1.1⟩
  obtain ⟨a1, a2, a3, a4⟩ := I.2.2
  obtain ⟨⟨⟨b1, b2, b3, b4, b5, b6⟩, b7, b8, b9⟩, b10⟩ := e_C6 (mc := mc) (ms := ms) G hm a3 a4
  refine e_call (n := 3) (a := (Value.ref (ad i) :: as.map (e_v ad)).toArray) G E I ok2 hmc hms ?_ kr kx
  exact vx_runV hfix hM ⟨⟨b1, b2, b3, b4, b5, b6, b7, b8, b9, b10, G.2.1.1 _ w1⟩, G.2.1.1 _ w2, e_selP (G.2.2.1.1 ci r hr).2.1 b9 (G.2.1.1 _ w3) (G.2.1.2.1.use w4 rfl) (G.2.1.1 _ w2)⟩ hp rfl (by rw [List.length_map]; exact hn) I.2.1.2.1 rfl (lv_room (e_cat8 ad h8)) hd ⟨by omega, by omega⟩
/-- by an interface -/
theorem ew_callF {idx n ci cnt : Nat} {i : EId} {fs : Nat → AV} {r : vw_C} {as st : List AV} {x : MethodName} (hst0 : as.reverse ++ aR (some i) :: rest = st) (hd : decode M.2.1 pc = .ok (.invokeinterface idx cnt, 5)) (hm : e_mth M' n) (hn : as.length = n) (hr : e_cl[ci]? = some r) (hi : h i = some (kO ci fs)) (hxd : x.desc = M'.1.desc)
    (w1 : Cond.methodLink M.1.cls idx x ∈ lw_all) (w3 : Cond.selects r.1 x M'.1 ∈ lw_all) (w4 : Cond.instanceMethod M'.1 ∈ lw_all) (w5 : (r.1, x, M'.1) ∈ e_fws)
    (h8 : (rest.map fun v => if e_is2 v then 2 else 1).sum ≤ 8) (hmc : mc ≤ kc) (hms : ms ≤ ks)
    (hS : Sp M' d mc ms (aR (some i) :: as) h Q')
    (kr : ∀ o h', Q' (Sum.inl o) h' → (∀ i, h i ≠ none → h' i ≠ none) → EW M (d + 1) (kc - mc) (ks - ms) Q (pc + 5) lv (o.toList ++ rest) h')
    (kx : ∀ E i h', Q' (Sum.inr (E, i)) h' → (∀ i, h i ≠ none → h' i ≠ none) → EX M (d + 1) (kc - mc) (ks - ms) Q pc lv h' E i) :
    EW M (d + 1) kc ks Q pc lv st h := by
  subst hst0
  intro D p l e R s m args below meth c Z A ad0 h0 G E H locs cells slots ad ls I hst
  obtain ⟨ok1, ok2⟩ := ok_as hst
  have hM := hS D l ad H.size G.2.2.2.2.2 ok1
  rw [hm.ws] at hM
  rw [e_mapR]
  have hp : PreV s H r.1 (ad i) (e_Pc D ad h H.size (aR (some i) :: as)) (as.map (e_v ad)) := ⟨e_blind, e_recv I.1.1 G.2.2.1 hi hr, fun U hU hW => e_pre G I U hU hW⟩
  have hfix : CallFix p m c M.2.1 M.2.2.1 s args lw_all M.1.cls := ⟨G.1.1, G.1.2.1, G.1.2.2.1, G.1.2.2.2.2.2.1, G.2.1.1⟩
  obtain ⟨a1, a2, a3, a4⟩ := I.2.2
  obtain ⟨⟨⟨b1, b2, b3, b4, b5, b6⟩, b7, b8, b9⟩, b10⟩ := e_C6 (mc := mc) (ms := ms) G hm a3 a4
  obtain ⟨f1, f2, f3, f4, f5⟩ := G.2.1.2.2.1 _ w5
  refine e_call (n := 5) (a := (Value.ref (ad i) :: as.map (e_v ad)).toArray) G E I ok2 hmc hms ?_ kr kx
  exact vx_runF (G.2.2.1.1 ci r hr).2 hfix hM ⟨⟨b1, b2, b3, b4, b5, b6⟩, G.2.1.1 _ w1, va_any rfl f1, va_any rfl f2, G.2.1.1 _ w3, G.2.1.1 _ w4, va_any rfl f3, va_any rfl f4, va_any rfl f5, b8, b7, e_fws_ok _ w5, by rw [hxd]; exact b10⟩ hp rfl (by rw [List.length_map]; exact hn) I.2.1.2.1 rfl (lv_room (e_cat8 ad h8)) hd ⟨by omega, by omega⟩
/-- Object.<init> -/
theorem ew_objInit {idx : Nat} {i : EId} (hd : decode M.2.1 pc = .ok (.invokespecial idx, 3)) (w1 : Cond.methodLink M.1.cls idx Lib.objectInit ∈ lw_all) (w2 : Cond.instanceMethod Lib.objectInit ∈ lw_all) (w3 : Cond.code Lib.objectInit ⟨#[0xb1]⟩ 1 none ∈ lw_all) (h8 : (rest.map fun v => if e_is2 v then 2 else 1).sum ≤ 8) (k : EW M (d + 1) kc ks Q (pc + 3) lv rest h) : EW M (d + 1) kc ks Q pc lv (aR (some i) :: rest) h := by
  intro D p l e R s m args below meth c Z A ad0 h0 G E H locs cells slots ad ls I hst
  have := e_cat8 ad h8
  obtain ⟨a1, a2, a3, a4⟩ := I.2.2
  exact W.objInit G.1.1 G.1.2.1 G.1.2.2.2.2.2.1 (G.2.1.1 _ w1) (G.2.1.1 _ w2) (G.2.1.1 _ w3) rfl (I.2.1.2.1.trans G.1.2.2.1.symm) rfl hd (by omega) (by show 2 * 0 + _ + 12 ≤ R.locals; omega) (k D p l e R s m args below meth c Z A ad0 h0 G E H locs cells slots ad ls I (ok_t hst))
end EWC
