/-! EW and its first rules -/
set_option maxRecDepth 100000
/-- words of the tables that don't ride in the lists -/
def e_tk : Cond → Bool
  | .fieldLinkNest .. => true
  | .methodLinkNest .. => true
  | .castable .. => true
  | .declares .. => true
  | .privateMethod .. => true
  | .interfaceMethod r o _ _ => r == "ReasonCloser$Asked" && o == "ReasonCloser$Asked"
  | _ => false
def e_tl : List Cond := lw_tbl.filter e_tk
theorem e_tk_on {w : Cond} (h : e_tk w = true) : w.onTables = true := by
  cases w <;> first | rfl | exact absurd h (by decide) | (simp [e_tk] at h)
theorem e_warmP {x : MethodName} {s U : State} (hW : s.WarmedH U.vm) (hZ : va_Nw (.privateMethod x) s) : va_Nw (.privateMethod x) U := va_tabs rfl (rfl : (s.setVm U.vm).vm = U.vm) (by rw [Cond.privateMethod_setVm hW.alike]; exact hZ)
def e_N (s : State) : Prop := ∀ w ∈ e_tl, va_Nw w s
theorem e_warmI {r o n d : String} {s U : State} (hW : s.WarmedH U.vm) (h : e_tk (.interfaceMethod r o n d) = true) (hZ : va_Nw (.interfaceMethod r o n d) s) : va_Nw (.interfaceMethod r o n d) U := by
  unfold e_tk at h
  simp only [Bool.and_eq_true, beq_iff_eq] at h
  obtain ⟨rfl, rfl⟩ := h
  exact va_tabs rfl (rfl : (s.setVm U.vm).vm = U.vm) (Cond.faceAtom_setVm hW.alike _ (by show ((("ReasonCloser$Asked" == "ReasonCloser$Asked") && ("ReasonCloser$Asked" != "java/lang/invoke/MethodHandle")) && ("ReasonCloser$Asked" != "java/lang/invoke/VarHandle")) = true; decide) hZ)
theorem e_N.warm {s U : State} (hW : s.WarmedH U.vm) (h : e_N s) : e_N U := by
  intro w hw
  have h1 := h w hw
  have h2 : e_tk w = true := (List.mem_filter.mp hw).2
  cases w <;> first | exact va_Nw.warmF hW h1 | exact va_Nw.warmM hW h1 | exact va_Nw.warmC hW h1 | exact va_Nw.warmD hW h1 | exact e_warmP hW h1 | exact e_warmI hW h2 h1 | (simp [e_tk] at h2)
/-- a nest mate's word, used -/
theorem e_N.use {s : State} (h : e_N s) {w : Cond} (hw : w ∈ lw_tbl) (hk : e_tk w = true) {args : Array Value} : w.before args s = true := va_Nw.use (e_tk_on hk) (h w (List.mem_filter.mpr ⟨hw, hk⟩))
/-- the interface calls of the program -/
abbrev e_fws : List (String × MethodName × MethodName) := [
  (RJ2, ⟨"java/util/List", "size", "()I"⟩, ⟨RJ2, "size", "()I"⟩),
  (RJ2, ⟨"java/util/List", "get", "(I)Ljava/lang/Object;"⟩, ⟨RJ2, "get", "(I)Ljava/lang/Object;"⟩),
  (RJ2, ⟨"java/util/List", "add", "(Ljava/lang/Object;)Z"⟩, ⟨RJ2, "add", "(Ljava/lang/Object;)Z"⟩),
  (RJ2, ⟨"java/util/List", "iterator", "()Ljava/util/Iterator;"⟩, ⟨RJ2, "iterator", "()Ljava/util/Iterator;"⟩),
  (RJ2, ⟨"java/util/List", "remove", "(I)Ljava/lang/Object;"⟩, ⟨RJ2, "remove", "(I)Ljava/lang/Object;"⟩),
  (RJ16, ⟨"java/util/Iterator", "hasNext", "()Z"⟩, ⟨RJ16, "hasNext", "()Z"⟩),
  (RJ16, ⟨"java/util/Iterator", "next", "()Ljava/lang/Object;"⟩, ⟨RJ16, "next", "()Ljava/lang/Object;"⟩)]
def e_FW (s : State) : Prop := ∀ q ∈ e_fws, va_Fw q.1 q.2.1 q.2.2 s
theorem e_fws_ok : ∀ q ∈ e_fws, q.2.1.cls ≠ "java/lang/invoke/MethodHandle" ∧ q.2.1.cls ≠ "java/lang/invoke/VarHandle" := by decide +kernel
theorem e_FW.moved {u U : State} (hvm : u.vm.Alike U.vm) (h : e_FW u) : e_FW U := fun q hq => (h q hq).moved (e_fws_ok q hq) hvm
/-- Strings: fun, term, same, diff, the signs -/
abbrev e_len : List Nat := [3, 4, 4, 4, 5]
abbrev e_byt : List (List Int32) := [[102, 117, 110], [116, 101, 114, 109], [115, 97, 109, 101], [100, 105, 102, 102], [59, 44, 61, 40, 41]]
abbrev e_strs : List (String × Nat × String × Nat) := [
  (RX8, 61, ";,=()", 4), (RX8, 116, "fun", 0), (RX8, 141, "term", 1), (RX8, 176, "same", 2),
  (RX7, 155, "fun", 0), (RX7, 160, "term", 1), (RX7, 162, "same", 2), (RX7, 164, "diff", 3)]
abbrev e_int : String := "java/lang/Integer$IntegerCache"
/-- statics that nobody writes -/
abbrev e_stats : List (String × String × String × AV) := [
  (e_int, "cache", "[Ljava/lang/Integer;", aR (some (9, 15, 0))),
  (e_int, "high", "I", aI 127),
  ("java/lang/String", "COMPACT_STRINGS", "Z", aI 1),
  (RX1, "OWN", "[Ljava/lang/String;", aR (some (9, 16, 0)))]
/-- statics of which a reference or null is known -/
abbrev e_zqs : List (String × String × String) := [
  ("jdk/internal/util/Preconditions", "SIOOBE_FORMATTER", "Ljava/util/function/BiFunction;"),
  (Bundle.tN, "UNASSIGNED_STACK", Bundle.steD), (Bundle.tN, "SUPPRESSED_SENTINEL", Bundle.listD)]
/-- their values: null where the mark is 0, else the constant of that number -/
def e_zv (ad : EA) (k : Nat) : Value := if ad (9, 18, k) = 0 then .null else .ref (ad (9, 17, k))
def e_K9 (ad : EA) (A : Nat → Prop) (s : State) : Prop :=
  (vb_C (fun k => ad (9, 12, k)) A s s.heap ∧ va_T (.object "java/lang/Integer") (ad (9, 15, 0)) 256 (fun k => .ref (ad (9, 12, k))) A s s.heap) ∧
  (vk_S 5 e_len e_byt (fun i => ad (9, 13, i)) (fun i => ad (9, 14, i)) A s s.heap ∧ (∀ q ∈ e_strs, vk_R q.1 q.2.1 q.2.2.1 (ad (9, 13, q.2.2.2)) s)) ∧
  va_T (.object "java/lang/String") (ad (9, 16, 0)) 4 (fun k => .ref (ad (9, 13, k))) A s s.heap ∧
  (∀ q ∈ e_stats, va_Z q.1 q.2.1 q.2.2.1 (e_v ad q.2.2.2) A s s.heap) ∧ (∀ (k : Nat) (q : String × String × String), e_zqs[k]? = some q → va_Z q.1 q.2.1 q.2.2 (e_zv ad k) A s s.heap) ∧
  (vx_Zq Bundle.tN "UNASSIGNED_STACK" Bundle.steD A s s.heap ∧ vx_Zq Bundle.tN "SUPPRESSED_SENTINEL" Bundle.listD A s s.heap) ∧
  (va_Mi "[Ljava/lang/Object;" (ad (9, 19, 0)) s ∧ va_Dc s)
/-- the two lambda sites: method, pc, index, shape -/
def e_site : Cond → MethodName × Nat × Nat × Lambda.Shape
  | .lambdaSite x pc index sh => (x, pc, index, sh)
  | _ => (⟨"", "", ""⟩, 0, 0, default)
def e_si (k : Nat) : MethodName × Nat × Nat × Lambda.Shape := if k = 0 then e_site siteWord_1_1 else e_site siteWord_1_2
/-- they are linked: objects of the classes 100, 101 -/
def e_L (D : ED) (s : State) : Prop := ∀ k, k < 2 → ∃ (m : MethodId) (kc : Class) (cf : ClassFile) (i0 p0 : Nat), s.methodNamed? (e_si k).1 = some m ∧ s.vm.classes[m.cls]? = some kc ∧ kc.cf = some cf ∧ Lambda.shapeOf? cf (e_si k).2.2.1 = some (e_si k).2.2.2 ∧
  (kc.callSites.find? fun y => y.1 == m.idx && y.2.1 == (e_si k).2.1) = some (i0, p0, .makes (D.1.1 (100 + k))) ∧ Lambda.isMade { classPath := fun _ => none } s.vm m.cls (e_si k).2.2.2 (D.1.1 (100 + k)) = true ∧ s.lambdaCallable (e_si k).2.2.2 (D.1.1 (100 + k)) = true ∧ ∀ j, D.1.2 (100 + k) j = j
theorem e_L.warm {D : ED} {s t : State} (hW : s.WarmedH t.vm) (h : e_L D s) : e_L D t := by
  intro k hk
  obtain ⟨m, kc, cf, i0, p0, hm, hk, hcf, hsh, hfind, hmade, hcall, hj⟩ := h k hk
  obtain ⟨kc', hk', he⟩ := hW.alike.2.2 _ _ hk
  refine ⟨m, kc', cf, i0, p0, ?_, hk', by rw [he]; exact hcf, hsh, by rw [he]; exact hfind, Lambda.isMade_warmer hW hmade, ?_, hj⟩
  · have := State.methodNamed?_setVm (s := s) hW.alike (e_si k).1
    rw [hm] at this
    exact this
  · have hA := hW.alike
    simp only [State.lambdaCallable, hA.findClass, hA.assignable, hA.superclasses, hA.declaredIn] at hcall ⊢
    exact hcall
/-- what stands all through a method's run -/
def e_G (M : EM) (D : ED) (p : Program) (l : Launch) (s : State) (m : MethodId) (args : Array Value) (meth : Method) (c : Code) (ad : EA) (A : Nat → Prop) : Prop :=
  (p.tables.exec = Jvm.exec ∧ c.code = M.2.1 ∧ c.maxLocals = M.2.2.1 ∧ meth.sig.returnType = M.2.2.2.1 ∧ meth.locks = false ∧ s.vm.findClass M.1.cls = some m.cls ∧ meth.name = M.1.name ∧ c.exceptionTable.toList = tableOf M.2.2.2.2 ∧ s.methodNamed? M.1 = some m) ∧
  ((∀ w ∈ lw_all, w.before args s = true) ∧ e_N s ∧ e_FW s ∧ va_AO "java/lang/Object" s ∧ e_L D s) ∧
  (e_K D s ∧ e_K9 ad A s ∧ (∀ q, s.heap.size ≤ q → A q) ∧ l.stackTraces = false)
def e_E (D : ED) (R : Room) (s : State) (A : Nat → Prop) (ad0 : EA) (h0 : AH) (H : Heap) (locs : List Loc) (cells slots : Nat) (ad : EA) (h : AH) : Prop :=
  e_R D ad h A H ∧ e_X h0 ad0 ad ∧ (∀ i, h0 i ≠ none → h i ≠ none) ∧ va_S A s.heap H locs ∧ cells ≤ R.cells ∧ slots ≤ R.slots
def e_I (M : EM) (D : ED) (R : Room) (s : State) (A : Nat → Prop) (ad0 : EA) (h0 : AH) (d kc ks : Nat) (H : Heap) (locs : List Loc) (cells slots : Nat) (ad : EA) (ls : Array Slot) (lv : List (Nat × AV)) (h : AH) : Prop :=
  (e_R D ad h A H ∧ e_X h0 ad0 ad ∧ (∀ i, h0 i ≠ none → h i ≠ none) ∧ va_S A s.heap H locs) ∧
  ((∀ q ∈ lv, e_okv h q.2) ∧ lv_has ls M.2.2.1 (lv.map fun q => (q.1, e_v ad q.2))) ∧
  (cells + kc ≤ R.cells ∧ slots + ks ≤ R.slots ∧ d ≤ R.frames ∧ 64 * d ≤ R.locals)
def e_rt (M : EM) (pc : Nat) : Option AV → Prop
  | none => M.2.2.2.1 = none ∧ decode M.2.1 pc = .ok (.return_, 1)
  | some (Sum.inl n) => decode M.2.1 pc = .ok (.ireturn, 1) ∧ ∃ t, M.2.2.2.1 = some t ∧ (t = .int ∨ t = .boolean ∨ t = .char ∨ t = .byte) ∧ narrow t (.int (Int32.ofInt n)) = .int (Int32.ofInt n)
  | some (Sum.inr (Sum.inl _)) => decode M.2.1 pc = .ok (.lreturn, 1) ∧ M.2.2.2.1 = some .long
  | some (Sum.inr (Sum.inr _)) => decode M.2.1 pc = .ok (.areturn, 1) ∧ ∃ t, M.2.2.2.1 = some t ∧ ((∃ n, t = .object n) ∨ ∃ u, t = .array u)
/-- the law's script, where the law reads it: an array that no one writes -/
def e_SC (M : EM) (s : State) (A : Nat → Prop) (ad0 : EA) (h0 : AH) (Q : AO → AH → Prop) : Prop := M.1.name = "law" → (∀ i, h0 i = none) ∧ ∀ (n : Nat) (f : Int → Int) (hs : AH), hs (9, 20, 0) = some (kI 0 n f) → Q (Sum.inr ("#script", (9, 20, 0))) hs → ¬ A (ad0 (9, 20, 0)) ∧ ad0 (9, 20, 0) < s.heap.size ∧ va_X (ad0 (9, 20, 0)) n (fun j => Int32.ofInt (f j)) s s.heap ∧ ∀ j : Nat, j < n → inI (f j)
def e_Z (M : EM) (D : ED) (p : Program) (l : Launch) (e : Env) (R : Room) (s : State) (m : MethodId) (args : Array Value) (below : List Frame) (meth : Method) (c : Code) (Z : State → Prop) (A : Nat → Prop) (ad0 : EA) (h0 : AH) (Q : AO → AH → Prop) : Prop :=
  (∀ (o : Option AV) (h : AH) (H : Heap) (locs : List Loc) (cells slots : Nat) (ad : EA) (ls : Array Slot) (pc : Nat), Q (Sum.inl o) h → e_E D R s A ad0 h0 H locs cells slots ad h → (∀ x, o = some x → e_okv h x) → e_rt M pc o →
    W p l e R s m args below meth c H locs cells slots Z (F0 m pc ls ((o.map (e_v ad)).toList))) ∧
  (∀ (E : String) (i : EId) (q : Addr) (h : AH) (H : Heap) (locs : List Loc) (cells slots : Nat) (ad : EA) (ls : Array Slot) (pc : Nat) (rest : List Value) (ce : Cell), Q (Sum.inr (E, i)) h → e_E D R s A ad0 h0 H locs cells slots ad h → (i.1 ≠ 8 → q = ad i ∧ e_okv h (aR (some i))) → H[q]? = some ce → ce.vm = .none → s.vm.findClass E = some ce.cls → M.2.2.2.2 = [] →
    vx_W p l e R s m args below meth c H locs cells slots Z (F0 m pc ls rest) q) ∧
  (∀ (E : String) (h : AH) (H : Heap) (locs : List Loc) (cells slots : Nat) (ad : EA) (U : State) (q : Addr) (ce : Cell), Q (Sum.inr (E, (8, 0, 0))) h → e_E D R s A ad0 h0 H locs cells slots ad h → U.status = .running → Ended U below (.threw q) → s.WarmedH U.vm → H.size ≤ U.heap.size → (∀ a : Nat, a < H.size → U.heap[a]? = H[a]?) → U.heap[q]? = some ce → ce.vm = .none → s.vm.findClass E = some ce.cls → s.sameButNew ({ U with vm := s.vm } : State) locs cells slots → Z U) ∧ e_SC M s A ad0 h0 Q
def EW (M : EM) (d kc ks : Nat) (Q : AO → AH → Prop) (pc : Nat) (lv : List (Nat × AV)) (st : List AV) (h : AH) : Prop :=
  ∀ (D : ED) (p : Program) (l : Launch) (e : Env) (R : Room) (s : State) (m : MethodId) (args : Array Value) (below : List Frame) (meth : Method) (c : Code) (Z : State → Prop) (A : Nat → Prop) (ad0 : EA) (h0 : AH),
    e_G M D p l s m args meth c ad0 A → e_Z M D p l e R s m args below meth c Z A ad0 h0 Q →
    ∀ (H : Heap) (locs : List Loc) (cells slots : Nat) (ad : EA) (ls : Array Slot),
      e_I M D R s A ad0 h0 d kc ks H locs cells slots ad ls lv h → (∀ v ∈ st, e_okv h v) →
      W p l e R s m args below meth c H locs cells slots Z (F0 m pc ls (st.map (e_v ad)))
/-- thrown over the frame -/
def EX (M : EM) (d kc ks : Nat) (Q : AO → AH → Prop) (pc : Nat) (lv : List (Nat × AV)) (h : AH) (E : String) (i : EId) : Prop :=
  ∀ (D : ED) (p : Program) (l : Launch) (e : Env) (R : Room) (s : State) (m : MethodId) (args : Array Value) (below : List Frame) (meth : Method) (c : Code) (Z : State → Prop) (A : Nat → Prop) (ad0 : EA) (h0 : AH),
    e_G M D p l s m args meth c ad0 A → e_Z M D p l e R s m args below meth c Z A ad0 h0 Q →
    ∀ (H : Heap) (locs : List Loc) (cells slots : Nat) (ad : EA) (ls : Array Slot) (rest : List Value) (q : Addr) (ce : Cell),
      e_I M D R s A ad0 h0 d kc ks H locs cells slots ad ls lv h → (i.1 ≠ 8 → q = ad i ∧ e_okv h (aR (some i))) → H[q]? = some ce → ce.vm = .none → s.vm.findClass E = some ce.cls →
      vx_W p l e R s m args below meth c H locs cells slots Z (F0 m pc ls rest) q
/-- a step that leaves heap and locals -/
theorem ew_of {M : EM} {d kc ks : Nat} {Q : AO → AH → Prop} {pc pc' : Nat} {lv : List (Nat × AV)} {st st' : List AV} {h : AH} (hok : (∀ q ∈ lv, e_okv h q.2) → (∀ v ∈ st, e_okv h v) → ∀ v ∈ st', e_okv h v)
    (hW : ∀ (D : ED) (p : Program) (l : Launch) (e : Env) (R : Room) (s : State) (m : MethodId) (args : Array Value) (below : List Frame) (meth : Method) (c : Code) (Z : State → Prop) (A : Nat → Prop) (H : Heap) (locs : List Loc) (cells slots : Nat) (ad0 ad : EA) (ls : Array Slot),
      e_G M D p l s m args meth c ad0 A → e_X (fun _ => none) ad0 ad → e_R D ad h A H → va_S A s.heap H locs → (∀ v ∈ st, e_okv h v) → (∀ q ∈ lv, e_okv h q.2) → lv_has ls M.2.2.1 (lv.map fun q => (q.1, e_v ad q.2)) → W p l e R s m args below meth c H locs cells slots Z (F0 m pc' ls (st'.map (e_v ad))) → W p l e R s m args below meth c H locs cells slots Z (F0 m pc ls (st.map (e_v ad))))
    (k : EW M d kc ks Q pc' lv st' h) : EW M d kc ks Q pc lv st h := by
  intro D p l e R s m args below meth c Z A ad0 h0 G E H locs cells slots ad ls I hst
  exact hW D p l e R s m args below meth c Z A H locs cells slots ad0 ad ls G (fun i hi => I.1.2.1 i (Or.inr (hi.resolve_left fun q => q rfl))) I.1.1 I.1.2.2.2 hst I.2.1.1 I.2.1.2 (k D p l e R s m args below meth c Z A ad0 h0 G E H locs cells slots ad ls I (hok I.2.1.1 hst))
theorem ew_sub {M : EM} {d kc ks : Nat} {Q : AO → AH → Prop} {pc : Nat} {lv lv' : List (Nat × AV)} {st : List AV} {h : AH} (hs : ∀ q ∈ lv', q ∈ lv) (k : EW M d kc ks Q pc lv' st h) : EW M d kc ks Q pc lv st h := by
  intro D p l e R s m args below meth c Z A ad0 h0 G E H locs cells slots ad ls I hst
  refine k D p l e R s m args below meth c Z A ad0 h0 G E H locs cells slots ad ls ⟨I.1, ⟨fun q hq => I.2.1.1 q (hs q hq), I.2.1.2.1, I.2.1.2.2.1, fun q hq => ?_⟩, I.2.2⟩ hst
  obtain ⟨q', h1, rfl⟩ := List.mem_map.mp hq
  exact I.2.1.2.2.2 _ (List.mem_map.mpr ⟨q', hs q' h1, rfl⟩)
theorem ew_room {M : EM} {d kc ks d' kc' ks' : Nat} {Q : AO → AH → Prop} {pc : Nat} {lv : List (Nat × AV)} {st : List AV} {h : AH} (h1 : d' ≤ d) (h2 : kc' ≤ kc) (h3 : ks' ≤ ks) (k : EW M d' kc' ks' Q pc lv st h) : EW M d kc ks Q pc lv st h := by
  intro D p l e R s m args below meth c Z A ad0 h0 G E H locs cells slots ad ls I hst
  obtain ⟨a, b, i1, i2, i3, i4⟩ := I
  exact k D p l e R s m args below meth c Z A ad0 h0 G E H locs cells slots ad ls ⟨a, b, by omega, by omega, by omega, by omega⟩ hst
theorem ew_post {M : EM} {d kc ks : Nat} {Q Q' : AO → AH → Prop} {pc : Nat} {lv : List (Nat × AV)} {st : List AV} {h : AH} (hQ : ∀ o h, Q o h → Q' o h) (k : EW M d kc ks Q pc lv st h) : EW M d kc ks Q' pc lv st h := by
  intro D p l e R s m args below meth c Z A ad0 h0 G E
  exact k D p l e R s m args below meth c Z A ad0 h0 G ⟨fun o h H locs cells slots ad ls pc q => E.1 o h H locs cells slots ad ls pc (hQ _ _ q), fun E' i q9 h H locs cells slots ad ls pc rest ce q => E.2.1 E' i q9 h H locs cells slots ad ls pc rest ce (hQ _ _ q), fun E' h H locs cells slots ad U q9 ce q => E.2.2.1 E' h H locs cells slots ad U q9 ce (hQ _ _ q), fun hn => ⟨(E.2.2.2 hn).1, fun n f hs h1 h2 => (E.2.2.2 hn).2 n f hs h1 (hQ _ _ h2)⟩⟩
