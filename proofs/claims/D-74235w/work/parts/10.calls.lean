/-! Sp: a method's contract; entry, ends, calls -/
set_option maxRecDepth 100000
theorem e_Z9 {ad0 ad : EA} (hX : e_X (fun _ => none) ad0 ad) : ∀ q ∈ e_stats, e_v ad q.2.2.2 = e_v ad0 q.2.2.2 := by
  intro q hq
  simp only [List.mem_cons, List.not_mem_nil, or_false] at hq
  rcases hq with rfl | rfl | rfl | rfl
  · exact congrArg Value.ref (hX _ (Or.inr rfl))
  · rfl
  · rfl
  · exact congrArg Value.ref (hX _ (Or.inr rfl))
theorem e_K9.adr {ad0 ad : EA} {A : Nat → Prop} {s : State} (hX : e_X (fun _ => none) ad0 ad) (h : e_K9 ad0 A s) : e_K9 ad A s := by
  have c : ∀ a b : Nat, ad (9, a, b) = ad0 (9, a, b) := fun a b => hX _ (Or.inr rfl)
  obtain ⟨⟨h1, h2⟩, ⟨h3, h4⟩, h5, h6, h7, h8, h9, h10⟩ := h
  refine ⟨⟨?_, ?_⟩, ⟨?_, fun q hq => ?_⟩, ?_, fun q hq => ?_, fun k q hq => ?_, h8, ?_, h10⟩
  · simpa only [c] using h1
  · simpa only [c] using h2
  · simpa only [c] using h3
  · simpa only [c] using h4 q hq
  · simpa only [c] using h5
  · rw [e_Z9 hX q hq]; exact h6 q hq
  · have e : e_zv ad k = e_zv ad0 k := by unfold e_zv; rw [c, c]
    rw [e]; exact h7 k q hq
  · rw [c]; exact h9
theorem e_K9.warm {ad : EA} {A B : Nat → Prop} {s U : State} (hW : s.WarmedH U.vm) (hq : ∀ a : Nat, a < s.heap.size → ¬ A a → U.heap[a]? = s.heap[a]?) (hAB : ∀ q, B q → A q) (h : e_K9 ad A s) : e_K9 ad B U := by
  obtain ⟨⟨h1, h2⟩, ⟨h3, h4⟩, h5, h6, h7, ⟨h8, h9⟩, h10, h11⟩ := h
  have hv := hW.alike
  exact ⟨⟨(vb_C.moved hv (h1.kept hq)).narrow hAB, (va_T.moved hv (h2.kept hq)).narrow hAB⟩, ⟨(vk_S.moved hv (h3.kept hq)).narrow hAB, fun q hm => (h4 q hm).warm hW⟩, (va_T.moved hv (h5.kept hq)).narrow hAB,
    fun q hm => (va_Z.moved hv ((h6 q hm).kept hq)).narrow hAB, fun k q hm => (va_Z.moved hv ((h7 k q hm).kept hq)).narrow hAB, ⟨(vx_Zq.moved hv (h8.kept hq)).narrow hAB, (vx_Zq.moved hv (h9.kept hq)).narrow hAB⟩, va_Mi.moved hv h10, va_Dc.moved hv h11⟩
theorem e_K9.same {ad : EA} {A : Nat → Prop} {s U : State} (hv : U.vm = s.vm) (hq : U.heap = s.heap) (h : e_K9 ad A s) : e_K9 ad A U := by
  obtain ⟨⟨h1, h2⟩, ⟨h3, h4⟩, h5, h6, h7, ⟨h8, h9⟩, h10, h11⟩ := h
  have hv' : s.vm.Alike U.vm := by rw [hv]; exact Vm.Alike.refl _
  rw [← hq] at h1 h2 h3 h5 h6 h7 h8 h9
  exact ⟨⟨vb_C.moved hv' h1, va_T.moved hv' h2⟩, ⟨vk_S.moved hv' h3, fun q hm => vk_R.same hv (h4 q hm)⟩, va_T.moved hv' h5,
    fun q hm => va_Z.moved hv' (h6 q hm), fun k q hm => va_Z.moved hv' (h7 k q hm), ⟨vx_Zq.moved hv' h8, vx_Zq.moved hv' h9⟩, va_Mi.moved hv' h10, va_Dc.moved hv' h11⟩
/-- what a callee may change -/
def e_A (ad : EA) (h : AH) (sz : Nat) : Nat → Prop := fun q => (∃ i, h i ≠ none ∧ q = ad i) ∨ sz ≤ q
def e_Pc (D : ED) (ad : EA) (h : AH) (sz : Nat) (as : List AV) : Array Value → State → Prop :=
  va_Pc (as.map (e_v ad)) (fun U => U.heap.size = sz ∧ e_R D ad h (e_A ad h sz) U.heap ∧ (e_N U ∧ e_FW U ∧ va_AO "java/lang/Object" U ∧ e_L D U) ∧ e_K D U ∧ e_K9 ad (e_A ad h sz) U)
def e_Qc (D : ED) (ad0 : EA) (h0 : AH) (A : Nat → Prop) (Q : AO → AH → Prop) : Array Value → State → Outcome → State → Prop := fun _ st oc t =>
  (∃ (o : Option AV) (h : AH) (ad : EA), oc = .returned (o.map (e_v ad)) ∧ Q (Sum.inl o) h ∧ e_R D ad h A t.heap ∧ e_X h0 ad0 ad ∧ (∀ i, h0 i ≠ none → h i ≠ none) ∧ ∀ x, o = some x → e_okv h x) ∧ va_F A st t
def e_XC (D : ED) (ad0 : EA) (h0 : AH) (A : Nat → Prop) (Q : AO → AH → Prop) : String → Addr → State → State → Prop := fun E q st t =>
  (∃ (i : EId) (h : AH) (ad : EA), (i.1 ≠ 8 → q = ad i ∧ e_okv h (aR (some i))) ∧ Q (Sum.inr (E, i)) h ∧ e_R D ad h A t.heap ∧ e_X h0 ad0 ad ∧ (∀ i, h0 i ≠ none → h i ≠ none)) ∧ va_F A st t
def e_ws (M : EM) : List Cond := (match M.2.2.2.2 with | [] => Cond.code M.1 M.2.1 M.2.2.1 M.2.2.2.1 | hh => Cond.codeWith M.1 M.2.1 M.2.2.1 M.2.2.2.1 hh) :: lw_all
def Sp (M : EM) (d kc ks : Nat) (as : List AV) (h : AH) (Q : AO → AH → Prop) : Prop :=
  ∀ (D : ED) (l : Launch) (ad : EA) (sz : Nat), l.stackTraces = false → (∀ v ∈ as, e_okv h v) →
    vx_Met l M.1 (e_ws M) ({ frames := d, cells := kc, slots := ks, locals := 64 * d } : Room) (e_Pc D ad h sz as) (e_Qc D ad h (e_A ad h sz) Q) (e_XC D ad h (e_A ad h sz) Q) kc ks (e_A ad h sz)
theorem Sp.post {M : EM} {d kc ks : Nat} {as : List AV} {h : AH} {Q Q' : AO → AH → Prop} (hQ : ∀ o h, Q o h → Q' o h) (k : Sp M d kc ks as h Q) : Sp M d kc ks as h Q' := by
  intro D l ad sz hl hok
  have h1 := k D l ad sz hl hok
  refine MetFree.mono h1 (fun _ _ q => q) (fun _ _ _ _ _ _ => trivial) (fun a s o s' _ hq => ?_)
  rcases hq with ⟨⟨⟨o', h', ad', e1, e2, e3⟩, e4⟩, e5⟩ | ⟨q, eo, E, ce, L, ⟨⟨i, h', ad', e1, e2, e3⟩, e4⟩, e5⟩
  · exact Or.inl ⟨⟨⟨o', h', ad', e1, hQ _ _ e2, e3⟩, e4⟩, e5⟩
  · exact Or.inr ⟨q, eo, E, ce, L, ⟨⟨i, h', ad', e1, hQ _ _ e2, e3⟩, e4⟩, e5⟩
def av_args : Nat → List AV → List (Nat × AV)
  | _, [] => []
  | i, v :: vs => (i, v) :: av_args (if e_is2 v then i + 2 else i + 1) vs
theorem av_args_map (ad : EA) : ∀ (i : Nat) (vs : List AV), lv_args i (vs.map (e_v ad)) = (av_args i vs).map fun q => (q.1, e_v ad q.2)
  | _, [] => rfl
  | i, v :: vs => by
    show (i, e_v ad v) :: lv_args _ _ = (i, e_v ad v) :: List.map _ _
    rw [e_cat]
    congr 1
    cases e_is2 v
    · exact av_args_map ad _ vs
    · exact av_args_map ad _ vs
theorem av_args_ok {h : AH} : ∀ (i : Nat) (vs : List AV), (∀ v ∈ vs, e_okv h v) → ∀ q ∈ av_args i vs, e_okv h q.2
  | _, [], _ => fun q hq => by cases hq
  | i, v :: vs, hv => List.forall_mem_cons.mpr ⟨(List.forall_mem_cons.mp hv).1, av_args_ok _ vs (List.forall_mem_cons.mp hv).2⟩
/-- the ends of a method -/
theorem e_Zof {M : EM} {D : ED} {p : Program} {l : Launch} {e : Env} {R : Room} {s : State} {m : MethodId} {args : Array Value} {below : List Frame} {meth : Method} {c : Code} {A : Nat → Prop} {ad0 : EA} {h0 : AH} {Q : AO → AH → Prop} {mc ms : Nat}
    (hlw : M.1.name ≠ "law") (hx : p.tables.exec = Jvm.exec) (hb : c.code = M.2.1) (hr : meth.sig.returnType = M.2.2.2.1) (hlocks : meth.locks = false) (htab : c.exceptionTable.toList = tableOf M.2.2.2.2) (hc : R.cells = mc) (hs : R.slots = ms) :
    e_Z M D p l e R s m args below meth c (vx_MQ below (e_Qc D ad0 h0 A Q) (e_XC D ad0 h0 A Q) args s mc ms A) A ad0 h0 Q := by
  refine ⟨fun o h H locs cells slots ad ls pc hQ hE hok hrt => ?_, fun E i q h H locs cells slots ad ls pc rest ce hQ hE hin hce hcv hcl htb => ?_, fun E h H locs cells slots ad U q ce hQ hE hrun hend hW hsz hsame hce hcv hcl hbut => ?_, fun hn => absurd hn hlw⟩
  · obtain ⟨hR, hX, hdm, hS, c1, c2⟩ := hE
    have hq : ∀ t : State, t.heap = H → s.WarmedH t.vm → e_Qc D ad0 h0 A Q args s (.returned (o.map (e_v ad))) t := fun t ht hW => ⟨⟨o, h, ad, rfl, hQ, by rw [ht]; exact hR, hX, hdm, hok⟩, hS.F ht⟩
    refine vx_ret (W.widen (k := mc) (n := ms) (by omega) (by omega) ?_)
    match o, hq, hrt with
    | none, hq, hrt => exact W.vret hx hb (hr.trans hrt.1) hq hS.2.2 hrt.2 hlocks
    | some (Sum.inl n), hq, ⟨hd, t, ht, _, hn⟩ => exact W.zret hx hb (hr.trans ht) hn hq hS.2.2 hd hlocks
    | some (Sum.inr (Sum.inl n)), hq, ⟨hd, ht⟩ => exact W.lret hx hb (hr.trans ht) hq hS.2.2 hd hlocks
    | some (Sum.inr (Sum.inr none)), hq, ⟨hd, t, ht, hk⟩ => exact W.aret hx hb (hr.trans ht) hk (Or.inl rfl) hq hS.2.2 hd hlocks
    | some (Sum.inr (Sum.inr (some a))), hq, ⟨hd, t, ht, hk⟩ => exact W.aret hx hb (hr.trans ht) hk (Or.inr ⟨_, rfl⟩) hq hS.2.2 hd hlocks
  · obtain ⟨hR, hX, hdm, hS, c1, c2⟩ := hE
    exact vx_out (by rw [htab, htb]; intro x hx; cases hx) hlocks hce hcv hcl (fun t ht hv => ⟨⟨i, h, ad, hin, hQ, by rw [ht]; exact hR, hX, hdm⟩, hS.F ht⟩) hS.2.2 (by omega) (by omega)
  · obtain ⟨hR, hX, hdm, hS, c1, c2⟩ := hE
    refine ⟨.threw q, hrun, hend, Or.inr ⟨q, rfl, E, ce, locs, ⟨⟨(8, 0, 0), h, ad, fun z => absurd rfl z, hQ, ?_, hX, hdm⟩, ?_⟩, hce, hcv, hcl, hW, hbut.mono (by omega) (by omega), hS.2.2⟩⟩
    · exact ⟨fun i c hi => ⟨(hR.1 i c hi).1.kept (hsame _ (hR.1 i c hi).1.lt), (hR.1 i c hi).2⟩, hR.2⟩
    · exact ⟨Nat.le_trans hS.1 hsz, fun a h1 h2 => (hsame a (Nat.lt_of_lt_of_le h1 hS.1)).trans (hS.2.1 a h1 h2)⟩
/-- the entry of a method -/
theorem ew_sp {M : EM} {d kc ks : Nat} {as : List AV} {h : AH} {Q : AO → AH → Prop} (hy0 : (plainName M.1.cls && (M.1.name != "law")) = true) (hn : ((as.map fun v => if e_is2 v then 2 else 1).sum : Nat) ≤ M.2.2.1) (k : EW M d kc ks Q 0 (av_args 0 as) [] h) : Sp M d kc ks as h Q := by
  have hy : plainName M.1.cls = true := (Bool.and_eq_true_iff.mp hy0).1
  have hlw : M.1.name ≠ "law" := by
    have := (Bool.and_eq_true_iff.mp hy0).2
    simpa using this
  intro D l ad sz hl hok
  have hlen : (lg_sl (as.map (e_v ad))).length ≤ M.2.2.1 := by
    refine Nat.le_trans (Nat.le_of_eq ?_) hn
    clear hok hn k
    induction as with
    | nil => rfl
    | cons v vs ih =>
      have e1 : lg_sl ((v :: vs).map (e_v ad)) = (if (e_v ad v).category = 2 then [.val (e_v ad v), .second] else [.val (e_v ad v)]) ++ lg_sl (vs.map (e_v ad)) := rfl
      rw [e1, List.length_append, ih, e_cat, List.map_cons, List.sum_cons]
      congr 1
      cases e_is2 v <;> rfl
  have body : ∀ (p : Program) (e : Env) (s : State) (m : MethodId) (args : Array Value) (below : List Frame) (meth : Method) (c : Code) (s₁ : State), BodyLoose p l M.1 (headSpec (e_ws M) ({ frames := d, cells := kc, slots := ks, locals := 64 * d } : Room)) M.2.1 M.2.2.1 M.2.2.2.1 e s m args below meth c s₁ → c.maxLocals = M.2.2.1 → c.exceptionTable.toList = tableOf M.2.2.2.2 → e_Pc D ad h sz as args s →
      W p l e ({ frames := d, cells := kc, slots := ks, locals := 64 * d } : Room) s m args below meth c s.heap [] 0 0 (vx_MQ below (e_Qc D ad h (e_A ad h sz) Q) (e_XC D ad h (e_A ad h sz) Q) args s kc ks (e_A ad h sz)) (entryFrame m args M.2.2.1) := by
    intro p e s m args below meth c s₁ B hml htab hP
    obtain ⟨rfl, hsz, hR, ⟨hN, hF, hO, hLm⟩, hK, hC⟩ := hP
    have hts0 := atoms_spec (ws := e_ws M) B.pre
    have hts : ∀ w ∈ lw_all, w.before (as.map (e_v ad)).toArray s = true := fun w hw => hts0 w (List.mem_cons_of_mem _ hw)
    have hA : ∀ q, s.heap.size ≤ q → e_A ad h sz q := fun q hq => Or.inr (by rw [← hsz]; exact hq)
    rw [lg_entry_eq]
    refine k D p l e _ s m _ below meth c _ _ ad h ⟨⟨B.exec, B.bytes, hml, B.returns, B.notSynchronized, findClass_of_methodNamed B.named, (name_of_methodNamed B.named B.method).1, htab, B.named⟩, ⟨hts, hN, hF, hO, hLm⟩, hK, hC, hA, hl⟩
      (e_Zof hlw B.exec B.bytes B.returns B.notSynchronized htab rfl rfl) s.heap [] 0 0 ad _ ⟨⟨hR, e_X.rf, fun i hi => hi, va_S.rf⟩, ⟨av_args_ok 0 as hok, ?_⟩, Nat.le_of_eq (Nat.zero_add kc), Nat.le_of_eq (Nat.zero_add ks), Nat.le_refl _, Nat.le_refl _⟩ (fun v hv => by cases hv)
    have h1 := lv_entry (as.map (e_v ad)) hlen
    rw [av_args_map] at h1
    exact h1
  match htb : M.2.2.2.2 with
  | [] =>
    have hws : e_ws M = Cond.code M.1 M.2.1 M.2.2.1 M.2.2.2.1 :: lw_all := by unfold e_ws; rw [htb]
    exact vx_ofW hy hws fun p e s m args below meth c s₁ B hml htab hP => body p e s m args below meth c s₁ B hml (by
      rw [htb]
      cases ht : c.exceptionTable.toList with
      | nil => rfl
      | cons x xs => exact (htab x (by rw [ht]; exact List.mem_cons_self)).elim) hP
  | hh :: ht =>
    have hws : e_ws M = Cond.codeWith M.1 M.2.1 M.2.2.1 M.2.2.2.1 (hh :: ht) :: lw_all := by unfold e_ws; rw [htb]
    exact vx_ofWH hy hws fun p e s m args below meth c s₁ B hml hP => body p e s m args below meth c s₁ B hml (by
      rw [htb]
      exact vx_table (x := M.1) B (atoms_spec (ws := e_ws M) B.pre _ (by rw [hws]; exact List.mem_cons_self))) hP
section EWE
variable {M : EM} {d kc ks : Nat} {Q : AO → AH → Prop} {pc : Nat} {lv : List (Nat × AV)} {h : AH}
theorem ew_ret {o : Option AV} {st : List AV} (hst : o.toList = st) (hq : Q (Sum.inl o) h) (hrt : e_rt M pc o) : EW M d kc ks Q pc lv st h := by
  subst hst
  intro D p l e R s m args below meth c Z A ad0 h0 G E H locs cells slots ad ls I hst
  obtain ⟨⟨hR, hX, hdm, hS⟩, -, r1, r2, -⟩ := I
  have hw := E.1 o h H locs cells slots ad ls pc hq ⟨hR, hX, hdm, hS, by omega, by omega⟩ (fun x hx => hst x (by rw [hx]; exact List.mem_cons_self)) hrt
  cases o with
  | none => exact hw
  | some v => exact hw
theorem ex_out {E : String} {i : EId} (hq : Q (Sum.inr (E, i)) h) (htb : M.2.2.2.2 = []) : EX M d kc ks Q pc lv h E i := by
  intro D p l e R s m args below meth c Z A ad0 h0 G EZ H locs cells slots ad ls rest q ce I hin hce hcv hcl
  obtain ⟨⟨hR, hX, hdm, hS⟩, -, r1, r2, -⟩ := I
  exact EZ.2.1 E i q h H locs cells slots ad ls pc rest ce hq ⟨hR, hX, hdm, hS, by omega, by omega⟩ hin hce hcv hcl htb
/-- athrow of an object of ours -/
theorem ew_athrow {ci : Nat} {fs : Nat → AV} {r : vw_C} {i : EId} {st : List AV} (hd : decode M.2.1 pc = .ok (.athrow, 1)) (hi : h i = some (kO ci fs)) (hr : e_cl[ci]? = some r) (k : EX M d kc ks Q pc lv h r.1 i) : EW M d kc ks Q pc lv (aR (some i) :: st) h := by
  intro D p l e R s m args below meth c Z A ad0 h0 G E H locs cells slots ad ls I hst
  obtain ⟨⟨r', hr', cell, q1, q2, q3, q4⟩, -⟩ := I.1.1.1 i _ hi
  cases (e_cx_of hr).symm.trans hr'
  exact vx_athrow G.1.1 G.1.2.1 hd (k D p l e R s m args below meth c Z A ad0 h0 G E H locs cells slots ad ls _ _ cell I (fun _ => ⟨rfl, ok_h hst⟩) q1 q3 (by rw [q2]; exact (G.2.2.1.1 ci r hr).2.1))
end EWE
