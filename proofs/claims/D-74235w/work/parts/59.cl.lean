/-! THE CLAIM OUT OF AN INVARIANT of system and reference: what is left is pure (by hand; lw_P .. lw_limb: the kit's skeleton's end, turned) -/
set_option maxRecDepth 100000
def R_law : String := "ReasonCloserLaw"
def lw_P (b : Addr) (xs : List Int32) (args : Array Value) (s : State) : Prop := args = #[.ref b] ∧ s.IntsAt b xs ∧ xs.length ≤ 144 ∧ (Jvm.Cond.and given_1 narrow_1).before args s = true
def lw_Q (_ : Array Value) (s : State) (o : Outcome) (t : State) : Prop := o = .returned (some (.int 1)) ∧ Framed s o t [] 1200048 5501818
def lw_Z (below : List Frame) (a : Array Value) (s : State) : State → Prop := fun t => ∃ o, t.status = .running ∧ Ended t below o ∧ lw_Q a s o t
theorem lw_ret {p : Program} {l : Launch} {e : Env} {s : State} {m : MethodId} {below : List Frame} {meth : Method} {c : Code} {b : Nat} (hx : p.tables.exec = Jvm.exec) (hb : c.code = code) (hr : meth.sig.returnType = ret) (hlocks : meth.locks = false) {pc : Nat} {H : Heap} {ls : Array Slot} (hdg : decode code pc = .ok (.ireturn, 1)) : W p l e room_1 s m #[Value.ref b] below meth c H [] 1200048 5501818 (lw_Z below #[Value.ref b] s) (F0 m pc ls [.int 1]) := by
  intro T hT X
  obtain ⟨fs, hret, hrun, hended, hW, hframe⟩ := X.leave (v := some (.int 1)) (hlocks := hlocks) (fun h => by rw [hr] at h; cases h)
  have hmeth' : T.vm.method? m = some meth := X.method'
  refine ⟨T.setFrames fs, ?_, .returned (some (.int 1)), hrun, hended, rfl, ⟨_, rfl⟩, hW, hframe⟩
  jvm_step X.here [X.here.top, hx, hb, hdg, hmeth', hr, ret, narrow_b1]
  (try refine ⟨rfl, ?_⟩); (try refine ⟨rfl, ?_⟩)
  first | (intro acts; rw [hret _ acts rfl rfl rfl]) | rw [hret _ _ rfl rfl rfl]
  exact Steps.refl _
/-- what holds at the law's entry -/
def lw_At (p : Program) (s : State) (m : MethodId) (meth : Method) (c : Code) (b L : Nat) (xs : Nat → Int32) : Prop :=
  (p.tables.exec = Jvm.exec ∧ c.code = code ∧ meth.sig.returnType = ret ∧ c.maxLocals = 7 ∧ s.vm.findClass R_law = some m.cls ∧ meth.locks = false ∧ s.methodNamed? x = some m ∧ meth.name = x.name ∧ c.exceptionTable.toList = []) ∧ (∀ w ∈ lw_tbl, w.before #[Value.ref b] s = true) ∧ va_X b L xs s s.heap ∧ b < s.heap.size ∧ (Jvm.Cond.and given_1 narrow_1).before #[Value.ref b] s = true
/-- the law's Q: true; and the script -/
def lawQ (n : Nat) (f : Int → Int) : AO → AH → Prop := fun o h => o = Sum.inl (some (aI 1)) ∨ (o = Sum.inr ("#script", sT) ∧ h sT = some (kI 0 n f))
def stepsOK (J : Nat → XS → MS → Prop) : Prop := (∀ k s m, J (k + 1) s m → J k s m) ∧ ∀ (k : Nat) s m op a, J (k + 1) s m → (∀ k, inI (a k)) → C_law op a s m (J k)
theorem inI_to (x : Int32) : inI x.toInt := ⟨Int32.le_toInt x, Int32.toInt_lt x⟩
theorem whole_start {J : Nat → XS → MS → Prop} (J0 : J 24 xs0 mm0) (hJ : stepsOK J) {p : Program} {e : Env} {s : State} {m : MethodId} {below : List Frame} {meth : Method} {c : Code} (l : Launch) (hflags : l.flags = flags0) {b L : Nat} {xs : Nat → Int32} (hL : L ≤ 144) (C0 : lw_At p s m meth c b L xs) : W p l e room_1 s m #[Value.ref b] below meth c s.heap [] 0 0 (lw_Z below #[Value.ref b] s) (entryFrame m ([Value.ref b] : List Value).toArray 7) := by
  obtain ⟨⟨c1, c2, c3, c4, c5, c6, c7, c8, c9⟩, hts, hX, hbl, hgv⟩ := C0
  have hs := flat_of_before _ hgv
  obtain ⟨q, a, hK1, hK2⟩ := st_K hts
  obtain ⟨cK, hLm⟩ := st_L hs
  obtain ⟨ad, h9, hb⟩ := st_9 hts hs (A := fun z => s.heap.size ≤ z) (fun a h q => by omega) b
  obtain ⟨D, hD⟩ : ∃ D : ED, D = ((fun c => if c < 100 then (q c).1 else cK (c - 100), fun c => if c < 100 then (q c).2 else fun j => j), a) := ⟨_, rfl⟩
  have hK : e_K D s := by
    refine ⟨fun c r hc => ?_, fun t ht => by rw [hD]; exact hK2 t ht⟩
    have h100 : c < 100 := Nat.lt_of_lt_of_le (List.getElem?_eq_some_iff.mp hc).1 (by decide)
    have := hK1 c r hc
    rw [hD]
    show u_Kn s r.1 r.2.1 r.2.2 (if c < 100 then (q c).1 else cK (c - 100)) (if c < 100 then (q c).2 else fun j => j)
    rw [if_pos h100, if_pos h100]
    exact this
  have hLL : e_L D s := by
    intro k hk
    obtain ⟨m', kc, cf, i0, p0, h1, h2, h3, h4, h5, h6, h7⟩ := hLm k hk
    have e1 : D.1.1 (100 + k) = cK k := by
      rw [hD]
      show (if 100 + k < 100 then (q (100 + k)).1 else cK (100 + k - 100)) = cK k
      rw [if_neg (by omega), Nat.add_sub_cancel_left]
    refine ⟨m', kc, cf, i0, p0, h1, h2, h3, h4, by rw [e1]; exact h5, by rw [e1]; exact h6, by rw [e1]; exact h7, fun j => ?_⟩
    rw [hD]
    show (if 100 + k < 100 then (q (100 + k)).2 else fun j => j) j = j
    rw [if_neg (by omega)]
  have hl : l.stackTraces = false := by
    unfold Launch.stackTraces
    rw [hflags]
    decide
  obtain ⟨f, hf⟩ : ∃ f : Int → Int, f = fun j => (xs j.toNat).toInt := ⟨_, rfl⟩
  have hfI : ∀ j, inI (f j) := fun j => by rw [hf]; exact inI_to _
  have E := L_start (Q := lawQ L f) (n := L) (f := f) (J := J) ⟨fun _ => some (kI 0 L f), rfl, Or.inr ⟨rfl, rfl⟩⟩ hL (fun h => Or.inl rfl) hJ.1 (fun k s m p hs h0 h1 => hJ.2 k s m _ _ hs (fun k => hfI _)) J0
  have hent : entryFrame m ([Value.ref b] : List Value).toArray 7 = F0 m 0 ((lg_sl ([aR (some sT)].map (e_v ad)) ++ List.replicate (7 - (lg_sl ([aR (some sT)].map (e_v ad))).length) Slot.unset).toArray) [] := by
    rw [show ([Value.ref b] : List Value) = [aR (some sT)].map (e_v ad) from by show _ = [Value.ref (ad (9, 20, 0))]; rw [hb]]
    exact lg_entry_eq ..
  rw [hent]
  refine E D p l e room_1 s m #[Value.ref b] below meth c (lw_Z below #[Value.ref b] s) (fun z => s.heap.size ≤ z) ad (fun _ => none) ⟨⟨c1, c2, c4, c3, c6, c5, c8, c9, c7⟩, ⟨fun w hw => hts w (lw_all_tbl hw), st_N hts, st_FW hts, va_AO.of (hts _ q168), hLL⟩, hK, h9, fun q h => h, hl⟩ ⟨?_, ?_, ?_, ?_⟩ s.heap [] 0 0 ad _ ⟨⟨⟨fun i c h => (by cases h), fun i j h => absurd rfl h⟩, e_X.rf, fun i h => h, va_S.rf⟩, ⟨fun q hq => ?_, ?_⟩, by decide, by decide, by decide, by decide⟩ (fun v hv => by cases hv)
  · intro o h H locs cells slots ad' ls pc hQ hE hok hrt
    obtain ⟨hR, hX', hdm, hS, r1, r2⟩ := hE
    rcases hQ with h1 | ⟨h1, -⟩
    · cases h1
      refine va_forget (fun q hq => hS.2.2 q hq) (W.widen (k := 1200048) (n := 5501818) r1 r2 ?_)
      exact lw_ret c1 c2 c3 c6 hrt.1
    · cases h1
  · intro E i q h H locs cells slots ad' ls pc rest ce hQ hE
    rcases hQ with h1 | ⟨-, h1⟩
    · cases h1
    · exact absurd rfl ((hE.1.1 sT _ h1).2.2.2)
  · intro E h H locs cells slots ad' U q ce hQ
    rcases hQ with h1 | ⟨h1, -⟩
    · cases h1
    · cases h1
  · refine fun _ => ⟨fun i => rfl, fun n f' h1 h2 hQ => ?_⟩
    have key : h1 sT = some (kI 0 L f) := by
      rcases hQ with h3 | ⟨-, h3⟩
      · cases h3
      · exact h3
    cases h2.symm.trans key
    have hb' : ad sT = b := hb
    refine ⟨by rw [hb']; omega, by rw [hb']; exact hbl, ?_, fun j _ => hfI _⟩
    obtain ⟨scr, s1, s2, s3, s4, s5⟩ := hX
    refine ⟨scr, by rw [hb']; exact s1, s2, s3, s4, fun j hj => ?_⟩
    rw [s5 j hj, hf]
    show _ = some (Value.int (Int32.ofInt (xs (j : Int).toNat).toInt))
    rw [Int32.ofInt_toInt]
    rfl
  · rw [List.mem_singleton.mp hq]
    exact Or.inr rfl
  · have h1 := lv_entry ([aR (some sT)].map (e_v ad)) (n := 7) (by show 1 ≤ 7; decide)
    rw [av_args_map] at h1
    exact h1
set_option maxHeartbeats 4000000 in
theorem lw_walk {J : Nat → XS → MS → Prop} (J0 : J 24 xs0 mm0) (hJ : stepsOK J) (l : Launch) (hflags : l.flags = flags0) (b : Addr) (xs : List Int32) : MetFree l x (headSpec (Jvm.Cond.code x code maxLocals ret :: tables_1) room_1) (lw_P b xs) (fun _ _ _ _ _ => True) lw_Q := by
  refine MetFree.of_bodyS (code := code) (maxLocals := maxLocals) (ret := ret) (by decide) ?_ ?_
  · intro args s m h hn
    obtain ⟨meth, c, h1, h2, h3, h4, h5, h6, -, -⟩ := Cond.code_spec hn (atoms_spec (ws := Jvm.Cond.code x code maxLocals ret :: tables_1) h _ List.mem_cons_self)
    exact ⟨meth, c, h1, h2, h3, h4, h5, h6⟩
  · intro p e s m args below meth c s₁ B hml0 hP _
    obtain ⟨rfl, hx, hbd, hgv⟩ := hP
    obtain ⟨scr, harrAt, hlist, hof, hsmall⟩ := hx
    obtain ⟨hcb, hkn, -, -⟩ := State.arrayAt?_spec harrAt
    have hown : s.vm.findClass R_law = some m.cls := findClass_of_methodNamed B.named
    have hts0 : ∀ c ∈ (Jvm.Cond.code x code maxLocals ret :: tables_1), c.before #[Value.ref b] s = true := atoms_spec (ws := Jvm.Cond.code x code maxLocals ret :: tables_1) B.pre
    have hts : ∀ w ∈ lw_tbl, w.before #[Value.ref b] s = true := k2_hts_sels lw_privs (fun w hw => hts0 w (List.mem_cons_of_mem _ hw)) lw_privs_ok
    have hml : c.maxLocals = 7 := B.maxLocals_eq (hts0 _ List.mem_cons_self)
    have X₀ : Stand p l e room_1 s m #[Value.ref b] below meth c s₁ [] 0 0 := Stand.of_body B
    have htab : c.exceptionTable.toList = [] := by
      obtain ⟨meth9, c9, h1, h2, -, -, -, -, h7, -⟩ := Cond.code_spec B.named (hts0 _ List.mem_cons_self)
      cases Option.some.inj (h1.symm.trans B.method)
      cases Option.some.inj (h2.symm.trans X₀.code)
      rw [Array.isEmpty_iff.mp h7]
    have hh0 : s₁.heap = s.heap := by rw [B.state]; rfl
    have hsz : scr.slots.size = xs.length := by rw [← Array.length_toList, hlist, List.length_map]
    have hval : ∀ j : Nat, j < xs.length → scr.slots[j]? = some (.int (xs.getD j 0)) := fun j hj => by
      rw [← Array.getElem?_toList, hlist]
      simp [hj]
    have hbl : b < s.heap.size := (Array.getElem?_eq_some_iff.mp hcb).1
    have hX : va_X b xs.length (fun j => xs.getD j 0) s s.heap := ⟨scr, hcb, hof, hkn, hsz, hval⟩
    have K : W p l e room_1 s m #[Value.ref b] below meth c s₁.heap [] 0 0 (lw_Z below #[Value.ref b] s) (entryFrame m ([Value.ref b] : List Value).toArray 7) := by
      rw [hh0]
      exact whole_start J0 hJ l hflags hbd ⟨⟨B.exec, B.bytes, B.returns, hml, hown, B.notSynchronized, B.named, (name_of_methodNamed B.named B.method).1, htab⟩, hts, hX, hbl, hgv⟩
    obtain ⟨t, a1, o, b1, b2, b3⟩ := K s₁ rfl X₀
    exact ⟨t, o, a1, b1, b2, b3⟩
theorem lw_pre_spec {args : Array Value} {s : State} (h : (Jvm.Cond.and given_1 narrow_1).before args s = true) (hr : rest_1_c.before args s = true) : ∃ (b : Addr) (xs : List Int32), lw_P b xs args s := by
  have hs := flat_of_before _ h
  have hq := flat_of_before _ hr
  have hc : (Cond.count 1).before args s = true := hs _ (by decide +kernel)
  have harr : (Cond.arrayOf (.arg 0) .int).before args s = true := hs _ (by decide +kernel)
  have hle : (Cond.le (.length (.arg 0)) (.int 144)).before args s = true := hs _ (by decide +kernel)
  have hlen : (Cond.isInt (.length (.arg 0))).before args s = true := hq _ (by decide +kernel)
  have hall : (Cond.all (.arg 0) (.isInt (.elem (.arg 0) (.index 0)))).before args s = true := hq _ (by decide +kernel)
  obtain ⟨b, xs, hb, hx⟩ := State.ints_of_pre rfl harr hlen hall
  have hsm : xs.length < 2 ^ 31 := hx.choose_spec.2.2.2
  have hev : (Term.length (.arg 0)).eval args s none [] s = some (.int xs.length.toInt32) := hx.length_eval hb
  have hv := Cond.le_ints hev (show (Term.int 144).eval args s none [] s = some (.int 144) from rfl)
  have hd : xs.length.toInt32 ≤ 144 := by
    simpa [Cond.before, Cond.holds, hv] using hle
  have hN : xs.length ≤ 144 := (Int32.ofNat_le_ofNat hsm (by decide)).mp (show Int32.ofNat xs.length ≤ Int32.ofNat 144 from hd)
  exact ⟨b, xs, Cond.one_arg hc (show args[0]? = some (.ref b) from hb), hx, hN, h⟩
theorem lw_comes {J : Nat → XS → MS → Prop} (J0 : J 24 xs0 mm0) (hJ : stepsOK J) (l : Launch) (hflags : l.flags = flags0) : Comes l x (Jvm.Cond.code x code maxLocals ret :: tables_1) room_1 (fun tb e args s => Calls_1 tb e args s ∧ rest_1 tb e args s ∧ Pre_1 tb e args s)
    (fun _ _ args s o t => lw_Q args s o t) := by
  intro p e ha hc hk s m args below hf hfit hheap happ hpre
  obtain ⟨b, xs, hP⟩ := lw_pre_spec hpre.2.2 hpre.2.1
  obtain ⟨k, o, h1, h2, h3, hQ⟩ := lw_walk J0 hJ l hflags b xs p e ha hc hk s m args below hf ((Spec.applies_iff_loose hf).mp happ).1 hP trivial
  exact ⟨k, o, h1, h2, h3, hQ⟩
theorem lw_frame {s t : State} {o : Outcome} {args : Array Value} (h : Framed s o t [] 1200048 5501818) :
    Framed s o t (fieldLocs frame_1_writes args s ++ arrayLocs frame_1_arrays args s ++ staticLocs frame_1_statics s) 1200048 5501818 := h
theorem lw_limb {J : Nat → XS → MS → Prop} (J0 : J 24 xs0 mm0) (hJ : stepsOK J) (L : Cond) (hL : ∀ (args : Array Value) (s t : State), L.after args s (.returned (some (.int 1))) t = true) :
    ArmFor flags0 classFile x code maxLocals ret World_1 tables_1 room_1 Calls_1 rest_1 Pre_1
      (fun tb e a s o t => postC L tb e a s o t ∧ Framed s o t (fieldLocs frame_1_writes a s ++ arrayLocs frame_1_arrays a s ++ staticLocs frame_1_statics s) 1200048 5501818) := by
  intro l hflags _ _ p e ha hc hk s m args below hf hfit hheap happ hpre
  obtain ⟨k, o, h1, h2, h3, rfl, hF⟩ := lw_comes J0 hJ l hflags p e ha hc hk s m args below hf hfit hheap happ hpre
  exact ⟨k, _, h1, h2, h3, hL args s _, lw_frame hF⟩
/-- what is left: an invariant -/
theorem claim_of {J : Nat → XS → MS → Prop} (J0 : J 24 xs0 mm0) (hJ : stepsOK J) : Claimed_1_1 ∧ Claimed_1_2 := ⟨lw_limb J0 hJ limb_1_1 (fun args s t => by simp [limb_1_1, Cond.after, Cond.holds, Cond.value]), lw_limb J0 hJ limb_1_2 (fun args s t => Cond.after_iff.mpr (by
  first | (rw [show limb_1_2 = Cond.eq .result (.int 1) from rfl, Cond.eq_ints (x := 1) (y := 1) rfl rfl]; simp; done) | (simp [limb_1_2, Cond.value, Term.eval]; done)))⟩
