/-! NoSuchElementException, thrown out of a method over abstract heaps (gen/thr.py; vx_throwZ: 02.exc's vx_throw0, turned) -/
set_option maxRecDepth 100000
section Ends2
variable {p : Program} {l : Launch} {e : Env} {R : Room} {s : State} {m : MethodId} {args : Array Value} {below : List Frame} {meth : Method} {c : Code} {H : Heap} {locs : List Loc} {cells slots : Nat} {Q : State → Prop}
variable {mc ms : Nat} {free : Addr → Prop} {A0 A1 : Nat → Prop} {H0 : Heap} {a : Array Value} {ls : Array Slot} {st0 rest : List Value}
variable {Qc : Array Value → State → Outcome → State → Prop} {XC : String → Addr → State → State → Prop}
theorem vx_throwZ {cc : ByteArray} {pc : Nat} (hexec : p.tables.exec = Jvm.exec) (hb : c.code = cc) (hl : l.stackTraces = false) {own cls : String} {names : List String} {ik ic : Nat} {A : Nat → Prop}
    (hown : s.vm.findClass own = some m.cls) (hcls : Bundle.fit cls = true) (hnames : ∀ n ∈ names, Bundle.fit n = true)
    (hk : (Cond.classLink own ik cls).before args s = true) (hini : (Cond.initialized cls).before args s = true) (hat : ∀ w ∈ vx_at0 own ic cls names, w.before args s = true)
    (hgood : ∀ w ∈ Cond.classLink own ik cls :: Cond.initialized cls :: vx_at0 own ic cls names, vx_ot w = true)
    (hU : vx_Zq Bundle.tN "UNASSIGNED_STACK" Bundle.steD A s s.heap) (hN : vx_Zq Bundle.tN "SUPPRESSED_SENTINEL" Bundle.listD A s s.heap) (hS : va_S A s.heap H locs) (hsize : ls.size = c.maxLocals)
    (d0 : decode cc pc = .ok (.new ik, 3)) (d3 : decode cc (pc + 3) = .ok (.dup, 1)) (d4 : decode cc (pc + 4) = .ok (.invokespecial ic, 3)) (d7 : decode cc (pc + 7) = .ok (.athrow, 1))
    (hout : ∀ x ∈ c.exceptionTable.toList, covers x (pc + 7) = false)
    (hRframes : names.length + 3 < R.frames) (hRlocals : (rest.map fun v => v.category).sum + (13 * (names.length + 1) + 42) ≤ R.locals) (hRcells : cells + 1 ≤ R.cells) (hRslots : slots + 6 ≤ R.slots) (hlocks : meth.locks = false)
    {Z : State → Prop} (hz : ∀ (U : State) (q9 : Addr) (ce : Cell), U.status = .running → Ended U below (.threw q9) → s.WarmedH U.vm → H.size ≤ U.heap.size → (∀ q : Nat, q < H.size → U.heap[q]? = H[q]?) → U.heap[q9]? = some ce → ce.vm = .none → s.vm.findClass cls = some ce.cls → s.sameButNew ({ U with vm := s.vm } : State) locs (cells + 1) (slots + 6) → Z U) :
    W p l e R s m args below meth c H locs cells slots Z (F0 m pc ls rest) := by
  intro T hT X
  have htr : e.platform.stackTraces = false := (show e.platform.stackTraces = l.stackTraces by rw [X.admits.platform]).trans hl
  have Y := vx_rebase X (R' := { frames := R.frames, locals := R.locals, cells := 1, slots := 6 }) (Nat.le_refl _) (Nat.le_refl _) hRcells hRslots
  obtain ⟨s', hA⟩ : ∃ z, z = (T.setVm s.vm).setFrames (.invoking m args :: below) := ⟨_, rfl⟩
  rw [← hA] at Y
  have hvm : s'.vm = s.vm := by rw [hA]; rfl
  have hhp : s'.heap = H := by rw [hA]; exact hT
  have hW0 : s.WarmedH s'.vm := by rw [hvm]; exact State.WarmedH.refl s
  have hat' : ∀ w ∈ vx_at0 own ic cls names, w.before args s' = true := fun w hw => vx_ot_at hW0 hvm.symm (hgood w (List.mem_cons_of_mem _ (List.mem_cons_of_mem _ hw))) (hat w hw)
  have hk' : (Cond.classLink own ik cls).before args s' = true := vx_ot_at hW0 hvm.symm (hgood _ List.mem_cons_self) hk
  have hini' : (Cond.initialized cls).before args s' = true := vx_ot_at hW0 hvm.symm (hgood _ (List.mem_cons_of_mem _ List.mem_cons_self)) hini
  have hU' : vx_Zq Bundle.tN "UNASSIGNED_STACK" Bundle.steD A s' s'.heap := by rw [hhp]; exact vx_Zq.moved hW0.alike (hU.kept hS.2.1)
  have hN' : vx_Zq Bundle.tN "SUPPRESSED_SENTINEL" Bundle.listD A s' s'.heap := by rw [hhp]; exact vx_Zq.moved hW0.alike (hN.kept hS.2.1)
  have h : ∀ w ∈ Bundle.ownAtoms0 own ic cls names, w.before args s' = true := vx_own hat' (vx_isRefq hU'.1) (vx_isRefq hN'.1) hU'.2.word hN'.2.word
  have hown' : s'.vm.findClass own = some m.cls := by rw [hvm]; exact hown
  have hins : (Cond.instantiable cls 6).before args s' = true := h _ (by simp [Bundle.ownAtoms0])
  obtain ⟨vm₁, cX, kX, hfX, hkX, -, -, X₁, st1⟩ := Y.newCold hexec (own := own) (C := cls) (index := ik) (n := 6) hown' hk' hins hini'
    (g := F0 m pc ls rest) rfl (by rw [hb]; exact d0) (Nat.le_refl _) (Nat.le_refl _)
  generalize hT1 : (T.setVm vm₁).pushCell { cls := cX, slots := kX.instanceTypes.map defaultValue, vm := .none } = T1 at X₁ st1
  have hcat : (Value.ref T.heap.size).category = 1 := rfl
  have hcellA : T1.heap[T.heap.size]? = some (freshCell cX kX) := by rw [← hT1]; exact State.heap_pushCell_size _ _
  have d3' : decode c.code (pc + 3) = .ok (.dup, 1) := by rw [hb]; exact d3
  obtain ⟨U, hsteps, hrun, hend, hW, hsame, ce, hce, hO⟩ := X₁.ctorThrow0 hexec htr (own := own) (cls := cls) (names := names) (ic := ic) hown' hcls hnames h (fun x hx => nomatch hx) hfX hkX hcellA (by rw [hhp, hT]; exact Nat.le_refl _)
    (g := { method := m, pc := pc + 4, locals := ls, stack := .ref T.heap.size :: .ref T.heap.size :: rest, locked := none }) rfl hsize rfl rfl (rest := rest) rfl
    (by rw [hb]; exact d4) (by rw [hb]; exact d7) hout hRframes (by simp only [List.map_cons, List.sum_cons, hcat]; omega) hlocks
  obtain ⟨f1, f2⟩ := vx_frame hsame
  rw [hhp] at f1 f2
  have hWs : s.WarmedH U.vm := State.WarmedH.trans hW0 hW
  have hcl : s.vm.findClass cls = some ce.cls := by
    have h9 := hO.cls
    rw [hvm] at h9
    exact h9
  have hall : s.sameButNew ({ U with vm := s.vm } : State) locs (cells + 1) (slots + 6) := by
    subst hA
    obtain ⟨e1, e2⟩ := hsame
    rw [State.setFrames_setFrames] at e1
    have h2 : (T.setVm s.vm).sameButNew ({ U with vm := s.vm } : State) [] (0 + 1) (0 + 6) := ⟨e1, e2⟩
    have h3 := X.same.trans h2
    rw [List.append_nil] at h3
    exact h3.mono (by omega) (by omega)
  refine ⟨U, ?_, hz U T.heap.size ce hrun hend hWs f1 (fun q hq => f2 q hq (fun z hz => nomatch hz)) hce hO.vm hcl hall⟩
  refine st1 _ ?_
  show Steps p.tables e below (T1.setTop { method := m, pc := pc + 3, locals := ls, stack := .ref T.heap.size :: rest, locked := none }) _
  jvm_step X₁.here [X₁.here.top, hexec, d3', Value.category]
  exact hsteps
end Ends2
abbrev nse : String := "java/util/NoSuchElementException"
abbrev nse_sup : List String := ["java/lang/RuntimeException", "java/lang/Exception"]
theorem ot_all {w : Cond} (h : w ∈ lw_all) : vx_ot w = true := by
  unfold vx_ot
  rw [(List.mem_filter.mp h).2, Bool.or_true]
set_option maxHeartbeats 4000000 in
theorem nse_words {args : Array Value} {s : State} (hts : ∀ w ∈ lw_all, w.before args s = true) (hN : e_N s) : ∀ w ∈ vx_at0 "ReasonCloser" 383 nse nse_sup, w.before args s = true ∧ vx_ot w = true := by
  intro w hw
  have h1 := List.mem_filter.mp hw
  have h2 := h1.1
  have h3 := h1.2
  clear h1 hw
  simp only [Bundle.ownAtoms0, Bundle.throwableAtoms, Bundle.chain0Atoms, Bundle.passAtoms, List.mem_append, List.mem_cons, List.not_mem_nil, or_false] at h2
  repeat' (rcases h2 with h2 | h2)
  all_goals (first | exact absurd h3 (by decide +kernel) | skip)
  all_goals (refine ⟨?_, ?_⟩)
  all_goals (first | exact hts _ q125 | exact hts _ q126 | exact hts _ q139 | exact hts _ q140 | exact hts _ q146 | exact hts _ q147 | exact hts _ q148 | exact hts _ q154 | exact hts _ q166 | exact hts _ q212 | exact hts _ q227 | exact hts _ q326 | exact hts _ q388 | exact hts _ q415 | exact hts _ q442 | exact hts _ q597 | exact hts _ q598 | exact hts _ q599 | exact hts _ q600 | exact hts _ q601 | exact hts _ q602 | exact hts _ q603 | exact hts _ q604 | exact hts _ q605 | exact hts _ q606 | exact hts _ q607 | exact hts _ q608 | exact hts _ q610 | exact hts _ q611 | exact hts _ q612 | exact hts _ q613 | exact hts _ q614 | exact hts _ q616 | exact hts _ q618 | exact hts _ q619 | exact hts _ q620 | exact hts _ q621 | exact hts _ q622 | exact hts _ q623 | exact hts _ q625 | exact hts _ q626 | exact hts _ q627 | exact hts _ q631 | exact hts _ q632 | exact hts _ q633 | exact hts _ q634 | exact hts _ q635 | exact hts _ q636 | exact hts _ q641 | exact hts _ q642 | exact hts _ q643 | exact hts _ q644 | exact hts _ q645 | exact hts _ q650 | exact hts _ q651 | exact hts _ q652 | exact hts _ q653 | exact hts _ q654 | exact hts _ q655 | exact hts _ q656 | exact hts _ q657 | exact hts _ q695 | exact hts _ q703 | exact hts _ q715 | exact hts _ q725 | exact hts _ q742 | exact hts _ q746 | exact hts _ q759 | exact hts _ q760 | exact hts _ q761 | exact hts _ q762 | exact hts _ q763 | exact hts _ q764 | exact hts _ q765 | exact hts _ q766 | exact hts _ q767 | exact hts _ q768 | exact hts _ q769 | exact hts _ q770 | exact hts _ q771 | exact hts _ q772 | exact hts _ q773 | exact hts _ q774 | exact hts _ q775 | exact hts _ q776 | exact hts _ q777 | exact hts _ q778 | exact hts _ q781 | exact hts _ q817 | exact hts _ q836 | exact hts _ q852 | exact hts _ q863 | exact hts _ q872 | exact hts _ q887 | exact hts _ q900 | exact hts _ q919 | exact hts _ q925 | exact hts _ q929 | exact hts _ q930 | exact hts _ q931 | exact hts _ q932 | exact hts _ q933 | exact hts _ q934 | exact hts _ q935 | exact hts _ q936 | exact hts _ q937 | exact hts _ q938 | exact hts _ q939 | exact hts _ q940 | exact hts _ q941 | exact hts _ q942 | exact hts _ q943 | exact hts _ q944 | exact hts _ q945 | exact hts _ q946 | exact hts _ q1375 | exact hts _ q1399 | exact hts _ q1405 | exact hts _ q1574 | exact hts _ q1962 | exact hts _ q1987 | exact hts _ q2006 | exact hts _ q2007 | exact hts _ q2022 | exact hts _ qs10 | exact hN.use q168 rfl | exact hN.use q593 rfl | exact hN.use q594 rfl | exact hN.use q595 rfl | exact hN.use q596 rfl | exact hN.use q615 rfl | exact hN.use q617 rfl | exact hN.use q624 rfl | exact hN.use q926 rfl | exact hN.use q927 rfl | exact hN.use q928 rfl | exact hN.use q1988 rfl | exact hN.use q1989 rfl | exact hN.use q1990 rfl | exact hN.use q1991 rfl | exact hN.use q1992 rfl | exact hN.use q1993 rfl | exact hN.use q1994 rfl | exact hN.use q1995 rfl | exact hN.use q1996 rfl | exact hN.use q1997 rfl | exact hN.use q1998 rfl | exact hN.use q1999 rfl | exact hN.use q2000 rfl | exact hN.use q2001 rfl | exact hN.use q2002 rfl | exact hN.use q2003 rfl | exact hN.use q2004 rfl | exact hN.use q2005 rfl | exact hN.use q2008 rfl | exact hN.use q2009 rfl | exact hN.use q2010 rfl | exact hN.use q2011 rfl | exact hN.use q2012 rfl | exact hN.use q2013 rfl | exact hN.use q2014 rfl | exact ot_all q125 | exact ot_all q126 | exact ot_all q139 | exact ot_all q140 | exact ot_all q146 | exact ot_all q147 | exact ot_all q148 | exact ot_all q154 | exact ot_all q166 | exact ot_all q212 | exact ot_all q227 | exact ot_all q326 | exact ot_all q388 | exact ot_all q415 | exact ot_all q442 | exact ot_all q597 | exact ot_all q598 | exact ot_all q599 | exact ot_all q600 | exact ot_all q601 | exact ot_all q602 | exact ot_all q603 | exact ot_all q604 | exact ot_all q605 | exact ot_all q606 | exact ot_all q607 | exact ot_all q608 | exact ot_all q610 | exact ot_all q611 | exact ot_all q612 | exact ot_all q613 | exact ot_all q614 | exact ot_all q616 | exact ot_all q618 | exact ot_all q619 | exact ot_all q620 | exact ot_all q621 | exact ot_all q622 | exact ot_all q623 | exact ot_all q625 | exact ot_all q626 | exact ot_all q627 | exact ot_all q631 | exact ot_all q632 | exact ot_all q633 | exact ot_all q634 | exact ot_all q635 | exact ot_all q636 | exact ot_all q641 | exact ot_all q642 | exact ot_all q643 | exact ot_all q644 | exact ot_all q645 | exact ot_all q650 | exact ot_all q651 | exact ot_all q652 | exact ot_all q653 | exact ot_all q654 | exact ot_all q655 | exact ot_all q656 | exact ot_all q657 | exact ot_all q695 | exact ot_all q703 | exact ot_all q715 | exact ot_all q725 | exact ot_all q742 | exact ot_all q746 | exact ot_all q759 | exact ot_all q760 | exact ot_all q761 | exact ot_all q762 | exact ot_all q763 | exact ot_all q764 | exact ot_all q765 | exact ot_all q766 | exact ot_all q767 | exact ot_all q768 | exact ot_all q769 | exact ot_all q770 | exact ot_all q771 | exact ot_all q772 | exact ot_all q773 | exact ot_all q774 | exact ot_all q775 | exact ot_all q776 | exact ot_all q777 | exact ot_all q778 | exact ot_all q781 | exact ot_all q817 | exact ot_all q836 | exact ot_all q852 | exact ot_all q863 | exact ot_all q872 | exact ot_all q887 | exact ot_all q900 | exact ot_all q919 | exact ot_all q925 | exact ot_all q929 | exact ot_all q930 | exact ot_all q931 | exact ot_all q932 | exact ot_all q933 | exact ot_all q934 | exact ot_all q935 | exact ot_all q936 | exact ot_all q937 | exact ot_all q938 | exact ot_all q939 | exact ot_all q940 | exact ot_all q941 | exact ot_all q942 | exact ot_all q943 | exact ot_all q944 | exact ot_all q945 | exact ot_all q946 | exact ot_all q1375 | exact ot_all q1399 | exact ot_all q1405 | exact ot_all q1574 | exact ot_all q1962 | exact ot_all q1987 | exact ot_all q2006 | exact ot_all q2007 | exact ot_all q2022 | exact ot_all qs10 | rfl)

/-- new, dup, <init>, athrow in ReasonCloser -/
theorem ew_throwN {M : EM} {d kc ks : Nat} {Q : AO → AH → Prop} {pc : Nat} {lv : List (Nat × AV)} {h : AH} (hC : M.1.cls = "ReasonCloser") (htb : M.2.2.2.2 = []) (d0 : decode M.2.1 pc = .ok (.new 381, 3)) (d3 : decode M.2.1 (pc + 3) = .ok (.dup, 1)) (d4 : decode M.2.1 (pc + 4) = .ok (.invokespecial 383, 3)) (d7 : decode M.2.1 (pc + 7) = .ok (.athrow, 1)) (hQ : Q (Sum.inr (nse, (8, 0, 0))) h) (b1 : 1 ≤ kc) (b2 : 6 ≤ ks) : EW M (d + 6) kc ks Q pc lv [] h := by
  intro D p l e R s m args below meth c Z A ad0 h0 G E H locs cells slots ad ls I hst
  obtain ⟨⟨hR, hX, hdm, hS⟩, ⟨lo, hl⟩, r1, r2, r3, r4⟩ := I
  have hw := nse_words G.2.1.1 G.2.1.2.1
  refine vx_throwZ (A := A) (own := "ReasonCloser") (cls := nse) (names := nse_sup) (ik := 381) (ic := 383) G.1.1 G.1.2.1 G.2.2.2.2.2 (by rw [← hC]; exact G.1.2.2.2.2.2.1) (by decide +kernel) (by decide +kernel) (G.2.1.1 _ q1398) (G.2.1.1 _ q140) (fun w hh => (hw w hh).1)
    (fun w hh => ?_) G.2.2.2.1.2.2.2.2.2.1.1 G.2.2.2.1.2.2.2.2.2.1.2 hS (hl.1.trans G.1.2.2.1.symm) d0 d3 d4 d7 (by rw [G.1.2.2.2.2.2.2.2.1, htb]; intro x hx; cases hx) (by show 2 + 3 < R.frames; omega) (by show 0 + (13 * (2 + 1) + 42) ≤ R.locals; omega) (by omega) (by omega) G.1.2.2.2.2.1
    (fun U q9 ce hrun hend hW hsz hsame hce hcv hcl hbut => E.2.2.1 _ h H locs (cells + 1) (slots + 6) ad U q9 ce hQ ⟨hR, hX, hdm, hS, by omega, by omega⟩ hrun hend hW hsz hsame hce hcv hcl hbut)
  rcases List.mem_cons.mp hh with rfl | hh
  · exact ot_all q1398
  · rcases List.mem_cons.mp hh with rfl | hh
    · exact ot_all q140
    · exact (hw w hh).2
