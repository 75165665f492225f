/-! RULES of the law's body (by hand): calls of methods with tables, the script, the heap of system and reference side by side -/
set_option maxRecDepth 100000
def e_mthW (M : EM) (n : Nat) (a : Nat × Nat × Nat × Nat) (t : List (Nat × Nat × Nat × Nat)) : Prop := M.2.2.2.2 = a :: t ∧ Cond.codeWith M.1 M.2.1 M.2.2.1 M.2.2.2.1 (a :: t) ∈ lw_all ∧ Cond.initialized M.1.cls ∈ lw_all ∧ (M.1.cls ≠ "java/lang/invoke/MethodHandle" ∧ M.1.cls ≠ "java/lang/invoke/VarHandle" ∧ (parseMethodDescriptor M.1.desc).map (fun d => d.parameters.length) = some n) ∧ M.2.2.1 ≤ 45
theorem e_mthW.ws {M : EM} {n : Nat} {a : Nat × Nat × Nat × Nat} {t : List (Nat × Nat × Nat × Nat)} (h : e_mthW M n a t) : e_ws M = wsW_ M.1 M.2.1 M.2.2.1 M.2.2.2.1 (a :: t) := by unfold e_ws; rw [h.1]
section EWCW
variable {M M' : EM} {d kc ks mc ms : Nat} {Q Q' : AO → AH → Prop} {pc : Nat} {lv : List (Nat × AV)} {rest st : List AV} {h : AH}
theorem ew_callVX {idx n ci : Nat} {i : EId} {fs : Nat → AV} {r : vw_C} {as : List AV} {a : Nat × Nat × Nat × Nat} {t : List (Nat × Nat × Nat × Nat)} (hst0 : as.reverse ++ aR (some i) :: rest = st) (hd : decode M.2.1 pc = .ok (.invokevirtual idx, 3)) (hm : e_mthW M' n a t) (hn : as.length = n) (hr : e_cl[ci]? = some r) (hC : M'.1.cls = r.1) (hi : h i = some (kO ci fs))
    (w1 : Cond.methodLink M.1.cls idx M'.1 ∈ lw_all) (w2 : Cond.instanceMethod M'.1 ∈ lw_all) (w3 : Cond.selects M'.1.cls M'.1 M'.1 ∈ lw_all) (h8 : (rest.map fun v => if e_is2 v then 2 else 1).sum ≤ 8) (hmc : mc ≤ kc) (hms : ms ≤ ks)
    (hS : Sp M' d mc ms (aR (some i) :: as) h Q')
    (kr : ∀ o h', Q' (Sum.inl o) h' → (∀ i, h i ≠ none → h' i ≠ none) → EW M (d + 1) (kc - mc) (ks - ms) Q (pc + 3) lv (o.toList ++ rest) h')
    (kx : ∀ E i h', Q' (Sum.inr (E, i)) h' → (∀ i, h i ≠ none → h' i ≠ none) → EX M (d + 1) (kc - mc) (ks - ms) Q pc lv h' E i) :
    EW M (d + 1) kc ks Q pc lv st h := by
  subst hst0
  intro D p l e R s m args below meth c Z A ad0 h0 G E H locs cells slots ad ls I hst
  obtain ⟨ok1, ok2⟩ := ok_as hst
  have hM := hS D l ad H.size G.2.2.2.2.2 ok1
  rw [hm.ws] at hM
  rw [e_mapR]
  have hp : PreV s H M'.1.cls (ad i) (e_Pc D ad h H.size (aR (some i) :: as)) (as.map (e_v ad)) := ⟨e_blind, by rw [hC]; exact e_recv I.1.1 G.2.2.1 hi hr, fun U hU hW => e_pre G I U hU hW⟩
  have hfix : CallFix p m c M.2.1 M.2.2.1 s args lw_all M.1.cls := ⟨G.1.1, G.1.2.1, G.1.2.2.1, G.1.2.2.2.2.2.1, G.2.1.1⟩
  obtain ⟨a1, a2, a3, a4⟩ := I.2.2
  obtain ⟨-, m2, m3, ⟨m4, m5, m6⟩, m7⟩ := hm
  refine e_call (n := 3) (a := (Value.ref (ad i) :: as.map (e_v ad)).toArray) G E I ok2 hmc hms ?_ kr kx
  exact vx_runVX hfix hM ⟨⟨rfl, rfl, a3, by show 8 + (M'.2.2.1 + 11) + 64 * d ≤ R.locals; omega, pay_in G.2.1.1 (lw_methW m2), List.mem_cons_self⟩, G.2.1.1 _ m2, G.2.1.1 _ m3, ⟨m4, m5⟩, fun sig hs => (by rw [hs] at m6; exact (Option.some.inj m6).symm), G.2.1.1 _ w1, G.2.1.1 _ w2, G.2.1.1 _ w3⟩ hp rfl (by rw [List.length_map]; exact hn) I.2.1.2.1 rfl (lv_room (e_cat8 ad h8)) hd ⟨by omega, by omega⟩
theorem ew_callSX {idx n : Nat} {as : List AV} {a : Nat × Nat × Nat × Nat} {t : List (Nat × Nat × Nat × Nat)} (hst0 : as.reverse ++ rest = st) (hd : decode M.2.1 pc = .ok (.invokestatic idx, 3)) (hm : e_mthW M' n a t) (hn : as.length = n)
    (w1 : Cond.methodLink M.1.cls idx M'.1 ∈ lw_all) (w2 : Cond.static M'.1 ∈ lw_all) (h8 : (rest.map fun v => if e_is2 v then 2 else 1).sum ≤ 8) (hmc : mc ≤ kc) (hms : ms ≤ ks)
    (hS : Sp M' d mc ms as h Q')
    (kr : ∀ o h', Q' (Sum.inl o) h' → (∀ i, h i ≠ none → h' i ≠ none) → EW M (d + 1) (kc - mc) (ks - ms) Q (pc + 3) lv (o.toList ++ rest) h')
    (kx : ∀ E i h', Q' (Sum.inr (E, i)) h' → (∀ i, h i ≠ none → h' i ≠ none) → EX M (d + 1) (kc - mc) (ks - ms) Q pc lv h' E i) :
    EW M (d + 1) kc ks Q pc lv st h := by
  subst hst0
  intro D p l e R s m args below meth c Z A ad0 h0 G E H locs cells slots ad ls I hst
  obtain ⟨ok1, ok2⟩ := ok_as0 hst
  have hM := hS D l ad H.size G.2.2.2.2.2 ok1
  rw [hm.ws] at hM
  rw [e_mapS]
  have hp : PreS s H (e_Pc D ad h H.size as) (as.map (e_v ad)) := ⟨e_blind, fun U hU hW => e_pre G I U hU hW⟩
  have hfix : CallFix p m c M.2.1 M.2.2.1 s args lw_all M.1.cls := ⟨G.1.1, G.1.2.1, G.1.2.2.1, G.1.2.2.2.2.2.1, G.2.1.1⟩
  obtain ⟨a1, a2, a3, a4⟩ := I.2.2
  obtain ⟨-, m2, m3, ⟨m4, m5, m6⟩, m7⟩ := hm
  refine e_call (n := 3) (a := (as.map (e_v ad)).toArray) G E I ok2 hmc hms ?_ kr kx
  exact vx_runSX hfix hM ⟨⟨rfl, rfl, a3, by show 8 + (M'.2.2.1 + 11) + 64 * d ≤ R.locals; omega, pay_in G.2.1.1 (lw_methW m2), List.mem_cons_self⟩, G.2.1.1 _ m2, G.2.1.1 _ m3, ⟨m4, m5⟩, fun sig hs => (by rw [hs] at m6; exact (Option.some.inj m6).symm), G.2.1.1 _ w1, G.2.1.1 _ w2⟩ hp rfl (by rw [List.length_map]; exact hn) I.2.1.2.1 rfl (lv_room (e_cat8 ad h8)) hd ⟨by omega, by omega⟩
/-- the script -/
abbrev sT : EId := (9, 20, 0)
def scr (Q : AO → AH → Prop) (n : Nat) (f : Int → Int) : Prop := ∃ hs : AH, hs sT = some (kI 0 n f) ∧ Q (Sum.inr ("#script", sT)) hs
theorem ew_sld {n : Nat} {f : Int → Int} {x : Int} (hM : M.1.name = "law") (hS : scr Q n f) (hd : decode M.2.1 pc = .ok (.iaload, 1)) (h0 : 0 ≤ x) (h1 : x < n) (k : EW M d kc ks Q (pc + 1) lv (aI (f x) :: st) h) : EW M d kc ks Q pc lv (aI x :: aR (some sT) :: st) h := by
  intro D p l e R s m args below meth c Z A ad0 h0' G E H locs cells slots ad ls I hst
  obtain ⟨hs, s1, s2⟩ := hS
  obtain ⟨c1, c2, c3, c4⟩ := (E.2.2.2 hM).2 n f hs s1 s2
  have ead : ad sT = ad0 sT := I.1.2.1 sT (Or.inr rfl)
  obtain ⟨x1, x2⟩ := e_ix (ok_h hst) h0
  have kk := k D p l e R s m args below meth c Z A ad0 h0' G E H locs cells slots ad ls I (List.forall_mem_cons.mpr ⟨by have := c4 x.toNat (by omega); rw [e_nat h0] at this; exact this, fun v hv => hst v (List.mem_cons_of_mem _ (List.mem_cons_of_mem _ hv))⟩)
  refine va_sld (A := A) (i := Int32.ofInt x) G.1.1 G.1.2.1 (b := ad sT) (by rw [ead]; exact c3) (by rw [ead]; exact c2) (by rw [ead]; exact c1) I.1.2.2.2 (fun q => by
    rcases q with q | q
    · exact x2 q
    · rw [x1] at q; omega) hd ?_
  rw [x1, e_nat h0]
  exact kk
theorem ew_slen {n : Nat} {f : Int → Int} (hM : M.1.name = "law") (hS : scr Q n f) (hd : decode M.2.1 pc = .ok (.arraylength, 1)) (hn : (n : Int) < 2147483648) (k : EW M d kc ks Q (pc + 1) lv (aI n :: st) h) : EW M d kc ks Q pc lv (aR (some sT) :: st) h := by
  intro D p l e R s m args below meth c Z A ad0 h0' G E H locs cells slots ad ls I hst
  obtain ⟨hs, s1, s2⟩ := hS
  obtain ⟨c1, c2, c3, c4⟩ := (E.2.2.2 hM).2 n f hs s1 s2
  have ead : ad sT = ad0 sT := I.1.2.1 sT (Or.inr rfl)
  have kk := k D p l e R s m args below meth c Z A ad0 h0' G E H locs cells slots ad ls I (List.forall_mem_cons.mpr ⟨⟨by omega, hn⟩, fun v hv => hst v (List.mem_cons_of_mem _ hv)⟩)
  refine va_slen (A := A) G.1.1 G.1.2.1 (b := ad sT) (by rw [ead]; exact c3) (by rw [ead]; exact c2) (by rw [ead]; exact c1) I.1.2.2.2 hd ?_
  rw [← Int32.ofInt_eq_ofNat]
  exact kk
end EWCW
/-- the reference stands in the rest -/
def mIn (m : MS) (g : AH) : Prop := ∀ k, g (0, 1, k) = mC m k
theorem mIn.eq {m : MS} {g : AH} (h : mIn m g) : mh m g = g := by
  funext i
  unfold mh
  split
  · next e =>
    obtain ⟨a, b, c⟩ := i
    obtain ⟨rfl, rfl⟩ : a = 0 ∧ b = 1 := e
    exact (h c).symm
  · rfl
theorem mIn_mh {m : MS} {g : AH} : mIn m (mh m g) := fun k => mh_at m g k
theorem xh_mh {V : XV} {s : XS} {m : MS} {g : AH} : xh V s (mh m g) = mh m (xh V s g) := by
  funext i
  by_cases e : i.1 = 0 ∧ i.2.1 = 1
  · have h1 : xC V s i = none := xC_low (by omega) (by omega)
    rw [xh_g h1]
    unfold mh
    rw [if_pos e, if_pos e]
  · have h2 : mh m (xh V s g) i = xh V s g i := if_neg e
    rw [h2]
    unfold xh
    rw [show mh m g i = g i from if_neg e]
/-- what stands at the law's loop -/
abbrev oT : EId := (4, 0, 0)
def LH (V : XV) (N : Nat) (m : MS) (g : AH) : Prop := okG V N g ∧ mIn m g ∧ ∃ o, g oT = some (kL 1 o)
theorem LH.upM {V : XV} {N : Nat} {m m' : MS} {g : AH} (h : LH V N m g) : LH V N m' (mh m' g) := by
  obtain ⟨⟨h1, h2, h3, h4⟩, h5, o, h6⟩ := h
  have hne : ∀ i : EId, ¬ (i.1 = 0 ∧ i.2.1 = 1) → mh m' g i = g i := fun i hi => if_neg hi
  refine ⟨⟨fun i hi => ?_, h2, fun i hi => ?_, fun i hi => ?_⟩, mIn_mh, o, (hne oT (by decide)).trans h6⟩
  · exact (hne i (fun q => by unfold xreg at hi; omega)).trans (h1 i hi)
  · exact (hne i (fun q => by omega)).trans (h3 i hi)
  · exact (hne i (fun q => by omega)).trans (h4 i hi)
theorem LH.xfl {V : XV} {N L : Nat} {m : MS} {g : AH} (h : LH V N m g) : xf L g := fun i hi _ => h.1.2.2.2 i (Or.inl hi)
theorem LH.fr {V : XV} {N : Nat} {m : MS} {g : AH} (h : LH V N m g) : xfree V g := h.1.1
theorem LH.next {V V' : XV} {N N' : Nat} {m : MS} {g g' : AH} (h : LH V N m g) (hk : okG V' N' g') (hg : ∀ i : EId, i.1 < 10 → g' i = g i) : LH V' N' m g' := ⟨hk, fun k => (hg _ (by show (0 : Nat) < 10; omega)).trans (h.2.1 k), by obtain ⟨o, ho⟩ := h.2.2; exact ⟨o, (hg _ (by show (4 : Nat) < 10; omega)).trans ho⟩⟩
