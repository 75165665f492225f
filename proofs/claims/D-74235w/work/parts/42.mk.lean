/-! ReasonCloser.make (gen/gxm.py, gen/mk.head.txt) -/
set_option maxRecDepth 100000
/-- all references of a cell -/
def e_refs (P : EId → Prop) : ACell → Prop
  | Sum.inl _ => True
  | Sum.inr (Sum.inl _) => True
  | Sum.inr (Sum.inr (Sum.inl (_, _, f))) => ∀ j r, f j = some r → P r
  | Sum.inr (Sum.inr (Sum.inr (_, f))) => ∀ k r, f k = aR (some r) → P r
theorem e_okv_F {h h1 : AH} {v : AV} (hv : e_okv h v) (hn : ∀ r, v = aR (some r) → h r ≠ none → h1 r ≠ none) : e_okv h1 v := by
  match v, hv with
  | Sum.inl n, hv => exact hv
  | Sum.inr (Sum.inl n), hv => exact hv
  | Sum.inr (Sum.inr none), _ => trivial
  | Sum.inr (Sum.inr (some i)), hv => exact hv.imp (hn i rfl) id
theorem e_okc_F {h h1 : AH} {c : ACell} (hv : e_okc h c) (hn : e_refs (fun r => h r ≠ none → h1 r ≠ none) c) : e_okc h1 c := by
  match c, hv, hn with
  | Sum.inl (t, n, f), hv, _ => exact hv
  | Sum.inr (Sum.inl (n, f)), hv, _ => exact hv
  | Sum.inr (Sum.inr (Sum.inl (t, n, f))), hv, hn => exact fun j hj => e_okv_F (hv j hj) (fun r e => hn j r (by injection e with e; injection e))
  | Sum.inr (Sum.inr (Sum.inr (c, f))), hv, hn => exact fun k r hr hk => e_okv_F (hv k r hr hk) (fun r e => hn k r e)
/-- some cells are forgotten at a method's end -/
theorem Sp.forgetF {M : EM} {d kc ks : Nat} {as : List AV} {h0 : AH} {Q Q' : AO → AH → Prop} (hQ : ∀ o h, Q o h → (∃ o' h1, o = Sum.inl o' ∧ e_plain o' ∧ (∀ i c, h1 i = some c → h i = some c) ∧ ((∀ i, h0 i ≠ none → h i ≠ none) → ∀ i, h0 i ≠ none → h1 i ≠ none) ∧ (∀ i c, h1 i = some c → h0 i = some c ∨ e_refs (fun r => h r ≠ none → h1 r ≠ none) c) ∧ Q' o h1)) (k : Sp M d kc ks as h0 Q) : Sp M d kc ks as h0 Q' := by
  intro D l ad sz hl hok
  have h1 := k D l ad sz hl hok
  refine MetFree.mono h1 (fun _ _ q => q) (fun _ _ _ _ _ _ => trivial) (fun a s o s' hP hq => ?_)
  obtain ⟨-, -, hR0, -⟩ := hP
  rcases hq with ⟨⟨⟨o', h', ad', e1, e2, e3, e4, e5, e6⟩, e7⟩, e8⟩ | ⟨q, eo, E, ce, L, ⟨⟨i, h', ad', e1, e2, e3⟩, e4⟩, e5⟩
  · obtain ⟨o2, h1, b1, b2, b3, b4, b5, b6⟩ := hQ _ _ e2
    have b4' := b4 e5
    refine Or.inl ⟨⟨⟨o', h1, ad', e1, b6, ⟨fun i c hi => ?_, fun i j hi hj e => ?_⟩, e4, b4', fun x hx => ?_⟩, e7⟩, e8⟩
    · obtain ⟨g1, g2, g3, g4⟩ := e3.1 i c (b3 i c hi)
      refine ⟨g1, g2, ?_, g4⟩
      rcases b5 i c hi with b5 | b5
      · exact (hR0.1 i c b5).2.2.1.mono b4'
      · exact e_okc_F g3 b5
    · refine e3.2 i j ?_ ?_ e
      · cases hc : h1 i with
        | none => exact absurd hc hi
        | some c => rw [b3 i c hc]; exact fun q => by cases q
      · cases hc : h1 j with
        | none => exact absurd hc hj
        | some c => rw [b3 j c hc]; exact fun q => by cases q
    · injection b1 with b1
      subst b1
      subst hx
      have := e6 x rfl
      match x, b2, this with
      | Sum.inl n, _, h => exact h
      | Sum.inr (Sum.inl n), _, h => exact h
  · obtain ⟨o2, h1, b1, -⟩ := hQ _ _ e2
    cases b1
/-- where the structure's references lead -/
def xgood (r : MS) (i : EId) : Prop := i.1 = 0 ∨ i.1 = 9 ∨ (10 ≤ i.1 ∧ (i.2.1 ≠ 14 ∨ i.2.2 < (r.1 41).toNat))
theorem xgood_b {V : XV} {r : MS} {reg k : Nat} (h : reg ≠ 14) : xgood r (bI V reg k) := Or.inr (Or.inr ⟨by show 10 ≤ 10 + V 9; omega, Or.inl h⟩)
theorem xgood_s {V : XV} {r : MS} {j k : Nat} : xgood r (sI V j k) := Or.inr (Or.inr ⟨by show 10 ≤ 10 + V j; omega, Or.inl (by show 20 + j ≠ 14; omega)⟩)
theorem xgood_t {V : XV} {r : MS} {j k : Nat} : xgood r (tI V j k) := Or.inr (Or.inr ⟨by show 10 ≤ 10 + V j; omega, Or.inl (by show 30 + j ≠ 14; omega)⟩)
theorem xgood_e {V : XV} {r : MS} {j : Nat} {x : Int} (hj : j < 4 ∨ j = 4) : xgood r (xel V r j x) := by
  unfold xel
  split
  · exact Or.inr (Or.inl rfl)
  · exact xgood_b (by omega)
theorem good_xec {V : XV} {r : MS} {j q n : Nat} (hj : j < 4 ∨ j = 4) : e_refs (xgood r) (kQ 0 n (xec V r j q)) := by
  intro x i h
  rcases xec_or (V := V) (r := r) (j := j) (q := q) (x := x) with e | e
  · rw [e] at h; cases h
  · rw [e] at h; cases h; exact xgood_e hj
theorem good_list {V : XV} {r : MS} {reg k : Nat} {z m : Int} (h : reg ≠ 14) : e_refs (xgood r) (kO 11 (al (bI V reg k) z m)) := by
  intro x i hx
  match x with
  | 0 => cases hx
  | 1 => cases hx; exact xgood_b h
  | 2 => cases hx
  | n + 3 => cases hx
theorem good_x {V : XV} {r : MS} : e_refs (xgood r) (kO 0 (xF V r)) := by
  intro k i h
  unfold xF at h
  split at h <;> first | (cases h; done) | (cases h; first | exact Or.inl rfl | exact xgood_b (by decide) | exact xgood_s)
theorem good_s {V : XV} {r r' : MS} {j c : Nat} : e_refs (xgood r') (kO c (sF V r j)) := by
  intro k i h
  unfold sF at h
  split at h <;> first | (cases h; done) | (cases h; first | exact xgood_s | exact xgood_t | exact xgood_b (by decide))
theorem good_T {V : XV} {r : MS} {k : Nat} (hk : k < (r.1 41).toNat) : e_refs (xgood r) (kO 9 (xfT V r k)) := by
  intro x i h
  unfold xfT at h
  split at h
  · cases h
  · cases h; exact xgood_b (by decide)
  · cases h
  · cases h; exact Or.inr (Or.inr ⟨by show 10 ≤ 10 + V 9; omega, Or.inr hk⟩)
  · cases h
theorem good_F {r : MS} {k : Nat} {P : EId → Prop} : e_refs P (kO 8 (xfF r k)) := by
  intro x i h
  unfold xfF at h
  split at h <;> cases h
theorem good_S {r : MS} {k : Nat} {P : EId → Prop} : e_refs P (kO 10 (xfS r k)) := by
  intro x i h
  unfold xfS at h
  split at h <;> cases h
theorem good_D {r : MS} {k : Nat} {P : EId → Prop} : e_refs P (kO 10 (xfD r k)) := by
  intro x i h
  unfold xfD at h
  split at h <;> cases h
theorem good_B {V : XV} {r : MS} : e_refs (xgood r) (kO 2 (bF V)) := by
  intro k i h
  cases h
  exact xgood_b (by decide)
theorem bC_good {V : XV} {r : MS} {reg k : Nat} {c : ACell} (h : bC V r reg k = some c) : e_refs (xgood r) c := by
  unfold bC at h
  split at h
  · split at h
    · cases h; exact good_B
    · cases h
  · split at h
    · next hk =>
      cases h
      exact good_list (by omega)
    · cases h
  · split at h
    · cases h; exact good_xec (by omega)
    · cases h
  · split at h
    · cases h; exact good_xec (by omega)
    · cases h
  · split at h
    · cases h; exact good_xec (by omega)
    · cases h
  · split at h
    · cases h; exact good_xec (by omega)
    · cases h
  · split at h
    · cases h; exact good_xec (by omega)
    · cases h
  · split at h
    · cases h; exact good_F
    · cases h
  · split at h
    · next hk =>
      cases h
      exact good_T hk
    · cases h
  · split at h
    · cases h; exact good_S
    · cases h
  · split at h
    · cases h; exact good_D
    · cases h
  · split at h
    · cases h; trivial
    · cases h
  · cases h
theorem xC_good {V : XV} {s : XS} {i : EId} {c : ACell} (h : xC V s i = some c) : e_refs (xgood s.1) c := by
  unfold xC at h
  split at h
  · unfold xCx at h
    split at h <;> first | (cases h; trivial) | (cases h; exact good_x) | cases h
  · split at h
    · exact bC_good h
    · split at h
      · unfold sC at h
        split at h <;> first | (split at h <;> first | (cases h; trivial) | cases h) | (cases h; trivial) | (cases h; exact good_s) | cases h
      · split at h
        · unfold tC at h
          split at h <;> (split at h <;> first | (cases h; trivial) | cases h)
        · cases h
theorem e_refs_mono {P P' : EId → Prop} {c : ACell} (h : e_refs P c) (hp : ∀ r, P r → P' r) : e_refs P' c := by
  match c, h with
  | Sum.inl _, _ => trivial
  | Sum.inr (Sum.inl _), _ => trivial
  | Sum.inr (Sum.inr (Sum.inl (_, _, f))), h => exact fun j r e => hp r (h j r e)
  | Sum.inr (Sum.inr (Sum.inr (_, f))), h => exact fun k r e => hp r (h k r e)
/-- make's end: a temp array, and perhaps parts without a term -/
def mkQ (V : XV) (g : AH) (m0 : Nat) (K : Int → XS → Prop) : AO → AH → Prop := fun o h => ∃ n s g', o = Sum.inl (some (aI n)) ∧ h = xh V s g' ∧ (∀ i, g i ≠ none → g' i = g i) ∧ (∀ i, g' i ≠ none → g i ≠ none ∨ i.1 = 1 ∨ ∃ m, i = bI V 14 m ∧ (s.1.1 41).toNat ≤ m ∧ m0 ≤ m) ∧ K n s
theorem mkQ_in {V : XV} {g g' : AH} {m0 : Nat} {K : Int → XS → Prop} {n : Int} {s : XS} (h1 : ∀ i, g i ≠ none → g' i = g i) (h2 : ∀ i, g' i ≠ none → g i ≠ none ∨ i.1 = 1 ∨ ∃ m, i = bI V 14 m ∧ (s.1.1 41).toNat ≤ m ∧ m0 ≤ m) (H : K n s) : mkQ V g m0 K (Sum.inl (some (aI n))) (xh V s g') := ⟨n, s, g', rfl, rfl, h1, h2, H⟩
theorem b1_ne {V : XV} {reg k : Nat} {i : EId} (h : i.1 = 1) : (bI V reg k : EId) ≠ i := fun e => by
  have := congrArg (fun i : EId => i.1) e
  simp at this
  omega
theorem b1_ne' {V : XV} {reg k : Nat} {i : EId} (h : i.1 = 1) : i ≠ (bI V reg k : EId) := fun e => b1_ne h e.symm
theorem mk_g1 {V : XV} {g : AH} {L m : Nat} {c c' : ACell} (hg : xf L g) (hr : xfree V g) : ∀ i, g i ≠ none → hup (hup g (1, L, 0) c) (bI V 14 m) c' i = g i := fun i hi => by
  rw [hup_ne (fun e => hi (by rw [e]; exact hr.rfr _ _ (by decide))), hup_ne (fun e => hi (by rw [e]; exact hg _ rfl (Nat.le_refl _)))]
theorem mk_g2 {V : XV} {s : XS} {g : AH} {L m m0 : Nat} {c c' : ACell} (h : (s.1.1 41).toNat ≤ m) (hm : m0 ≤ m) : ∀ i, hup (hup g (1, L, 0) c) (bI V 14 m) c' i ≠ none → g i ≠ none ∨ i.1 = 1 ∨ ∃ m, i = bI V 14 m ∧ (s.1.1 41).toNat ≤ m ∧ m0 ≤ m := fun i hi => by
  by_cases e : i = bI V 14 m
  · exact Or.inr (Or.inr ⟨m, e, h, hm⟩)
  · rw [hup_ne e] at hi
    by_cases e2 : i = (1, L, 0)
    · exact Or.inr (Or.inl (by rw [e2]))
    · rw [hup_ne e2] at hi
      exact Or.inl hi
theorem mk_g3 {g : AH} {L : Nat} {c : ACell} (hg : xf L g) : ∀ i, g i ≠ none → hup g (1, L, 0) c i = g i := fun i hi => hup_ne (fun e => hi (by rw [e]; exact hg _ rfl (Nat.le_refl _)))
theorem mk_g4 {V : XV} {s : XS} {g : AH} {L m0 : Nat} {c : ACell} : ∀ i, hup g (1, L, 0) c i ≠ none → g i ≠ none ∨ i.1 = 1 ∨ ∃ m, i = bI V 14 m ∧ (s.1.1 41).toNat ≤ m ∧ m0 ≤ m := fun i hi => by
  by_cases e2 : i = (1, L, 0)
  · exact Or.inr (Or.inl (by rw [e2]))
  · rw [hup_ne e2] at hi
    exact Or.inl hi
theorem mkQ_x {V : XV} {s0 : XS} {g : AH} {K : Int → XS → Prop} (hr : xfree V g) : ∀ o h, mkQ V g (s0.1.1 41).toNat K o h → (∃ o' h1, o = Sum.inl o' ∧ e_plain o' ∧ (∀ i c, h1 i = some c → h i = some c) ∧ ((∀ i, xh V s0 g i ≠ none → h i ≠ none) → ∀ i, xh V s0 g i ≠ none → h1 i ≠ none) ∧ (∀ i c, h1 i = some c → xh V s0 g i = some c ∨ e_refs (fun r => h r ≠ none → h1 r ≠ none) c) ∧ xQi V g K o h1) := by
  rintro o h ⟨n, s, g', rfl, rfl, g1, g2, hK⟩
  refine ⟨_, xh V s g, rfl, trivial, fun i c hi => ?_, fun hd i hi => ?_, fun i c hi => ?_, n, s, rfl, rfl, hK⟩
  · unfold xh at hi ⊢
    cases hc : xC V s i with
    | some c' => rw [hc] at hi; exact hi
    | none =>
      rw [hc] at hi
      show g' i = some c
      rw [g1 i (by rw [show g i = some c from hi]; exact fun q => by cases q)]
      exact hi
  · have h1 := hd i hi
    unfold xh at h1 ⊢
    cases hc : xC V s i with
    | some c => exact fun q => by cases q
    | none =>
      rw [hc] at h1
      rcases g2 i h1 with h | h | ⟨m, rfl, h, hm⟩
      · exact h
      · have : xh V s0 g i = g i := xh_g (xC_1 h)
        rw [this] at hi
        exact hi
      · exfalso
        refine hi ?_
        cases hc0 : bC V s0.1 14 m with
        | none => exact (xh_g ((xC_b (by decide)).trans hc0)).trans (hr.rfr _ _ (by decide))
        | some c0 =>
          have : m < (s0.1.1 41).toNat := by
            cases Nat.lt_or_ge m (s0.1.1 41).toNat with
            | inl h => exact h
            | inr h => rw [bn_14 h] at hc0; cases hc0
          omega
  · cases hc : xC V s i with
    | some c' =>
      have e : c' = c := Option.some.inj ((xh_of hc).symm.trans hi)
      subst e
      refine Or.inr (e_refs_mono (xC_good hc) fun r hg h1 => ?_)
      unfold xh at h1 ⊢
      cases hcr : xC V s r with
      | some c => exact fun q => by cases q
      | none =>
        rw [hcr] at h1
        rcases g2 r h1 with h | h | ⟨m, rfl, h, hm⟩
        · exact h
        · rcases hg with hg | hg | hg <;> omega
        · rcases hg with hg | hg | ⟨hg, hg2⟩
          · exact absurd hg (by show ¬ 10 + V 9 = 0; omega)
          · exact absurd hg (by show ¬ 10 + V 9 = 9; omega)
          · rcases hg2 with hg2 | hg2
            · exact absurd rfl hg2
            · have : m < (s.1.1 41).toNat := hg2
              omega
    | none =>
      have hg : g i = some c := (xh_g hc).symm.trans hi
      refine Or.inl ?_
      cases hc0 : xC V s0 i with
      | none => exact (xh_g hc0).trans hg
      | some c' => rw [hr i (xC_reg (by rw [hc0]; exact fun q => by cases q))] at hg; cases hg
section BX
variable {M : EM} {d kc ks : Nat} {Q : AO → AH → Prop} {pc idx cnt : Nat} {lv : List (Nat × AV)} {st rest : List AV} {V : XV} {s : XS} {g G : AH} {m : Nat} {y : EId} {a b n : Int} {p : Int → Int}
theorem bx_hup {reg k : Nat} {c : ACell} (h : bC V s.1 reg k = none) (hr : reg < 20 := by decide) : hup (xh V s G) (bI V reg k) c = xh V s (hup G (bI V reg k) c) := bk_hup (bkH_x (V := V) (y := s.2)) hr (r := s.1) h
theorem bx_newP (hd : decode M.2.1 pc = .ok (.newarray .int, 2)) (h0 : bC V s.1 14 m = none) (hG : G (bI V 14 m) = none) (hn : 0 ≤ n ∧ n ≤ 10000) (b1 : 1 ≤ kc) (b2 : n.toNat ≤ ks) (k : EW M d (kc - 1) (ks - n.toNat) Q (pc + 2) lv (aR (some (bI V 14 m)) :: st) (xh V s (hup G (bI V 14 m) (kI 0 n.toNat (fun _ => 0))))) : EW M d kc ks Q pc lv (aI n :: st) (xh V s G) := bk_newP (bkH_x (V := V) (y := s.2)) (r := s.1) hd h0 hG hn b1 b2 k
theorem bx_new9 (hd : decode M.2.1 pc = .ok (.new idx, 3)) (w1 : Cond.classLink M.1.cls idx RX11 ∈ lw_all) (h0 : bC V s.1 11 m = none) (hG : G (bI V 11 m) = none) (b1 : 1 ≤ kc) (b2 : 4 ≤ ks) (k : EW M d (kc - 1) (ks - 4) Q (pc + 3) lv (aR (some (bI V 11 m)) :: st) (xh V s (hup G (bI V 11 m) (kO 9 vTm)))) : EW M d kc ks Q pc lv st (xh V s G) := bk_new9 (bkH_x (V := V) (y := s.2)) (r := s.1) hd w1 h0 hG b1 b2 k
theorem bx_i9b (hd : decode M.2.1 pc = .ok (.invokespecial idx, 3)) (w1 : Cond.methodLink M.1.cls idx yX11_init_2 ∈ lw_all) (h0 : bC V s.1 11 m = none) (hG : G (bI V 11 m) = some (kO 9 vTm)) (h8 : (rest.map fun v => if e_is2 v then 2 else 1).sum ≤ 8) (k : EW M (d + 3) kc ks Q (pc + 3) lv rest (xh V s (hup G (bI V 11 m) (vF9 V 0 b y)))) : EW M (d + 3) kc ks Q pc lv (aR (some y) :: aI b :: aR (some (bI V 10 b.toNat)) :: aR (some (bI V 11 m)) :: rest) (xh V s G) := bk_i9b (bkH_x (V := V) (y := s.2)) (r := s.1) hd w1 h0 hG h8 k
theorem bx_add1 (hd : decode M.2.1 pc = .ok (.invokeinterface idx cnt, 5)) (w1 : Cond.methodLink M.1.cls idx ⟨"java/util/List", "add", "(Ljava/lang/Object;)Z"⟩ ∈ lw_all) (hc : bkc 1 s.1) (hm : bkm 1 s.1) (hr : rfr V g) (h8 : (rest.map fun v => if e_is2 v then 2 else 1).sum ≤ 8) (b1 : 1 ≤ kc) (b2 : al_N (xcap 1 (s.1.1 51).toNat) ≤ ks) (k : ∀ s1, s1 = (yf1 s.1 a b n p, s.2) → EW M (d + 7) (kc - 1) (ks - al_N (xcap 1 (s.1.1 51).toNat)) Q (pc + 5) lv (aI 1 :: rest) (xh V s1 g)) : EW M (d + 7) kc ks Q pc lv (aR (some (bI V 11 (s.1.1 31).toNat)) :: aR (some (bI V 2 1)) :: rest) (xh V s (hup (hup g (bI V 14 (s.1.1 31).toNat) (kI 0 n.toNat p)) (bI V 11 (s.1.1 31).toNat) (vF9 V a b (bI V 14 (s.1.1 31).toNat)))) := bk_add1 (bkH_x (V := V) (y := s.2)) (r := s.1) hd w1 hc hm hr h8 b1 b2 (fun s1 e => k (s1, s.2) (by rw [e]))
end BX
abbrev mm_X1_make : EM := (yX1_make, cX1_make, 9, (Option.some .int), [])
theorem me_X1_make : e_mth mm_X1_make 4 := ⟨rfl, q1354, q108, by decide +kernel, by decide⟩
def B_X1_make_76 (X76 : Int → Int → (Int → Int) → (Int → Int) → Int → Nat → Nat → XS → Prop) (K : Int → XS → Prop) (x1 : Int) (x5 : Int) (x6 : (Int → Int)) (x7 : (Int → Int)) (x8 : Int) (kc ks : Nat) (m0 : Nat) (s0 : XS) : Prop :=
  (((((s0.1.2 31 x1)).toNat : Nat) : Int) < 2147483648 ∧ ((((((s0.1.2 31 x1)).toNat : Nat) : Int) ≤ x8 → (((((s0.1.2 31 x1)).toNat : Nat) : Int) < 2147483648 ∧ (C_X1_isTerm ((s0.1.2 31 x1)).toNat x7 s0 (fun r3 => ((r3 = 0 → (C_X1_refused 1 s0 (fun r47 s48 => ((s48.1.1 41 ≤ s0.1.1 41 ∧ m0 ≤ (s0.1.1 41).toNat) ∧ K r47 s48)))) ∧ (¬ r3 = 0 → (C_X1_terms s0 (fun r8 => ((r8 = 24 → (C_X1_refused 3 s0 (fun r42 s43 => ((s43.1.1 41 ≤ s0.1.1 41 ∧ m0 ≤ (s0.1.1 41).toNat) ∧ K r42 s43)))) ∧ (¬ r8 = 24 → (C_X1_acts 2 s0 (fun s14 => (((s14.1.1 41 = s14.1.1 31 ∧ s14.1.1 41 = s0.1.1 41) ∧ 1 ≤ kc ∧ 4 ≤ ks) ∧ ((s14.1.1 41 = s14.1.1 31 ∧ x5 = x1) ∧ (((bkc 1 s14.1 ∧ bkm 1 s14.1) ∧ 1 ≤ (kc - 1) ∧ al_N (xcap 1 (s14.1.1 51).toNat) ≤ (ks - 4)) ∧ ∀ s20 : XS, s20 = (yf1 s14.1 0 x1 (s0.1.2 31 x1) x7, s14.2) → (∃ mc26c mc26s, mc26c ≤ ((kc - 1) - 1) ∧ mc26s ≤ ((ks - 4) - al_N (xcap 1 (s14.1.1 51).toNat)) ∧ C_X4_comes_N mc26c mc26s s20 (fun s23 => (C_X1_lays s23 (fun s29 => (C_X1_terms s29 (fun r32 => ((inI (r32 - 1)) ∧ (C_X1_fine (r32 - 1) s29 (fun r37 s38 => K r37 s38)))))))))))))))))))))))) ∧ (¬ ((((s0.1.2 31 x1)).toNat : Nat) : Int) ≤ x8 → ((0 ≤ x8 ∧ x8 < ((3 : Nat) : Int)) ∧ ((0 ≤ x8 ∧ x8 < ((((s0.1.2 31 x1)).toNat : Nat) : Int)) ∧ (inI (x8 + 1) ∧ X76 x1 x5 x6 (iup x7 x8 (x6 x8)) (x8 + 1) kc ks s0))))))
def B_X1_make_E (X76 : Int → Int → (Int → Int) → (Int → Int) → Int → Nat → Nat → XS → Prop) (K : Int → XS → Prop) (a : Int) (b : Int) (c : Int) (e : Int) (kc ks : Nat) (m0 : Nat) (s0 : XS) : Prop :=
  ((inI ((s0.1.1 30) - 1)) ∧ (C_X1_isIn a 0 ((s0.1.1 30) - 1) (fun r2 => ((r2 = 0 → (C_X1_refused 1 s0 (fun r11 s12 => K r11 s12))) ∧ (¬ r2 = 0 → (((0 ≤ a ∧ a < s0.1.1 30) ∧ xok s0 0) ∧ ((0 ≤ a ∧ a < s0.1.1 40) ∧ ((1 ≤ kc ∧ 3 ≤ ks) ∧ ((0 ≤ a ∧ a < s0.1.1 40) ∧ (((0 ≤ (s0.1.2 31 a) ∧ (s0.1.2 31 a) ≤ 10000) ∧ 1 ≤ (kc - 1) ∧ ((s0.1.2 31 a)).toNat ≤ (ks - 3)) ∧ X76 a a (iup (iup (iup (fun _ => 0) 0 b) 1 c) 2 e) (fun _ => 0) 0 ((kc - 1) - 1) ((ks - 3) - ((s0.1.2 31 a)).toNat) s0))))))))))
def W_X1_make_76 (d : Nat) (V : XV) (g : AH) (m0 : Nat) (K : Int → XS → Prop) (x1 : Int) (x5 : Int) (x6 : (Int → Int)) (x7 : (Int → Int)) (x8 : Int) (kc ks : Nat) (s0 : XS) : Prop := EW mm_X1_make (d + 46) kc ks (mkQ V g m0 K) 76 [(0, aR (some xT)), (1, aI x1), (5, aR (some (bI V 10 (x5).toNat))), (6, aR (some (1, 46, 0))), (7, aR (some (bI V 14 (s0.1.1 41).toNat))), (8, aI x8)] [] (xh V s0 (hup (hup g (1, 46, 0) (kI 0 3 x6)) (bI V 14 (s0.1.1 41).toNat) (kI 0 ((s0.1.2 31 x1)).toNat x7)))
set_option maxHeartbeats 4000000 in
theorem T_X1_make_76 (d : Nat) (V : XV) (g : AH) (m0 : Nat) (hg : xf 46 g) (hr : xfree V g) (K : Int → XS → Prop) (x1 : Int) (x5 : Int) (x6 : (Int → Int)) (x7 : (Int → Int)) (x8 : Int) (kc ks : Nat) (s0 : XS) (H : B_X1_make_76 (W_X1_make_76 d V g m0 K) K x1 x5 x6 x7 x8 kc ks m0 s0) : EW mm_X1_make (d + 46) kc ks (mkQ V g m0 K) 76 [(0, aR (some xT)), (1, aI x1), (5, aR (some (bI V 10 (x5).toNat))), (6, aR (some (1, 46, 0))), (7, aR (some (bI V 14 (s0.1.1 41).toNat))), (8, aI x8)] [] (xh V s0 (hup (hup g (1, 46, 0) (kI 0 3 x6)) (bI V 14 (s0.1.1 41).toNat) (kI 0 ((s0.1.2 31 x1)).toNat x7))) := by
  refine ew_iload dX1_make_76 lm5 ?_
  refine ew_aload dX1_make_78 lm4 ?_
  obtain ⟨v1, H⟩ := H
  refine ew_alen dX1_make_80 (bk_at bkH_x (by decide) (bn_14 (Nat.le_refl _)) (hup_self _ _ _)) (Or.inl ⟨_, _, rfl⟩) v1 ?_
  refine ew_icmp_ge (tgt := 100) dX1_make_81 (by decide) (fun c2 => ?_) (fun c2 => ?_)
  · replace H := H.1 c2
    refine ew_aload_n dX1_make_100 rfl lm0 ?_
    refine ew_aload dX1_make_101 lm4 ?_
    obtain ⟨v6, H⟩ := H
    refine ew_callV (d := d + 45) (as := [aR (some (bI V 14 (s0.1.1 41).toNat))]) rfl dX1_make_103 me_X1_isTerm rfl (ci := 0) rfl rfl xh_x (Or.inl q1081) q1083 qs29 (Nat.le_of_ble_eq_true rfl) (Nat.zero_le _) (Nat.zero_le _) (S_X1_isTerm (d := d + 43) (bk_at bkH_x (by decide) (bn_14 (Nat.le_refl _)) (hup_self _ _ _)) v6 H) (fun o h' hq4 _ => ?_) (fun E i h' q _ => (cQ_no q).elim)
    obtain ⟨r3, E5, rfl, H⟩ := hq4
    cases E5
    refine ew_if_ne (tgt := 115) dX1_make_106 (by decide) (fun c7 => ?_) (fun c7 => ?_)
    · replace H := H.2 c7
      refine ew_aload_n dX1_make_115 rfl lm0 ?_
      refine ew_callV (d := d + 45) (as := []) rfl dX1_make_116 me_X1_terms rfl (ci := 0) rfl rfl xh_x (Or.inl q1048) q1050 qs25 (Nat.le_of_ble_eq_true rfl) (Nat.zero_le _) (Nat.zero_le _) (S_X1_terms (d := d + 44) H) (fun o h' hq10 _ => ?_) (fun E i h' q _ => (cQ_no q).elim)
      obtain ⟨r8, E11, rfl, H⟩ := hq10
      cases E11
      refine ew_bipush dX1_make_119 (inI_of rfl) (by decide) ?_
      refine ew_icmp_ne (tgt := 130) dX1_make_121 (by decide) (fun c12 => ?_) (fun c12 => ?_)
      · replace H := H.2 c12
        refine ew_aload_n dX1_make_130 rfl lm0 ?_
        refine ew_iconst dX1_make_131 (inI_of rfl) ?_
        refine ew_callV (d := d + 45) (as := [aI 2]) rfl dX1_make_132 me_X1_acts rfl (ci := 0) rfl rfl xh_x (Or.inl q1340) q1342 qs52 (Nat.le_of_ble_eq_true rfl) (Nat.zero_le _) (Nat.zero_le _) (S_X1_acts (d := d + 44) H) (fun o h' hq15 _ => ?_) (fun E i h' q _ => (xQv_no q).elim)
        obtain ⟨s14, E16, rfl, H⟩ := hq15
        cases E16
        refine ew_aload_n dX1_make_135 rfl lm0 ?_
        refine xw_get (v := aR (some (bI V 1 0))) dX1_make_136 (e_fl.a q333) xf_5 rfl ?_
        refine xw_book dX1_make_139 (e_fl.c q191) bf_1 ?_
        obtain ⟨v17, H⟩ := H
        refine bx_new9 dX1_make_142 q1072 (bn_1 (Int.toNat_le_toNat (Int.le_of_eq v17.1.1))) ((hup_ne (bI_ne (by omega))).trans ((hup_ne (b1_ne rfl)).trans (hr.rfr _ _ (by decide)))) v17.2.1 v17.2.2 ?_
        rw [← v17.1.2]
        refine ew_dup dX1_make_145 rfl ?_
        refine ew_aload dX1_make_146 lm2 ?_
        refine ew_iload_n dX1_make_148 rfl lm1 ?_
        refine ew_aload dX1_make_149 lm4 ?_
        obtain ⟨v18, H⟩ := H
        rw [v18.1, v18.2]
        refine bx_i9b (d := d + 43) dX1_make_151 q1355 (bn_1 (Int.toNat_le_toNat (Int.le_of_eq v18.1))) (hup_self _ _ _) (Nat.le_of_ble_eq_true rfl) ?_
        rw [hup_hup]
        obtain ⟨v19, H⟩ := H
        refine bx_add1 (d := d + 39) dX1_make_154 q1346 v19.1.1 v19.1.2 (fun reg k hk => (hup_ne (b1_ne rfl)).trans (hr.rfr reg k hk)) (Nat.le_of_ble_eq_true rfl) v19.2.1 v19.2.2 (fun s20 e21 => ?_)
        replace H := H s20 e21
        refine ew_pop dX1_make_159 rfl ?_
        refine ew_aload_n dX1_make_160 rfl lm0 ?_
        refine xw_get (v := aR (some (sI V 4 99))) dX1_make_161 (e_fl.a q334) xf_6 rfl ?_
        obtain ⟨mc26c, mc26s, hm27c, hm27s, H⟩ := H
        refine ew_callY (x := ⟨"ReasonCloser$Reasons", "comes", "()V"⟩) (d := d + 45) (as := []) rfl dX1_make_164 me_X4_comes rfl (by decide) rfl q952 q953 (ysel5_4 (P := fun c => Cond.selects c _ _ ∈ lw_all) q955) q956 (Or.inl q954) (by decide) (Nat.le_of_ble_eq_true rfl) hm27c hm27s (S_X4_comes_N (d := d + 0) (ht_of (hr.hup rfl)) H) (fun o h' hq24 _ => ?_) (fun E i h' q _ => (xQv_no q).elim)
        obtain ⟨s23, E25, rfl, H⟩ := hq24
        cases E25
        refine ew_aload_n dX1_make_167 rfl lm0 ?_
        refine ew_callV (d := d + 45) (as := []) rfl dX1_make_168 me_X1_lays rfl (ci := 0) rfl rfl xh_x (Or.inl q1359) q1361 qs53 (Nat.le_of_ble_eq_true rfl) (Nat.zero_le _) (Nat.zero_le _) (S_X1_lays (d := d + 38) H) (fun o h' hq30 _ => ?_) (fun E i h' q _ => (xQv_no q).elim)
        obtain ⟨s29, E31, rfl, H⟩ := hq30
        cases E31
        refine ew_aload_n dX1_make_171 rfl lm0 ?_
        refine ew_aload_n dX1_make_172 rfl lm0 ?_
        refine ew_callV (d := d + 45) (as := []) rfl dX1_make_173 me_X1_terms rfl (ci := 0) rfl rfl xh_x (Or.inl q1048) q1050 qs25 (Nat.le_of_ble_eq_true rfl) (Nat.zero_le _) (Nat.zero_le _) (S_X1_terms (d := d + 44) H) (fun o h' hq34 _ => ?_) (fun E i h' q _ => (cQ_no q).elim)
        obtain ⟨r32, E35, rfl, H⟩ := hq34
        cases E35
        refine ew_iconst dX1_make_176 (inI_of rfl) ?_
        obtain ⟨v36, H⟩ := H
        refine ew_isub dX1_make_177 v36 ?_
        refine ew_callV (d := d + 45) (as := [aI (r32 - 1)]) rfl dX1_make_178 me_X1_fine rfl (ci := 0) rfl rfl xh_x (Or.inl q1032) q1034 qs24 (Nat.le_of_ble_eq_true rfl) (Nat.zero_le _) (Nat.zero_le _) (S_X1_fine (d := d + 45) H) (fun o h' hq39 _ => ?_) (fun E i h' q _ => (xQi_no q).elim)
        obtain ⟨r37, s38, E40, rfl, H⟩ := hq39
        cases E40
        exact ew_ret (o := some (aI r37)) rfl (mkQ_in (mk_g3 hg) (mk_g4) H) ⟨dX1_make_181, .int, rfl, Or.inl rfl, rfl⟩
      · replace H := H.1 c12
        refine ew_aload_n dX1_make_124 rfl lm0 ?_
        refine ew_iconst dX1_make_125 (inI_of rfl) ?_
        refine ew_callV (d := d + 45) (as := [aI 3]) rfl dX1_make_126 me_X1_refused rfl (ci := 0) rfl rfl xh_x (Or.inl q406) q408 qs1 (Nat.le_of_ble_eq_true rfl) (Nat.zero_le _) (Nat.zero_le _) (S_X1_refused (d := d + 45) H) (fun o h' hq44 _ => ?_) (fun E i h' q _ => (xQi_no q).elim)
        obtain ⟨r42, s43, E45, rfl, H⟩ := hq44
        cases E45
        obtain ⟨v46, H⟩ := H
        exact ew_ret (o := some (aI r42)) rfl (mkQ_in (mk_g1 hg hr) (mk_g2 (Int.toNat_le_toNat v46.1) v46.2) H) ⟨dX1_make_129, .int, rfl, Or.inl rfl, rfl⟩
    · replace H := H.1 c7
      refine ew_aload_n dX1_make_109 rfl lm0 ?_
      refine ew_iconst dX1_make_110 (inI_of rfl) ?_
      refine ew_callV (d := d + 45) (as := [aI 1]) rfl dX1_make_111 me_X1_refused rfl (ci := 0) rfl rfl xh_x (Or.inl q406) q408 qs1 (Nat.le_of_ble_eq_true rfl) (Nat.zero_le _) (Nat.zero_le _) (S_X1_refused (d := d + 45) H) (fun o h' hq49 _ => ?_) (fun E i h' q _ => (xQi_no q).elim)
      obtain ⟨r47, s48, E50, rfl, H⟩ := hq49
      cases E50
      obtain ⟨v51, H⟩ := H
      exact ew_ret (o := some (aI r47)) rfl (mkQ_in (mk_g1 hg hr) (mk_g2 (Int.toNat_le_toNat v51.1) v51.2) H) ⟨dX1_make_114, .int, rfl, Or.inl rfl, rfl⟩
  · replace H := H.2 c2
    refine ew_aload dX1_make_84 lm4 ?_
    refine ew_iload dX1_make_86 lm5 ?_
    refine ew_aload dX1_make_88 lm3 ?_
    refine ew_iload dX1_make_90 lm5 ?_
    obtain ⟨v52, H⟩ := H
    refine ew_iald dX1_make_92 ((xh_g (xC_1 rfl)).trans ((hup_ne (b1_ne' rfl)).trans (hup_self _ _ _))) v52.1 v52.2 ?_
    obtain ⟨v53, H⟩ := H
    refine ew_iast dX1_make_93 (bk_at bkH_x (by decide) (bn_14 (Nat.le_refl _)) (hup_self _ _ _)) v53.1 v53.2 ?_
    rw [bx_hup (bn_14 (Nat.le_refl _)), hup_hup]
    obtain ⟨v54, H⟩ := H
    refine ew_iinc dX1_make_94 lm5 (by decide) v54 (lv' := [(8, aI (x8 + 1)), (0, aR (some xT)), (1, aI x1), (5, aR (some (bI V 10 (x5).toNat))), (6, aR (some (1, 46, 0))), (7, aR (some (bI V 14 (s0.1.1 41).toNat)))]) rfl ?_
    refine ew_sub (List.forall_mem_cons.mpr ⟨lm1, (List.forall_mem_cons.mpr ⟨lm2, (List.forall_mem_cons.mpr ⟨lm3, (List.forall_mem_cons.mpr ⟨lm4, (List.forall_mem_cons.mpr ⟨lm5, (List.forall_mem_cons.mpr ⟨lm0, e_nm⟩)⟩)⟩)⟩)⟩)⟩) ?_
    refine ew_goto (tgt := 76) dX1_make_97 (by decide) ?_
    exact ew_sub (List.forall_mem_cons.mpr ⟨lm0, (List.forall_mem_cons.mpr ⟨lm1, (List.forall_mem_cons.mpr ⟨lm2, (List.forall_mem_cons.mpr ⟨lm3, (List.forall_mem_cons.mpr ⟨lm4, (List.forall_mem_cons.mpr ⟨lm5, e_nm⟩)⟩)⟩)⟩)⟩)⟩) H
set_option maxHeartbeats 4000000 in
theorem T_X1_make_E (d : Nat) (V : XV) (g : AH) (m0 : Nat) (hg : xf 46 g) (hr : xfree V g) (K : Int → XS → Prop) (a : Int) (b : Int) (c : Int) (e : Int) (kc ks : Nat) (s0 : XS) (H : B_X1_make_E (W_X1_make_76 d V g m0 K) K a b c e kc ks m0 s0) : EW mm_X1_make (d + 46) kc ks (mkQ V g m0 K) 0 [(0, aR (some xT)), (1, aI a), (2, aI b), (3, aI c), (4, aI e)] [] (xh V s0 g) := by
  refine ew_iload_n dX1_make_0 rfl lm1 ?_
  refine ew_iconst dX1_make_1 (inI_of rfl) ?_
  refine ew_aload_n dX1_make_2 rfl lm0 ?_
  refine xw_get (v := aR (some (bI V 1 0))) dX1_make_3 (e_fl.a q333) xf_5 rfl ?_
  refine xw_book dX1_make_6 (e_fl.c q188) bf_0 ?_
  refine lw_size (d := d + 45) (j := 0) dX1_make_9 (by decide) q1030 (Nat.le_of_ble_eq_true rfl) ?_
  refine ew_iconst dX1_make_14 (inI_of rfl) ?_
  obtain ⟨v1, H⟩ := H
  refine ew_isub dX1_make_15 v1 ?_
  refine ew_callS (d := d + 45) (as := [aI a, aI 0, aI ((s0.1.1 30) - 1)]) rfl dX1_make_16 me_X1_isIn rfl (Or.inl q403) q404 (Nat.le_of_ble_eq_true rfl) (Nat.zero_le _) (Nat.zero_le _) (S_X1_isIn (d := d + 45) H) (fun o h' hq3 _ => ?_) (fun E i h' q _ => (cQ_no q).elim)
  obtain ⟨r2, E4, rfl, H⟩ := hq3
  cases E4
  refine ew_if_ne (tgt := 28) dX1_make_19 (by decide) (fun c5 => ?_) (fun c5 => ?_)
  · replace H := H.2 c5
    refine ew_aload_n dX1_make_28 rfl lm0 ?_
    refine xw_get (v := aR (some (bI V 1 0))) dX1_make_29 (e_fl.a q333) xf_5 rfl ?_
    refine xw_book dX1_make_32 (e_fl.c q188) bf_0 ?_
    refine ew_iload_n dX1_make_35 rfl lm1 ?_
    obtain ⟨v6, H⟩ := H
    refine lw_g0 (d := d + 43) dX1_make_36 q1021 (Nat.le_of_ble_eq_true rfl) v6.1 v6.2 ?_
    obtain ⟨v7, H⟩ := H
    refine cf_cast (f := a) dX1_make_41 q1071 v7 ?_
    refine ew_astore dX1_make_44 (by decide) (lv' := [(5, aR (some (bI V 10 (a).toNat))), (0, aR (some xT)), (1, aI a), (2, aI b), (3, aI c), (4, aI e)]) rfl ?_
    refine ew_sub (List.forall_mem_cons.mpr ⟨lm1, (List.forall_mem_cons.mpr ⟨lm2, (List.forall_mem_cons.mpr ⟨lm3, (List.forall_mem_cons.mpr ⟨lm4, (List.forall_mem_cons.mpr ⟨lm5, (List.forall_mem_cons.mpr ⟨lm0, e_nm⟩)⟩)⟩)⟩)⟩)⟩) ?_
    refine ew_iconst dX1_make_46 (inI_of rfl) ?_
    obtain ⟨v8, H⟩ := H
    refine ew_newIB (t := 0) (N := 3) (i := (1, 46, 0)) dX1_make_47 rfl (by decide) q302 rfl (by decide) ((xh_g (xC_1 rfl)).trans (hg _ rfl (Nat.le_refl _))) (by decide) v8.1 v8.2 ?_
    rw [xh_upg (xC_1 rfl)]
    refine ew_dup dX1_make_49 rfl ?_
    refine ew_iconst dX1_make_50 (inI_of rfl) ?_
    refine ew_iload_n dX1_make_51 rfl lm2 ?_
    refine ew_iast dX1_make_52 ((xh_g (xC_1 rfl)).trans (hup_self _ _ _)) (by decide) (by decide) ?_
    rw [xh_upg (xC_1 rfl), hup_hup]
    refine ew_dup dX1_make_53 rfl ?_
    refine ew_iconst dX1_make_54 (inI_of rfl) ?_
    refine ew_iload_n dX1_make_55 rfl lm3 ?_
    refine ew_iast dX1_make_56 ((xh_g (xC_1 rfl)).trans (hup_self _ _ _)) (by decide) (by decide) ?_
    rw [xh_upg (xC_1 rfl), hup_hup]
    refine ew_dup dX1_make_57 rfl ?_
    refine ew_iconst dX1_make_58 (inI_of rfl) ?_
    refine ew_iload dX1_make_59 lm4 ?_
    refine ew_iast dX1_make_61 ((xh_g (xC_1 rfl)).trans (hup_self _ _ _)) (by decide) (by decide) ?_
    rw [xh_upg (xC_1 rfl), hup_hup]
    refine ew_astore dX1_make_62 (by decide) (lv' := [(6, aR (some (1, 46, 0))), (0, aR (some xT)), (1, aI a), (2, aI b), (3, aI c), (4, aI e), (5, aR (some (bI V 10 (a).toNat)))]) rfl ?_
    refine ew_sub (List.forall_mem_cons.mpr ⟨lm1, (List.forall_mem_cons.mpr ⟨lm2, (List.forall_mem_cons.mpr ⟨lm3, (List.forall_mem_cons.mpr ⟨lm4, (List.forall_mem_cons.mpr ⟨lm5, (List.forall_mem_cons.mpr ⟨lm6, (List.forall_mem_cons.mpr ⟨lm0, e_nm⟩)⟩)⟩)⟩)⟩)⟩)⟩) ?_
    refine ew_aload dX1_make_64 lm5 ?_
    obtain ⟨v9, H⟩ := H
    refine gf_1 (f := a) dX1_make_66 (e_fl.c q719) ff_1 v9 ?_
    obtain ⟨v10, H⟩ := H
    refine bx_newP dX1_make_69 (bn_14 (Nat.le_refl _)) ((hup_ne (b1_ne rfl)).trans (hr.rfr _ _ (by decide))) v10.1 v10.2.1 v10.2.2 ?_
    refine ew_astore dX1_make_71 (by decide) (lv' := [(7, aR (some (bI V 14 (s0.1.1 41).toNat))), (0, aR (some xT)), (1, aI a), (2, aI b), (3, aI c), (4, aI e), (5, aR (some (bI V 10 (a).toNat))), (6, aR (some (1, 46, 0)))]) rfl ?_
    refine ew_sub (List.forall_mem_cons.mpr ⟨lm1, (List.forall_mem_cons.mpr ⟨lm2, (List.forall_mem_cons.mpr ⟨lm3, (List.forall_mem_cons.mpr ⟨lm4, (List.forall_mem_cons.mpr ⟨lm5, (List.forall_mem_cons.mpr ⟨lm6, (List.forall_mem_cons.mpr ⟨lm7, (List.forall_mem_cons.mpr ⟨lm0, e_nm⟩)⟩)⟩)⟩)⟩)⟩)⟩)⟩) ?_
    refine ew_iconst dX1_make_73 (inI_of rfl) ?_
    refine ew_istore dX1_make_74 (by decide) (lv' := [(8, aI 0), (0, aR (some xT)), (1, aI a), (2, aI b), (3, aI c), (4, aI e), (5, aR (some (bI V 10 (a).toNat))), (6, aR (some (1, 46, 0))), (7, aR (some (bI V 14 (s0.1.1 41).toNat)))]) rfl ?_
    refine ew_sub (List.forall_mem_cons.mpr ⟨lm1, (List.forall_mem_cons.mpr ⟨lm2, (List.forall_mem_cons.mpr ⟨lm3, (List.forall_mem_cons.mpr ⟨lm4, (List.forall_mem_cons.mpr ⟨lm5, (List.forall_mem_cons.mpr ⟨lm6, (List.forall_mem_cons.mpr ⟨lm7, (List.forall_mem_cons.mpr ⟨lm8, (List.forall_mem_cons.mpr ⟨lm0, e_nm⟩)⟩)⟩)⟩)⟩)⟩)⟩)⟩)⟩) ?_
    exact ew_sub (List.forall_mem_cons.mpr ⟨lm0, (List.forall_mem_cons.mpr ⟨lm1, (List.forall_mem_cons.mpr ⟨lm5, (List.forall_mem_cons.mpr ⟨lm6, (List.forall_mem_cons.mpr ⟨lm7, (List.forall_mem_cons.mpr ⟨lm8, e_nm⟩)⟩)⟩)⟩)⟩)⟩) H
  · replace H := H.1 c5
    refine ew_aload_n dX1_make_22 rfl lm0 ?_
    refine ew_iconst dX1_make_23 (inI_of rfl) ?_
    refine ew_callV (d := d + 45) (as := [aI 1]) rfl dX1_make_24 me_X1_refused rfl (ci := 0) rfl rfl xh_x (Or.inl q406) q408 qs1 (Nat.le_of_ble_eq_true rfl) (Nat.zero_le _) (Nat.zero_le _) (S_X1_refused (d := d + 45) H) (fun o h' hq13 _ => ?_) (fun E i h' q _ => (xQi_no q).elim)
    obtain ⟨r11, s12, E14, rfl, H⟩ := hq13
    cases E14
    exact ew_ret (o := some (aI r11)) rfl (mkQ_in (fun _ _ => rfl) (fun _ h => Or.inl h) H) ⟨dX1_make_27, .int, rfl, Or.inl rfl, rfl⟩
def C_X1_make (kc ks : Nat) (a : Int) (b : Int) (c : Int) (e : Int) (m0 : Nat) (s0 : XS) (K : Int → XS → Prop) : Prop := ∀ (X76 : Int → Int → (Int → Int) → (Int → Int) → Int → Nat → Nat → XS → Prop), (∀ (x1 : Int) (x5 : Int) (x6 : (Int → Int)) (x7 : (Int → Int)) (x8 : Int) (kc ks : Nat) (s0 : XS), B_X1_make_76 X76 K x1 x5 x6 x7 x8 kc ks m0 s0 → X76 x1 x5 x6 x7 x8 kc ks s0) → B_X1_make_E X76 K a b c e kc ks m0 s0
theorem S_X1_make0 {d : Nat} {V : XV} {g : AH} {m0 : Nat} {K : Int → XS → Prop} {a : Int} {b : Int} {c : Int} {e : Int} {kc ks : Nat} {s0 : XS} (hg : xf 46 g) (hr : xfree V g) (H : C_X1_make kc ks a b c e m0 s0 K) : Sp mm_X1_make (d + 46) kc ks [aR (some xT), aI a, aI b, aI c, aI e] (xh V s0 g) (mkQ V g m0 K) :=
  (ew_sp rfl (Nat.le_of_ble_eq_true rfl) (T_X1_make_E d V g m0 hg hr K a b c e kc ks s0 (H _ (fun x1 x5 x6 x7 x8 kc ks s0 H => T_X1_make_76 d V g m0 hg hr K x1 x5 x6 x7 x8 kc ks s0 H))))
theorem S_X1_make {d : Nat} {V : XV} {g : AH} {K : Int → XS → Prop} {a : Int} {b : Int} {c : Int} {e : Int} {kc ks : Nat} {s0 : XS} (hg : xf 46 g) (hr : xfree V g) (H : C_X1_make kc ks a b c e (s0.1.1 41).toNat s0 K) : Sp mm_X1_make (d + 46) kc ks [aR (some xT), aI a, aI b, aI c, aI e] (xh V s0 g) (xQi V g K) :=
  Sp.forgetF (mkQ_x hr) (S_X1_make0 hg hr H)
