/-! THE PURE PART, 4: closings of the system's plain sheets -/
set_option maxRecDepth 100000
/-- loops over pairs -/
theorem pairs {n : Int} {P2 : Int → Prop} {P14 : Int → Int → Prop} (h2 : ∀ i, 0 ≤ i → i ≤ n → (i < n → P14 i (i + 1)) → P2 i) (h14 : ∀ i j, 0 ≤ i → i < j → j ≤ n → i < n → (j < n → P14 i (j + 1)) → (j = n → P2 (i + 1)) → P14 i j) : ∀ i, 0 ≤ i → i ≤ n → P2 i := by
  refine upto (fun i i0 i1 ih => h2 i i0 i1 (fun hi => ?_))
  have L : ∀ j, 0 ≤ j → j ≤ n → i < j → P14 i j := upto (P := fun j => i < j → P14 i j) (fun j j0 j1 ihj hij => h14 i j i0 hij j1 hi (fun hj => ihj hj (by omega)) (fun hj => ih hi))
  exact L (i + 1) (by omega) (by omega) (by omega)
theorem alk_symm {b : PB} {r : Int → Int} {t u : Int} (h : alk b r t u) : alk b r u t := ⟨h.1.symm, fun k k0 k1 => (h.2 k k0 (by rw [h.1]; exact k1)).symm⟩
/-- a pair ahead of another one -/
def ahead (i j i' j' : Int) : Prop := i' < i ∨ (i' = i ∧ j' < j)
/-- the first pair that is to be joined -/
def isFP (b : PB) (r : Int → Int) (n i j : Int) : Prop := ((0 ≤ i ∧ i < j ∧ j < n) ∧ r i ≠ r j ∧ alk b r i j) ∧ ∀ i' j', 0 ≤ i' → i' < j' → j' < n → ahead i j i' j' → ¬ (r i' ≠ r j' ∧ alk b r i' j')
def noFP (b : PB) (r : Int → Int) (n : Int) : Prop := ∀ i' j', 0 ≤ i' → i' < j' → j' < n → ¬ (r i' ≠ r j' ∧ alk b r i' j')
theorem noFP_closed {b : PB} {r : Int → Int} {n : Int} (h : noFP b r n) : closedR b n r := by
  intro t u t0 t1 u0 u1 ha
  by_cases e : r t = r u
  · exact e
  · by_cases q : t < u
    · exact absurd ⟨e, ha⟩ (h t u t0 q u1)
    · by_cases q2 : u < t
      · exact absurd ⟨fun e2 => e e2.symm, alk_symm ha⟩ (h u t u0 q2 t1)
      · rw [show t = u by omega]
theorem closed_noFP {b : PB} {r : Int → Int} {n : Int} (h : closedR b n r) : noFP b r n := fun i j i0 ij jn q => q.1 (h i j i0 (by omega) (by omega) jn q.2)
theorem isFP_one {b : PB} {r : Int → Int} {n i j i' j' : Int} (h : isFP b r n i j) (h' : isFP b r n i' j') : i = i' ∧ j = j' := by
  by_cases e : ahead i j i' j'
  · exact absurd h'.1.2 (h.2 i' j' h'.1.1.1 h'.1.1.2.1 h'.1.1.2.2 e)
  · by_cases e2 : ahead i' j' i j
    · exact absurd h.1.2 (h'.2 i j h.1.1.1 h.1.1.2.1 h.1.1.2.2 e2)
    · unfold ahead at e e2
      omega
theorem x_closesOne {b : PB} {j : Nat} {s : XS} {K : Int → XS → Prop} (hb : b.ok) (hr : RXb b s) (hn : 0 ≤ (s.2 j).1 1 ∧ (s.2 j).1 1 ≤ b.nt) (h0 : noFP b ((s.2 j).2 0) ((s.2 j).1 1) → K 0 s) (h1 : ∀ i k, isFP b ((s.2 j).2 0) ((s.2 j).1 1) i k → K 1 (yaR s j (un ((s.2 j).1 1) ((s.2 j).2 0) i k))) : C_X4_closesOne_P j s K := by
  intro X2 X14 hX2 hX14
  have h24 := hb.nt
  have L : ∀ i, 0 ≤ i → i ≤ (s.2 j).1 1 → (∀ i' j', 0 ≤ i' → i' < j' → j' < (s.2 j).1 1 → i' < i → ¬ ((s.2 j).2 0 i' ≠ (s.2 j).2 0 j' ∧ alk b ((s.2 j).2 0) i' j')) → X2 i s := by
    refine pairs (P14 := fun i k => (∀ i' j', 0 ≤ i' → i' < j' → j' < (s.2 j).1 1 → ahead i k i' j' → ¬ ((s.2 j).2 0 i' ≠ (s.2 j).2 0 j' ∧ alk b ((s.2 j).2 0) i' j')) → X14 i k s) (fun i i0 i1 ih hp => hX2 _ _ ?_) (fun i k i0 ik kn hin ih ih2 hp => hX14 _ _ _ ?_)
    · unfold B_X4_closesOne_P_2
      exact ⟨fun e => h0 (fun i' j' a1 a2 a3 => hp i' j' a1 a2 a3 (by omega)), fun e => ⟨inI_s (by omega), ih (by omega) (fun i' j' a1 a2 a3 a4 => hp i' j' a1 a2 a3 (by unfold ahead at a4; omega))⟩⟩
    · unfold B_X4_closesOne_P_14
      refine ⟨fun e => ⟨inI_s (by omega), ih2 (by omega) (fun i' j' a1 a2 a3 a4 => hp i' j' a1 a2 a3 (by unfold ahead; omega))⟩, fun e => ?_⟩
      have next : ¬ ((s.2 j).2 0 i ≠ (s.2 j).2 0 k ∧ alk b ((s.2 j).2 0) i k) → inI (k + 1) ∧ X14 i (k + 1) s := by
        intro hno
        refine ⟨inI_s (by omega), ih (by omega) (fun i' j' a1 a2 a3 a4 => ?_)⟩
        by_cases q : i' = i ∧ j' = k
        · rw [q.1, q.2]; exact hno
        · exact hp i' j' a1 a2 a3 (by unfold ahead at a4 ⊢; omega)
      refine x_areOne ⟨i0, by omega⟩ ⟨by omega, by omega⟩ (fun e2 => ⟨fun e => absurd e (by decide), fun _ => next (fun q => q.1 e2)⟩) (fun e2 => ⟨fun _ => ?_, fun e => absurd rfl e⟩)
      refine x_follow hb hr i0 (by omega) (by omega) (by omega) (fun e3 => ⟨fun e => absurd e (by decide), fun _ => ?_⟩) (fun e3 => ⟨fun _ => next (fun q => e3 q.2), fun e => absurd rfl e⟩)
      exact x_unites ⟨hn.1, by omega⟩ i0 (by omega) (by omega) (by omega) (h1 i k ⟨⟨⟨i0, ik, by omega⟩, e2, e3⟩, hp⟩)
  exact L 0 (by omega) hn.1 (fun i' j' a1 a2 a3 a4 => by omega)
theorem yaR_yaR {s : XS} {j : Nat} {r r' : Int → Int} : yaR (yaR s j r) j r' = yaR s j r' := by
  unfold yaR
  refine Prod.ext rfl (funext fun k => ?_)
  show (if k = j then maR (if j = j then maR (s.2 j) 0 r else s.2 j) 0 r' else if k = j then maR (s.2 j) 0 r else s.2 k) = if k = j then maR (s.2 j) 0 r' else s.2 k
  by_cases e : k = j
  · rw [if_pos e, if_pos e, if_pos rfl]
    unfold maR
    refine Prod.ext rfl (funext fun k2 => ?_)
    show (if k2 = 0 then r' else if k2 = 0 then r else _) = if k2 = 0 then r' else _
    by_cases e2 : k2 = 0
    · rw [if_pos e2, if_pos e2]
    · rw [if_neg e2, if_neg e2, if_neg e2]
  · rw [if_neg e, if_neg e, if_neg e]
theorem RXb.yaR {b : PB} {s : XS} {j : Nat} {r : Int → Int} (h : RXb b s) : RXb b (yaR s j r) := h.of (fun _ _ => rfl) (fun _ _ => rfl)
/-- a closing goes on from a row to a closed one -/
def toClosed (b : PB) (n : Int) (E : Int → Int → Prop) (r r' : Int → Int) : Prop := lr n r' ∧ sound b n E r' ∧ closedR b n r' ∧ (∀ x y, 0 ≤ x → x < n → 0 ≤ y → y < n → r x = r y → r' x = r' y) ∧ ∀ i, ¬ (0 ≤ i ∧ i < n) → r' i = r i
theorem x_closes {b : PB} {j : Nat} {s : XS} {K : XS → Prop} {E : Int → Int → Prop} (hb : b.ok) (hr : RXb b s) (hn : 0 ≤ (s.2 j).1 1 ∧ (s.2 j).1 1 ≤ b.nt) (hl : lr ((s.2 j).1 1) ((s.2 j).2 0)) (hs : sound b ((s.2 j).1 1) E ((s.2 j).2 0)) (h : ∀ r', toClosed b ((s.2 j).1 1) E ((s.2 j).2 0) r' → K (yaR s j r')) : C_X4_closes_P j s K := by
  intro X hX
  have L : ∀ d : Nat, ∀ r, lr ((s.2 j).1 1) r → sound b ((s.2 j).1 1) E r → gr ((s.2 j).1 1) r ≤ d → (∀ x y, 0 ≤ x → x < (s.2 j).1 1 → 0 ≤ y → y < (s.2 j).1 1 → (s.2 j).2 0 x = (s.2 j).2 0 y → r x = r y) → (∀ i, ¬ (0 ≤ i ∧ i < (s.2 j).1 1) → r i = (s.2 j).2 0 i) → X 1 (yaR s j r) := by
    intro d
    induction d with
    | zero =>
      intro r r1 r2 r3 r4 r5
      refine hX _ _ ⟨fun e => absurd e (by decide), fun _ => ?_⟩
      refine x_closesOne hb hr.yaR (by rw [yaR_at]; exact hn) (fun hf => hX _ _ ⟨fun _ => ?_, fun e => absurd rfl e⟩) (fun i k hf => ?_)
      · rw [yaR_at, maR_at] at hf
        exact h r ⟨r1, r2, noFP_closed hf, r4, r5⟩
      · have := gr_pos r1 (by have := hf.1.1; rw [yaR_at] at this; have h2 : k < (s.2 j).1 1 := this.2.2; omega)
        omega
    | succ d ih =>
      intro r r1 r2 r3 r4 r5
      refine hX _ _ ⟨fun e => absurd e (by decide), fun _ => ?_⟩
      refine x_closesOne hb hr.yaR (by rw [yaR_at]; exact hn) (fun hf => hX _ _ ⟨fun _ => ?_, fun e => absurd rfl e⟩) (fun i k hf => ?_)
      · rw [yaR_at, maR_at] at hf
        exact h r ⟨r1, r2, noFP_closed hf, r4, r5⟩
      · rw [yaR_at, maR_at] at hf ⊢
        rw [yaR_yaR]
        show X 1 (yaR s j (un ((s.2 j).1 1) r i k))
        have hf : isFP b r ((s.2 j).1 1) i k := hf
        obtain ⟨⟨⟨f1, f2, f3⟩, f4, f5⟩, -⟩ := hf
        have hg := un_gr r1 f1 (by omega) (by omega) f3 f4
        exact ih _ (un_lr r1 f1 (by omega) (by omega) f3) (un_sound r2 f1 (by omega) (by omega) f3 (al_sound hb hn.2 r2 f1 (by omega) (by omega) f3 f5)) (by omega) (fun x y x0 x1 y0 y1 e => un_keeps x0 x1 y0 y1 (r4 x y x0 x1 y0 y1 e)) (fun i hi => (un_out hi).trans (r5 i hi))
  have := L (gr ((s.2 j).1 1) ((s.2 j).2 0)).toNat _ hl hs (by omega) (fun x y _ _ _ _ e => e) (fun _ _ => rfl)
  rw [yaR_id] at this
  exact this
