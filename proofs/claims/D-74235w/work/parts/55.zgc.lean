/-! GARBAGE IS FORGOTTEN, at the law's loop: elements that no list holds, arrays that a list has left, what is left of books read ahead (by hand) -/
set_option maxRecDepth 100000
theorem ew_gc {M : EM} {d kc ks : Nat} {Q : AO → AH → Prop} {pc : Nat} {lv : List (Nat × AV)} {h h' : AH} (hM : M.1.name = "law") (hs : ∀ i c, h' i = some c → h i = some c) (hr : ∀ i c, h' i = some c → e_refs (fun r => r.1 = 9 ∨ (h r ≠ none → h' r ≠ none)) c) (hl : ∀ q ∈ lv, e_okv h' q.2) (k : EW M d kc ks Q pc lv [] h') : EW M d kc ks Q pc lv [] h := by
  intro D p l e R s m args below meth c Z A ad0 h0 G E H locs cells slots ad ls I hst
  have hz := (E.2.2.2 hM).1
  obtain ⟨⟨hR, hX, hd, hS⟩, ⟨hlv, hL⟩, hb⟩ := I
  have hne : ∀ i, h' i ≠ none → h i ≠ none := fun i hi => by
    cases hc : h' i with
    | none => exact absurd hc hi
    | some c => rw [hs i c hc]; exact fun q => by cases q
  refine k D p l e R s m args below meth c Z A ad0 h0 G E H locs cells slots ad ls ⟨⟨⟨fun i c hi => ?_, fun i j hi hj e => hR.2 i j (hne i hi) (hne j hj) e⟩, hX, fun i hi => absurd (hz i) hi, hS⟩, ⟨hl, hL⟩, hb⟩ (fun v hv => by cases hv)
  obtain ⟨g1, g2, g3, g4⟩ := hR.1 i c (hs i c hi)
  refine ⟨g1, g2, e_okc_F g3 (e_refs_mono (hr i c hi) (fun r q hn => ?_)), g4⟩
  rcases q with q | q
  · cases hc : h r with
    | none => exact absurd hc hn
    | some c' => exact absurd q (hR.1 r c' hc).2.2.2
  · exact q hn
def gcr (r : MS) : MS := (fun k => if k = 41 then r.1 31 else if k = 42 then r.1 32 else if k = 43 then r.1 33 else if k = 61 then r.1 51 else if k = 62 then r.1 52 else if k = 63 then r.1 53 else r.1 k, r.2)
def gcs (s : XS) : XS := (gcr s.1, s.2)
def gck (r : MS) : Prop := (r.1 31 ≤ r.1 41 ∧ r.1 32 ≤ r.1 42 ∧ r.1 33 ≤ r.1 43) ∧ r.1 61 ≤ r.1 51 ∧ r.1 62 ≤ r.1 52 ∧ r.1 63 ≤ r.1 53
theorem gcr_n {r : MS} {k : Nat} (h : ¬ (41 ≤ k ∧ k ≤ 43) ∧ ¬ (61 ≤ k ∧ k ≤ 63)) : (gcr r).1 k = r.1 k := by
  show (if k = 41 then _ else if k = 42 then _ else if k = 43 then _ else if k = 61 then _ else if k = 62 then _ else if k = 63 then _ else r.1 k) = _
  rw [if_neg (by omega), if_neg (by omega), if_neg (by omega), if_neg (by omega), if_neg (by omega), if_neg (by omega)]
theorem xL_gc {V : XV} {r : MS} {k : Nat} (h : k < 5) : xL V (gcr r) k = xL V r k := by
  unfold xL
  rw [gcr_n (k := 50 + k) (by omega), gcr_n (k := 30 + k) (by omega), gcr_n (k := 70 + k) (by omega)]
theorem bC_gc {V : XV} {r : MS} {reg k : Nat} {c : ACell} (hk : gck r) (h : bC V (gcr r) reg k = some c) : bC V r reg k = some c := by
  obtain ⟨⟨k1, k2, k3⟩, k4, k5, k6⟩ := hk
  unfold bC at h ⊢
  split at h
  · exact h
  · by_cases e : k < 5
    · rw [if_pos e] at h ⊢; rw [← xL_gc e]; exact h
    · rw [if_neg e] at h; cases h
  · exact h
  · by_cases e : (r.1 51).toNat ≤ k ∧ k ≤ (r.1 51).toNat
    · rw [if_pos (show ((gcr r).1 61).toNat ≤ k ∧ k ≤ ((gcr r).1 51).toNat from e)] at h; rw [if_pos (by omega)]; exact h
    · rw [if_neg (show ¬ (((gcr r).1 61).toNat ≤ k ∧ k ≤ ((gcr r).1 51).toNat) from e)] at h; cases h
  · by_cases e : (r.1 52).toNat ≤ k ∧ k ≤ (r.1 52).toNat
    · rw [if_pos (show ((gcr r).1 62).toNat ≤ k ∧ k ≤ ((gcr r).1 52).toNat from e)] at h; rw [if_pos (by omega)]; exact h
    · rw [if_neg (show ¬ (((gcr r).1 62).toNat ≤ k ∧ k ≤ ((gcr r).1 52).toNat) from e)] at h; cases h
  · by_cases e : (r.1 53).toNat ≤ k ∧ k ≤ (r.1 53).toNat
    · rw [if_pos (show ((gcr r).1 63).toNat ≤ k ∧ k ≤ ((gcr r).1 53).toNat from e)] at h; rw [if_pos (by omega)]; exact h
    · rw [if_neg (show ¬ (((gcr r).1 63).toNat ≤ k ∧ k ≤ ((gcr r).1 53).toNat) from e)] at h; cases h
  · exact h
  · exact h
  · by_cases e : k < (r.1 31).toNat
    · rw [if_pos (show k < ((gcr r).1 41).toNat from e)] at h; rw [if_pos (by omega)]; exact h
    · rw [if_neg (show ¬ k < ((gcr r).1 41).toNat from e)] at h; cases h
  · by_cases e : k < (r.1 32).toNat
    · rw [if_pos (show k < ((gcr r).1 42).toNat from e)] at h; rw [if_pos (by omega)]; exact h
    · rw [if_neg (show ¬ k < ((gcr r).1 42).toNat from e)] at h; cases h
  · by_cases e : k < (r.1 33).toNat
    · rw [if_pos (show k < ((gcr r).1 43).toNat from e)] at h; rw [if_pos (by omega)]; exact h
    · rw [if_neg (show ¬ k < ((gcr r).1 43).toNat from e)] at h; cases h
  · by_cases e : k < (r.1 31).toNat
    · rw [if_pos (show k < ((gcr r).1 41).toNat from e)] at h; rw [if_pos (by omega)]; exact h
    · rw [if_neg (show ¬ k < ((gcr r).1 41).toNat from e)] at h; cases h
  · cases h
theorem xC_gc {V : XV} {s : XS} {i : EId} {c : ACell} (hk : gck s.1) (h : xC V (gcs s) i = some c) : xC V s i = some c := by
  unfold xC at h ⊢
  split at h
  · next e => rw [if_pos e]; exact h
  · next e =>
    rw [if_neg e]
    split at h
    · next e => rw [if_pos e]; exact bC_gc hk h
    · next e => rw [if_neg e]; exact h
/-- references that stay -/
def kept (V : XV) (s : XS) (i : EId) : Prop := i.1 = 9 ∨ (xreg V i ∧ (xC V s i ≠ none → xC V (gcs s) i ≠ none))
theorem kept_x {V : XV} {s : XS} {k : Nat} : kept V s (0, 2, k) := by
  refine Or.inr ⟨Or.inl ⟨rfl, rfl⟩, fun h => ?_⟩
  rw [xC_x] at h ⊢
  intro h2
  apply h
  unfold xCx at h2 ⊢
  split at h2 <;> first | (cases h2; done) | rfl
theorem kept_s {V : XV} {s : XS} {j k : Nat} (hj : j < 5) : kept V s (sI V j k) :=
  Or.inr ⟨Or.inr (Or.inr (Or.inl ⟨⟨by show 20 ≤ 20 + j; omega, by show 20 + j < 25; omega⟩, by show 10 + V j = 10 + V (20 + j - 20); rw [Nat.add_sub_cancel_left]⟩)), fun h => by rw [xC_s hj] at h ⊢; exact h⟩
theorem kept_t {V : XV} {s : XS} {j k : Nat} (hj : j < 5) : kept V s (tI V j k) :=
  Or.inr ⟨Or.inr (Or.inr (Or.inr ⟨⟨by show 30 ≤ 30 + j; omega, by show 30 + j < 35; omega⟩, by show 10 + V j = 10 + V (30 + j - 30); rw [Nat.add_sub_cancel_left]⟩)), fun h => by rw [xC_t hj] at h ⊢; exact h⟩
theorem kept_b {V : XV} {s : XS} {reg k : Nat} (hr : reg < 20) (h : bC V s.1 reg k ≠ none → bC V (gcr s.1) reg k ≠ none) : kept V s (bI V reg k) :=
  Or.inr ⟨Or.inr (Or.inl ⟨rfl, hr⟩), fun q => by rw [xC_b hr] at q ⊢; exact h q⟩
theorem kept_b2 {V : XV} {s : XS} {k : Nat} : kept V s (bI V 2 k) := by
  refine kept_b (by decide) (fun q => ?_)
  by_cases e : k < 5
  · show (if k < 5 then _ else none) ≠ none
    rw [if_pos e]
    exact fun q => by cases q
  · exact absurd (show bC V s.1 2 k = none from if_neg e) q
theorem kept_xec {V : XV} {s : XS} {j q n : Nat} (hj : j < 5) (hq : j = 0 ∨ j = 4 ∨ q = (s.1.1 (50 + j)).toNat) : e_refs (kept V s) (kQ 0 n (xec V (gcr s.1) j q)) := by
  intro x i h0
  have h : (if 0 ≤ x ∧ x < (if q = ((gcr s.1).1 (50 + j)).toNat then (gcr s.1).1 (30 + j) else (xcap j q : Int)) then some (xel V (gcr s.1) j x) else none) = some i := h0
  by_cases hx : 0 ≤ x ∧ x < (if q = ((gcr s.1).1 (50 + j)).toNat then (gcr s.1).1 (30 + j) else (xcap j q : Int))
  · rw [if_pos hx] at h
    cases h
    unfold xel
    by_cases h4 : j = 4
    · rw [if_pos h4]; exact Or.inl rfl
    · rw [if_neg h4]
      refine kept_b (by omega) (fun _ => ?_)
      rcases (show j = 0 ∨ j = 1 ∨ j = 2 ∨ j = 3 by omega) with e | e | e | e
      · subst e
        exact ‹_›
      · subst e
        have hq' : q = (s.1.1 51).toNat := by rcases hq with h | h | h <;> first | omega | exact h
        rw [if_pos (show q = ((gcr s.1).1 (50 + 1)).toNat from hq')] at hx
        have hx2 : x < s.1.1 31 := hx.2
        show (if x.toNat < (s.1.1 31).toNat then _ else none) ≠ none
        rw [if_pos (by omega)]
        exact fun q => by cases q
      · subst e
        have hq' : q = (s.1.1 52).toNat := by rcases hq with h | h | h <;> first | omega | exact h
        rw [if_pos (show q = ((gcr s.1).1 (50 + 2)).toNat from hq')] at hx
        have hx2 : x < s.1.1 32 := hx.2
        show (if x.toNat < (s.1.1 32).toNat then _ else none) ≠ none
        rw [if_pos (by omega)]
        exact fun q => by cases q
      · subst e
        have hq' : q = (s.1.1 53).toNat := by rcases hq with h | h | h <;> first | omega | exact h
        rw [if_pos (show q = ((gcr s.1).1 (50 + 3)).toNat from hq')] at hx
        have hx2 : x < s.1.1 33 := hx.2
        show (if x.toNat < (s.1.1 33).toNat then _ else none) ≠ none
        rw [if_pos (by omega)]
        exact fun q => by cases q
  · rw [if_neg hx] at h; cases h
theorem kept_list {V : XV} {s : XS} {j : Nat} {z m : Int} (hj : j < 5) : e_refs (kept V s) (kO 11 (al (bI V (3 + j) ((gcr s.1).1 (50 + j)).toNat) z m)) := by
  have h0 : kept V s (bI V (3 + j) ((gcr s.1).1 (50 + j)).toNat) := by
    refine kept_b (by omega) (fun h => ?_)
    rcases (show j = 0 ∨ j = 1 ∨ j = 2 ∨ j = 3 ∨ j = 4 by omega) with e | e | e | e | e
    · subst e; exact h
    · subst e
      show (if (s.1.1 51).toNat ≤ (s.1.1 51).toNat ∧ (s.1.1 51).toNat ≤ (s.1.1 51).toNat then _ else none) ≠ none
      rw [if_pos ⟨Nat.le_refl _, Nat.le_refl _⟩]; exact fun q => by cases q
    · subst e
      show (if (s.1.1 52).toNat ≤ (s.1.1 52).toNat ∧ (s.1.1 52).toNat ≤ (s.1.1 52).toNat then _ else none) ≠ none
      rw [if_pos ⟨Nat.le_refl _, Nat.le_refl _⟩]; exact fun q => by cases q
    · subst e
      show (if (s.1.1 53).toNat ≤ (s.1.1 53).toNat ∧ (s.1.1 53).toNat ≤ (s.1.1 53).toNat then _ else none) ≠ none
      rw [if_pos ⟨Nat.le_refl _, Nat.le_refl _⟩]; exact fun q => by cases q
    · subst e; exact h
  intro x i hx
  match x with
  | 0 => cases hx
  | 1 => cases hx; exact h0
  | 2 => cases hx
  | n + 3 => cases hx
theorem bC_kept {V : XV} {s : XS} {reg k : Nat} {c : ACell} (h : bC V (gcr s.1) reg k = some c) : e_refs (kept V s) c := by
  unfold bC at h
  split at h
  · split at h
    · cases h
      intro x i h
      cases h
      exact kept_b2
    · cases h
  · split at h
    · next hk => cases h; exact kept_list (by omega)
    · cases h
  · split at h
    · cases h; exact kept_xec (by decide) (Or.inl rfl)
    · cases h
  · split at h
    · next hk => cases h; exact kept_xec (by decide) (Or.inr (Or.inr (by have : (s.1.1 51).toNat ≤ k ∧ k ≤ (s.1.1 51).toNat := hk; show k = (s.1.1 51).toNat; omega)))
    · cases h
  · split at h
    · next hk => cases h; exact kept_xec (by decide) (Or.inr (Or.inr (by have : (s.1.1 52).toNat ≤ k ∧ k ≤ (s.1.1 52).toNat := hk; show k = (s.1.1 52).toNat; omega)))
    · cases h
  · split at h
    · next hk => cases h; exact kept_xec (by decide) (Or.inr (Or.inr (by have : (s.1.1 53).toNat ≤ k ∧ k ≤ (s.1.1 53).toNat := hk; show k = (s.1.1 53).toNat; omega)))
    · cases h
  · split at h
    · cases h; exact kept_xec (by decide) (Or.inr (Or.inl rfl))
    · cases h
  · split at h
    · cases h; exact good_F
    · cases h
  · split at h
    · next hk =>
      cases h
      intro x i h
      unfold xfT at h
      split at h
      · cases h
      · cases h; exact kept_b (by decide) (fun q => q)
      · cases h
      · cases h
        refine kept_b (by decide) (fun _ => ?_)
        have hk2 : k < (s.1.1 31).toNat := hk
        show (if k < (s.1.1 31).toNat then _ else none) ≠ none
        rw [if_pos hk2]; exact fun q => by cases q
      · cases h
    · cases h
  · split at h
    · cases h; exact good_S
    · cases h
  · split at h
    · cases h; exact good_D
    · cases h
  · split at h
    · cases h; trivial
    · cases h
  · cases h
theorem xC_kept {V : XV} {s : XS} {i : EId} {c : ACell} (h : xC V (gcs s) i = some c) : e_refs (kept V s) c := by
  unfold xC at h
  split at h
  · unfold xCx at h
    split at h <;> first | (cases h; trivial) | skip
    · cases h
      intro k i h
      unfold xF at h
      split at h <;> first | (cases h; done) | (cases h; first | exact kept_x | exact kept_s (by decide) | exact kept_b (by decide) (fun q => q))
    · cases h
  · split at h
    · exact bC_kept h
    · split at h
      · next hj =>
        unfold sC at h
        split at h <;> first | (split at h <;> first | (cases h; trivial) | cases h) | (cases h; trivial) | skip
        · cases h
          intro k i2 h
          unfold sF at h
          split at h <;> first | (cases h; done) | (cases h; first | exact kept_s (by omega) | exact kept_t (by omega) | exact kept_b2)
        · cases h
      · split at h
        · unfold tC at h
          split at h <;> (split at h <;> first | (cases h; trivial) | cases h)
        · cases h
/-- of the rest only the reference and the law's own array stay -/
def gkeep (g : AH) : AH := fun i => if (i.1 = 0 ∧ i.2.1 = 1) ∨ i = (4, 0, 0) then g i else none
theorem gkeep_n {g : AH} {i : EId} (h : g i = none) : gkeep g i = none := by
  unfold gkeep
  split
  · exact h
  · rfl
theorem LH.gc {V : XV} {N : Nat} {m : MS} {g : AH} (h : LH V N m g) : LH V N m (gkeep g) := by
  obtain ⟨⟨h1, h2, h3, h4⟩, h5, o, h6⟩ := h
  refine ⟨⟨fun i hi => gkeep_n (h1 i hi), h2, fun i hi => gkeep_n (h3 i hi), fun i hi => gkeep_n (h4 i hi)⟩, fun k => ?_, o, ?_⟩
  · show (if _ then g (0, 1, k) else none) = _
    rw [if_pos (Or.inl ⟨rfl, rfl⟩)]
    exact h5 k
  · show (if _ then g (4, 0, 0) else none) = _
    rw [if_pos (Or.inr rfl)]
    exact h6
theorem ew_gcl {M : EM} {d kc ks : Nat} {Q : AO → AH → Prop} {pc : Nat} {p : Int} {V : XV} {N : Nat} {s : XS} {m : MS} {g : AH} (hM : M.1.name = "law") (hL : LH V N m g) (hk : gck s.1) (hp : inI p) (k : EW M d kc ks Q pc [(0, aR (some sT)), (1, aR (some xT)), (2, aR (some mT)), (3, aR (some oT)), (4, aI p)] [] (xh V (gcs s) (gkeep g))) : EW M d kc ks Q pc [(0, aR (some sT)), (1, aR (some xT)), (2, aR (some mT)), (3, aR (some oT)), (4, aI p)] [] (xh V s g) := by
  have low : ∀ (s : XS) (g : AH) (i : EId), i.1 < 10 → ¬ (i.1 = 0 ∧ i.2.1 = 2) → xh V s g i = g i := fun s g i h1 h2 => xh_g (xC_low h1 h2)
  have gk : ∀ i : EId, (i.1 = 0 ∧ i.2.1 = 1) ∨ i = (4, 0, 0) → xh V s g i = g i ∧ xh V (gcs s) (gkeep g) i = g i := by
    intro i hi
    have h1 : i.1 < 10 := by rcases hi with h | h; omega; rw [h]; decide
    have h2 : ¬ (i.1 = 0 ∧ i.2.1 = 2) := by rcases hi with h | h; omega; rw [h]; decide
    refine ⟨low _ _ i h1 h2, ?_⟩
    rw [low _ _ i h1 h2]
    exact if_pos hi
  have hm : xh V (gcs s) (gkeep g) mT ≠ none := by
    rw [(gk mT (Or.inl ⟨rfl, rfl⟩)).2, show g mT = mC m 99 from hL.2.1 99]
    exact fun q => by cases q
  refine ew_gc hM (fun i c hi => ?_) (fun i c hi => ?_) (fun q hq => ?_) k
  · cases hc : xC V (gcs s) i with
    | some c' =>
      rw [xh_of hc] at hi
      cases hi
      exact xh_of (xC_gc hk hc)
    | none =>
      rw [xh_g hc] at hi
      unfold gkeep at hi
      split at hi
      · next e => rw [(gk i e).1]; exact hi
      · cases hi
  · cases hc : xC V (gcs s) i with
    | some c' =>
      rw [xh_of hc] at hi
      cases hi
      refine e_refs_mono (xC_kept hc) (fun r hr => ?_)
      rcases hr with h9 | ⟨hr, hr2⟩
      · exact Or.inl h9
      · refine Or.inr (fun hn => ?_)
        by_cases e : xC V s r = none
        · rw [xh_g e, hL.1.1 r hr] at hn
          exact absurd rfl hn
        · have := hr2 e
          cases h3 : xC V (gcs s) r with
          | none => exact absurd h3 this
          | some c => rw [xh_of h3]; exact fun q => by cases q
    | none =>
      rw [xh_g hc] at hi
      unfold gkeep at hi
      split at hi
      · next e =>
        rcases e with e | e
        · obtain ⟨i1, i2, i3⟩ := i
          obtain ⟨e1, e2⟩ := e
          have e1 : i1 = 0 := e1
          have e2 : i2 = 1 := e2
          subst e1
          subst e2
          rw [hL.2.1 i3] at hi
          unfold mC at hi
          split at hi
          · cases hi
            intro k2 r h
            have hr : r.1 = 0 ∧ r.2.1 = 1 := by
              unfold mF at h
              split at h <;> first | (cases h; done) | (cases h; exact ⟨rfl, rfl⟩)
            refine Or.inr (fun hn => ?_)
            rw [(gk r (Or.inl hr)).2, ← (gk r (Or.inl hr)).1]
            exact hn
          · split at hi <;> first | (cases hi; trivial) | cases hi
        · rw [e] at hi
          obtain ⟨o, ho⟩ := hL.2.2
          rw [show g (4, 0, 0) = some (kL 1 o) from ho] at hi
          cases hi
          trivial
      · cases hi
  · rcases List.mem_cons.mp hq with rfl | hq
    · exact Or.inr rfl
    rcases List.mem_cons.mp hq with rfl | hq
    · exact Or.inl (by rw [xh_of xC_x]; exact fun q => by cases q)
    rcases List.mem_cons.mp hq with rfl | hq
    · exact Or.inl hm
    rcases List.mem_cons.mp hq with rfl | hq
    · refine Or.inl ?_
      obtain ⟨o, ho⟩ := hL.2.2
      rw [(gk oT (Or.inr rfl)).2, show g (4, 0, 0) = some (kL 1 o) from ho]
      exact fun q => by cases q
    rcases List.mem_cons.mp hq with rfl | hq
    · exact hp
    cases hq
