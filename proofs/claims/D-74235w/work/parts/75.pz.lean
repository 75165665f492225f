/-! THE PURE PART, 16: what stands as a function of what was told -/
set_option maxRecDepth 100000
/-- what stands, and cuts -/
abbrev ZS : Type := MS × (Int → Int → Bool)
def bitsZ (z : ZS) (a b c : Int) : Int := if c = -2 then orb (fun k => orb (z.1.2 43) (wayP z.2 ((bkM z.1).pt a k) ((bkM z.1).pt b k)) (z.1.1 39)) (fun _ => true) ((bkM z.1).tk ((bkM z.1).fn a)) else jshl 1 c
/-- two become one -/
def joinZ (z : ZS) (a b c : Int) : ZS :=
  (ms (maR (maR (maR (maR (maR (maR (maR z.1 36 (un (z.1.1 27) (z.1.2 36) a b)) 37 (rev 24 (z.1.2 37) (z.1.2 38) b a (z.1.1 39)).1) 38 (rev 24 (z.1.2 37) (z.1.2 38) b a (z.1.1 39)).2) 40 (iup (z.1.2 40) (z.1.1 39) a)) 41 (iup (z.1.2 41) (z.1.1 39) b)) 42 (iup (z.1.2 42) (z.1.1 39) c)) 43 (iup (z.1.2 43) (z.1.1 39) (bitsZ z a b c))) 39 (z.1.1 39 + 1), cutj (z.1.2 36) z.2 a b (z.1.1 39))
/-- a join kept -/
def jw (b : PB) (ld : Int → Int) (σ : Int → Int → Bool) (A B S T : Int → Int) (j : Int) : Prop :=
  ((0 ≤ A j ∧ A j < b.nt) ∧ (0 ≤ B j ∧ B j < b.nt)) ∧ (S j ≠ -2 → (0 ≤ S j ∧ S j ≤ 12) ∧ T j = jshl 1 (S j)) ∧
  (S j = -2 → b.fn (A j) = b.fn (B j) ∧ (∀ k, 0 ≤ k → k < b.tk (b.fn (A j)) → ld (b.pt (A j) k) = ld (b.pt (B j) k) ∧ ∀ i, σ (b.pt (A j) k) i ≠ σ (b.pt (B j) k) i → i < j) ∧ T j = orb (fun k => orb T (wayP σ (b.pt (A j) k) (b.pt (B j) k)) j) (fun _ => true) (b.tk (b.fn (A j))))
abbrev wfZ (z : ZS) : Prop := (bkM z.1).ok ∧ lr (z.1.1 27) (z.1.2 36) ∧ FO (z.1.1 27) (z.1.1 39) (z.1.2 36) (z.1.2 37) (z.1.2 38) z.2 ∧ (0 ≤ z.1.1 39 ∧ z.1.1 39 + gr (z.1.1 27) (z.1.2 36) = z.1.1 27) ∧ ∀ j, 0 ≤ j → j < z.1.1 39 → jw (bkM z.1) (z.1.2 36) z.2 (z.1.2 40) (z.1.2 41) (z.1.2 42) (z.1.2 43) j
theorem wfZ.ok {z : ZS} (h : wfZ z) : (bkM z.1).ok := h.1
theorem wfZ.lr {z : ZS} (h : wfZ z) : lr (z.1.1 27) (z.1.2 36) := h.2.1
theorem wfZ.fo {z : ZS} (h : wfZ z) : FO (z.1.1 27) (z.1.1 39) (z.1.2 36) (z.1.2 37) (z.1.2 38) z.2 := h.2.2.1
theorem wfZ.nj {z : ZS} (h : wfZ z) : 0 ≤ z.1.1 39 ∧ z.1.1 39 + gr (z.1.1 27) (z.1.2 36) = z.1.1 27 := h.2.2.2.1
theorem wfZ.jw {z : ZS} (h : wfZ z) : ∀ j, 0 ≤ j → j < z.1.1 39 → jw (bkM z.1) (z.1.2 36) z.2 (z.1.2 40) (z.1.2 41) (z.1.2 42) (z.1.2 43) j := h.2.2.2.2
theorem wfZ.nt {z : ZS} (h : wfZ z) : 0 ≤ z.1.1 27 ∧ z.1.1 27 ≤ 24 := h.1.nt
theorem wfZ.njn {z : ZS} (h : wfZ z) (h0 : 0 < z.1.1 27) : z.1.1 39 < z.1.1 27 := by
  have := gr_pos h.lr h0
  have := h.nj
  omega
theorem bkM_joinZ {z : ZS} {a b c : Int} : bkM (joinZ z a b c).1 = bkM z.1 := rfl
theorem wayP_cutj {ld : Int → Int} {σ : Int → Int → Bool} {a b nj v w : Int} (h : ld v = ld w) : wayP (cutj ld σ a b nj) v w = wayP σ v w := by
  funext i
  have := cutj_same (σ := σ) (a := a) (b := b) (nj := nj) h i
  rw [← wayP_ne, ← wayP_ne] at this
  exact Bool.eq_iff_iff.mpr this
theorem joinZ_wf {z : ZS} {a b c : Int} (h : wfZ z) (a0 : 0 ≤ a) (a1 : a < z.1.1 27) (b0 : 0 ≤ b) (b1 : b < z.1.1 27) (hab : z.1.2 36 a ≠ z.1.2 36 b) (hc : (c = -2 ∧ alk (bkM z.1) (z.1.2 36) a b) ∨ (0 ≤ c ∧ c ≤ 12)) : wfZ (joinZ z a b c) := by
  obtain ⟨hb, hl, hf, ⟨hj, hg⟩, hw⟩ := h
  have h24 := hb.nt
  have hF := rev_FO h24.2 hj hf hl a0 a1 b0 b1 hab
  refine ⟨hb, un_lr hl a0 a1 b0 b1, hF, ⟨?_, ?_⟩, fun j j0 j1 => ?_⟩
  · show 0 ≤ z.1.1 39 + 1
    omega
  · show z.1.1 39 + 1 + gr (z.1.1 27) (un (z.1.1 27) (z.1.2 36) a b) = z.1.1 27
    have := un_gr hl a0 a1 b0 b1 hab
    omega
  · have j1 : j < z.1.1 39 + 1 := j1
    show jw (bkM z.1) (un (z.1.1 27) (z.1.2 36) a b) (cutj (z.1.2 36) z.2 a b (z.1.1 39)) (iup (z.1.2 40) (z.1.1 39) a) (iup (z.1.2 41) (z.1.1 39) b) (iup (z.1.2 42) (z.1.1 39) c) (iup (z.1.2 43) (z.1.1 39) (bitsZ z a b c)) j
    by_cases e : j = z.1.1 39
    · unfold jw
      rw [e, iup_at, iup_at, iup_at, iup_at]
      have hpt : ∀ k, 0 ≤ k → k < (bkM z.1).tk ((bkM z.1).fn a) → alk (bkM z.1) (z.1.2 36) a b → ((0 ≤ (bkM z.1).pt a k ∧ (bkM z.1).pt a k < z.1.1 27) ∧ (0 ≤ (bkM z.1).pt b k ∧ (bkM z.1).pt b k < z.1.1 27)) := fun k k0 k1 hal => by
        have p1 := hb.pt a a0 a1 k k0 k1
        have p2 := hb.pt b b0 b1 k k0 (by rw [← hal.1]; exact k1)
        exact ⟨⟨p1.1, by omega⟩, ⟨p2.1, by omega⟩⟩
      rcases hc with ⟨rfl, hal⟩ | hc
      · refine ⟨⟨⟨a0, a1⟩, ⟨b0, b1⟩⟩, fun q => absurd rfl q, fun _ => ⟨hal.1, fun k k0 k1 => ?_, ?_⟩⟩
        · obtain ⟨p1, p2⟩ := hpt k k0 k1 hal
          have e1 := hal.2 k k0 k1
          refine ⟨un_keeps p1.1 p1.2 p2.1 p2.2 e1, fun i hi => ?_⟩
          rw [cutj_same e1] at hi
          by_cases s1 : z.2 ((bkM z.1).pt a k) i = true
          · exact (hf.2.2.2.2 _ i p1.1 p1.2 s1).2
          · by_cases s2 : z.2 ((bkM z.1).pt b k) i = true
            · exact (hf.2.2.2.2 _ i p2.1 p2.2 s2).2
            · exact absurd (by rw [Bool.not_eq_true] at s1 s2; rw [s1, s2]) hi
        · show (if (-2 : Int) = -2 then _ else _) = _
          rw [if_pos rfl]
          refine orb_congr (fun k k0 k1 => ⟨rfl, fun _ => orb_congr (fun i i0 i1 => ?_)⟩)
          rw [wayP_cutj (hal.2 k k0 k1), iup_ne (by omega)]
          exact ⟨rfl, fun _ => rfl⟩
      · refine ⟨⟨⟨a0, a1⟩, ⟨b0, b1⟩⟩, fun q => ⟨hc, if_neg q⟩, fun q => by omega⟩
    · obtain ⟨w1, w2, w3⟩ := hw j j0 (by omega)
      unfold jw
      rw [iup_ne e, iup_ne e, iup_ne e, iup_ne e]
      refine ⟨w1, w2, fun q => ?_⟩
      obtain ⟨v1, v2, v3⟩ := w3 q
      have w11 : z.1.2 40 j < z.1.1 27 := w1.1.2
      have w12 : z.1.2 41 j < z.1.1 27 := w1.2.2
      refine ⟨v1, fun k k0 k1 => ?_, ?_⟩
      · have p1 := hb.pt _ w1.1.1 w1.1.2 k k0 k1
        have p2 := hb.pt _ w1.2.1 w1.2.2 k k0 (by rw [← v1]; exact k1)
        obtain ⟨u1, u2⟩ := v2 k k0 k1
        refine ⟨un_keeps p1.1 (by omega) p2.1 (by omega) u1, fun i hi => ?_⟩
        rw [cutj_same u1] at hi
        exact u2 i hi
      · rw [v3]
        refine orb_congr (fun k k0 k1 => ⟨rfl, fun _ => orb_congr (fun i i0 i1 => ?_)⟩)
        rw [wayP_cutj (v2 k k0 k1).1, iup_ne (by omega)]
        exact ⟨rfl, fun _ => rfl⟩
/-- joins by parts while there are any -/
noncomputable def closeZ : Nat → ZS → ZS
  | 0, z => z
  | n + 1, z => @dite _ (∃ p : Int × Int, isFP (bkM z.1) (z.1.2 36) (z.1.1 27) p.1 p.2) (Classical.propDecidable _) (fun h => closeZ n (joinZ z (Classical.choose h).1 (Classical.choose h).2 (-2))) (fun _ => z)
theorem closeZ_y {n : Nat} {z : ZS} {i j : Int} (h : isFP (bkM z.1) (z.1.2 36) (z.1.1 27) i j) : closeZ (n + 1) z = closeZ n (joinZ z i j (-2)) := by
  have hp : ∃ p : Int × Int, isFP (bkM z.1) (z.1.2 36) (z.1.1 27) p.1 p.2 := ⟨(i, j), h⟩
  show @dite _ _ (Classical.propDecidable _) _ _ = _
  rw [dif_pos hp]
  obtain ⟨e1, e2⟩ := isFP_one (Classical.choose_spec hp) h
  rw [e1, e2]
theorem closeZ_n {n : Nat} {z : ZS} (h : noFP (bkM z.1) (z.1.2 36) (z.1.1 27)) : closeZ n z = z := by
  cases n with
  | zero => rfl
  | succ n =>
    show @dite _ _ (Classical.propDecidable _) _ _ = _
    rw [dif_neg (fun ⟨p, hp⟩ => h p.1 p.2 hp.1.1.1 hp.1.1.2.1 hp.1.1.2.2 hp.1.2)]
/-- there is a first one, or none -/
theorem fp_or {b : PB} {r : Int → Int} {n : Int} : (∃ i j, isFP b r n i j) ∨ noFP b r n := by
  by_cases h : ∃ i j, isFP b r n i j
  · exact Or.inl h
  · refine Or.inr ?_
    have L : ∀ i, 0 ≤ i → i < n → ∀ j, i < j → j < n → ¬ (r i ≠ r j ∧ alk b r i j) := by
      refine downto (P := fun i => ∀ j, i < j → j < n → ¬ (r i ≠ r j ∧ alk b r i j)) (fun i i0 i1 ih => ?_)
      have L2 : ∀ j, 0 ≤ j → j < n → i < j → ¬ (r i ≠ r j ∧ alk b r i j) := by
        refine downto (P := fun j => i < j → ¬ (r i ≠ r j ∧ alk b r i j)) (fun j j0 j1 ihj hij hp => h ⟨i, j, ⟨⟨i0, hij, j1⟩, hp⟩, fun i' j' a1 a2 a3 ha => ?_⟩)
        rcases ha with ha | ⟨ha, ha2⟩
        · exact ih i' a1 ha j' a2 a3
        · rw [ha]; exact ihj j' (by omega) ha2 (by omega)
      exact fun j h1 h2 => L2 j (by omega) h2 h1
    exact fun i j i0 ij jn => L i i0 (by omega) j ij jn
/-- a relation is held by what stands -/
def sdZ (E : Int → Int → Prop) (z : ZS) : Prop := sound (bkM z.1) (z.1.1 27) E (z.1.2 36) ∧ ∀ x y, E x y → z.1.2 36 x = z.1.2 36 y
theorem joinZ_sd {E : Int → Int → Prop} {z : ZS} {a b c : Int} (hE : ∀ x y, E x y → (0 ≤ x ∧ x < z.1.1 27) ∧ 0 ≤ y ∧ y < z.1.1 27) (h : sdZ E z) (a0 : 0 ≤ a) (a1 : a < z.1.1 27) (b0 : 0 ≤ b) (b1 : b < z.1.1 27) (hq : ∀ Q, cg (bkM z.1) (z.1.1 27) E Q → Q a b) : sdZ E (joinZ z a b c) := by
  refine ⟨un_sound h.1 a0 a1 b0 b1 hq, fun x y hxy => ?_⟩
  obtain ⟨⟨x0, x1⟩, y0, y1⟩ := hE x y hxy
  exact un_keeps x0 x1 y0 y1 (h.2 x y hxy)
/-- what joins change -/
def jfr (z z' : ZS) : Prop := (∀ k, k ≠ 39 → z'.1.1 k = z.1.1 k) ∧ (∀ k, (k < 36 ∨ 43 < k) → z'.1.2 k = z.1.2 k) ∧ bkM z'.1 = bkM z.1
theorem jfr.rf {z : ZS} : jfr z z := ⟨fun _ _ => rfl, fun _ _ => rfl, rfl⟩
theorem jfr.tr {z z1 z2 : ZS} (h : jfr z z1) (g : jfr z1 z2) : jfr z z2 := ⟨fun k q => (g.1 k q).trans (h.1 k q), fun k q => (g.2.1 k q).trans (h.2.1 k q), g.2.2.trans h.2.2⟩
theorem maR_ne {m : MS} {j k : Nat} {r : Int → Int} (h : k ≠ j) : (maR m j r).2 k = m.2 k := if_neg h
theorem joinZ_fr {z : ZS} {a b c : Int} : jfr z (joinZ z a b c) := by
  refine ⟨fun k q => if_neg q, fun k q => ?_, rfl⟩
  show (maR (maR (maR (maR (maR (maR (maR z.1 36 _) 37 _) 38 _) 40 _) 41 _) 42 _) 43 _).2 k = _
  rw [maR_ne (by omega), maR_ne (by omega), maR_ne (by omega), maR_ne (by omega), maR_ne (by omega), maR_ne (by omega), maR_ne (by omega)]
theorem closeZ_spec : ∀ (n : Nat) (z : ZS), wfZ z → gr (z.1.1 27) (z.1.2 36) ≤ n → wfZ (closeZ n z) ∧ noFP (bkM z.1) ((closeZ n z).1.2 36) (z.1.1 27) ∧ jfr z (closeZ n z) ∧ (z.1.1 39 ≤ (closeZ n z).1.1 39) ∧ ∀ E, (∀ x y, E x y → (0 ≤ x ∧ x < z.1.1 27) ∧ 0 ≤ y ∧ y < z.1.1 27) → sdZ E z → sdZ E (closeZ n z) := by
  intro n
  induction n with
  | zero =>
    intro z hw hg
    refine ⟨hw, fun i j i0 ij jn => ?_, jfr.rf, Int.le_refl _, fun E _ q => q⟩
    have := gr_pos hw.lr (by omega)
    omega
  | succ n ih =>
    intro z hw hg
    rcases fp_or (b := bkM z.1) (r := z.1.2 36) (n := z.1.1 27) with ⟨i, j, hf⟩ | hf
    · rw [closeZ_y hf]
      obtain ⟨⟨⟨f1, f2, f3⟩, f4, f5⟩, -⟩ := hf
      have hj := joinZ_wf (c := -2) hw f1 (by omega) (by omega) f3 f4 (Or.inl ⟨rfl, f5⟩)
      have hgr := un_gr hw.lr f1 (show i < z.1.1 27 by omega) (show 0 ≤ j by omega) f3 f4
      obtain ⟨g1, g2, g3, g4, g5⟩ := ih (joinZ z i j (-2)) hj (by show gr (z.1.1 27) (un (z.1.1 27) (z.1.2 36) i j) ≤ n; omega)
      refine ⟨g1, g2, joinZ_fr.tr g3, ?_, fun E hE hs => g5 E hE (joinZ_sd hE hs f1 (by omega) (by omega) f3 (al_sound hw.ok (Int.le_refl _) hs.1 f1 (by omega) (by omega) f3 f5))⟩
      have g4 : z.1.1 39 + 1 ≤ _ := g4
      omega
    · rw [closeZ_n hf]
      exact ⟨hw, hf, jfr.rf, Int.le_refl _, fun E _ q => q⟩
