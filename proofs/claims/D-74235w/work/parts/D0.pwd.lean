/-! THE PURE PART, 67: would -/
set_option maxRecDepth 100000
theorem good_row {b : PB} {n : Int} {E : Int → Int → Prop} {r r' : Int → Int} (hb : b.ok) (hn : n ≤ b.nt) (hE : ∀ x y, E x y → (0 ≤ x ∧ x < n) ∧ 0 ≤ y ∧ y < n) (hr : ∀ i, 0 ≤ i → i < n → r' i = r i) (hg : good b n E r) : good b n E r' :=
  ⟨lr_congr hr hg.lr, sound_congr hr hg.sound, fun t u e => by
    have h := hE t u e
    rw [hr t h.1.1 h.1.2, hr u h.2.1 h.2.2]; exact hg.has t u e, closed_congr hb hn hr hg.closed⟩
theorem sE_rg {b : PB} (hb : b.ok) (x y : Int) (h : sE b x y) : (0 ≤ x ∧ x < b.nt) ∧ 0 ≤ y ∧ y < b.nt := by
  obtain ⟨k, k0, k1, rfl, rfl⟩ := h
  exact ⟨hb.sa k k0 k1, hb.sb k k0 k1⟩
theorem goodX_JZ {s : XS} {m : MS} {z : ZS} (h : JZ s m z) : good (bkM m) (bkM m).nt (sE (bkM m)) ((s.2 4).2 0) := by
  have hb := h.b.1
  exact good_row hb (Int.le_refl _) (sE_rg hb) (fun i i0 i1 => (h.n.2.1 i i0 i1).1) h.good
/-- the reference with one same more on trial -/
def wM (m m' : MS) : Prop := m'.1 = m.1 ∧ (∀ k, k ≠ 31 → k ≠ 32 → k ≠ 44 → m'.2 k = m.2 k) ∧ ∀ k, 0 ≤ k → k < m.1 30 → m'.2 31 k = m.2 31 k ∧ m'.2 32 k = m.2 32 k
theorem wM.rf {m : MS} : wM m m := ⟨rfl, fun _ _ _ _ => rfl, fun _ _ _ => ⟨rfl, rfl⟩⟩
theorem wM.m {m m' : MS} (h : wM m m') : eqM m m' := ⟨fun _ _ => by rw [h.1], fun k q q1 q2 => h.2.1 k q1 q2 (fun e => q (by unfold mscA; omega)), h.2.2⟩
theorem wM.ag {m m' : MS} (h : wM m m') : agB m' m := by
  obtain ⟨h1, h2, h3⟩ := h
  refine ⟨by rw [h1]; exact ⟨rfl, rfl, rfl, rfl⟩, fun f _ _ => by rw [h2 7 (by decide) (by decide) (by decide)], fun t _ _ => ?_, h3, fun k _ _ => ?_⟩
  · rw [h2 28 (by decide) (by decide) (by decide), h2 29 (by decide) (by decide) (by decide)]; exact ⟨rfl, fun _ _ _ => rfl⟩
  · rw [h2 34 (by decide) (by decide) (by decide), h2 35 (by decide) (by decide) (by decide)]; exact ⟨rfl, rfl⟩
theorem c_closesWith {t u : Int} {m M : MS} {K : MS → Prop} (hb : (bkM m).ok) (hw : wM m M) (t0 : 0 ≤ t) (t1 : t < (bkM m).nt) (u0 : 0 ≤ u) (u1 : u < (bkM m).nt) (h : ∀ r M', wM m (maR M' 44 r) → good (bkM m) (bkM m).nt (E1 (sE (bkM m)) t u) r → K (maR M' 44 r)) : C_closesWith t u M K := by
  have h12 : 0 ≤ m.1 30 ∧ m.1 30 ≤ 12 := hb.ns
  have e30 : M.1 30 = m.1 30 := by rw [hw.1]
  refine ⟨by rw [e30]; omega, ?_⟩
  rintro _ rfl
  refine ⟨by show 0 ≤ M.1 30 ∧ M.1 30 < 13; rw [e30]; omega, ?_⟩
  rintro _ rfl
  have a31 : (ma (ma M 31 (M.1 30) t) 32 (M.1 30) u).2 31 = iup (M.2 31) (M.1 30) t := rfl
  have a32 : (ma (ma M 31 (M.1 30) t) 32 (M.1 30) u).2 32 = iup (M.2 32) (M.1 30) u := rfl
  have hw2 : wM m (ma (ma M 31 (M.1 30) t) 32 (M.1 30) u) := by
    refine ⟨hw.1, fun k k1 k2 k3 => ?_, fun k k0 k1 => ?_⟩
    · show (if k = 32 then _ else if k = 31 then _ else M.2 k) = _
      rw [if_neg k2, if_neg k1]; exact hw.2.1 k k1 k2 k3
    · rw [a31, a32, iup_ne (by omega), iup_ne (by omega)]; exact hw.2.2 k k0 k1
  have hb2 := hw2.ag.ok hb
  refine c_allSames (m := ma (ma M 31 (M.1 30) t) 32 (M.1 30) u) (by show 0 ≤ M.1 30 ∧ M.1 30 ≤ 12; rw [e30]; exact h12) ?_
  have e30' : (ma (ma M 31 (M.1 30) t) 32 (M.1 30) u).1 30 = m.1 30 := e30
  rw [e30']
  have hbit : ∀ k, 0 ≤ k → k ≤ 12 → (bit (jor (jshl 1 (m.1 30) - 1) (jshl 1 (m.1 30))) k ↔ k < m.1 30 ∨ k = m.1 30) := fun k k0 k1 => by
    rw [bit_add h12.1 (by omega) k0 (by omega), bit_every h12.1 (by omega) k0 (by omega)]
  have hent : (bkM (ma (ma M 31 (M.1 30) t) 32 (M.1 30) u)).nt = (bkM m).nt := by
    show M.1 27 = m.1 27
    rw [hw.1]
  refine c_closesBy hb2 (fun k k0 k1 hk => ?_) (fun r hg => ?_)
  · rw [hent, a31, a32]
    rcases (hbit k k0 k1).mp hk with g | g
    · rw [iup_ne (by omega), iup_ne (by omega), (hw.2.2 k k0 g).1, (hw.2.2 k k0 g).2]
      exact ⟨hb.sa k k0 g, hb.sb k k0 g⟩
    · rw [show iup (M.2 31) (M.1 30) t k = t from if_pos (by omega), show iup (M.2 32) (M.1 30) u k = u from if_pos (by omega)]
      exact ⟨⟨t0, t1⟩, u0, u1⟩
  · refine h r _ ⟨hw2.1, fun k k1 k2 k3 => (if_neg k3).trans (hw2.2.1 k k1 k2 k3), fun k k0 k1 => hw2.2.2 k k0 k1⟩ ?_
    rw [hent] at hg
    refine good_ga hw2.ag hb (Int.le_refl _) (good_E (fun x y => ?_) hg)
    constructor
    · rintro ⟨k, k0, k1, hk, e1, e2⟩
      rw [a31] at e1
      rw [a32] at e2
      rcases (hbit k k0 k1).mp hk with g | g
      · rw [iup_ne (by omega), (hw.2.2 k k0 g).1] at e1
        rw [iup_ne (by omega), (hw.2.2 k k0 g).2] at e2
        exact Or.inl ⟨k, k0, g, e1, e2⟩
      · rw [show iup (M.2 31) (M.1 30) t k = t from if_pos (by omega)] at e1
        rw [show iup (M.2 32) (M.1 30) u k = u from if_pos (by omega)] at e2
        exact Or.inr ⟨e1, e2⟩
    · rintro (⟨k, k0, k1, e1, e2⟩ | ⟨e1, e2⟩)
      · have k1 : k < m.1 30 := k1
        refine ⟨k, k0, by omega, (hbit k k0 (by omega)).mpr (Or.inl k1), ?_, ?_⟩
        · rw [a31, iup_ne (by omega), (hw.2.2 k k0 k1).1]; exact e1
        · rw [a32, iup_ne (by omega), (hw.2.2 k k0 k1).2]; exact e2
      · refine ⟨m.1 30, h12.1, h12.2, (hbit _ h12.1 h12.2).mpr (Or.inr rfl), ?_, ?_⟩
        · rw [a31, show iup (M.2 31) (M.1 30) t (m.1 30) = t from if_pos (by omega)]; exact e1
        · rw [a32, show iup (M.2 32) (M.1 30) u (m.1 30) = u from if_pos (by omega)]; exact e2
theorem p_would {a : Int → Int} {s : XS} {m : MS} {z : ZS} {KN : XS → MS → Prop} (hJ : JZ s m z) (hK : keepsJ s m KN) : C_law_27 a s m KN := by
  have hgx := goodX_JZ hJ
  obtain ⟨hb, hr⟩ := hJ.b
  obtain ⟨n1, n2, n3, n4⟩ := hJ.n
  have h24 : 0 ≤ m.1 27 ∧ m.1 27 ≤ 24 := hb.nt
  have ex : s.1.1 31 = m.1 27 := hr.1.2.1
  have no : ∀ (K : Int → MS → Prop), ¬ (((0 ≤ a 1 ∧ a 1 < m.1 27) ∧ 0 ≤ a 2 ∧ a 2 < m.1 27) ∧ 0 ≤ a 3 ∧ a 3 ≤ 2) → K (-1) (mref m 1) → C_would (a 1) (a 2) (a 3) m K := by
    intro K h hk
    exact c_isTerm h24 (fun q1 => ⟨fun q => absurd q (by decide), fun _ => c_isTerm h24 (fun q2 => ⟨fun q => absurd q (by decide), fun _ => c_in (fun q3 => absurd ⟨⟨q1, q2⟩, q3⟩ h) (fun _ => ⟨fun _ => r_no hk, fun q => absurd rfl q⟩)⟩) (fun _ => ⟨fun _ => r_no hk, fun q => absurd rfl q⟩)⟩) (fun _ => ⟨fun _ => r_no hk, fun q => absurd rfl q⟩)
  refine x_isTerm2 (by omega) (fun h => ⟨fun q => absurd q (by decide), fun _ => x_isIn (fun h3 => ⟨fun q => absurd q (by decide), fun _ => ?_⟩) (fun h3 => ⟨fun _ => x_refused (no _ (fun q => h3 q.2) (p_no hK (by decide))), fun q => absurd rfl q⟩)⟩) (fun h => ⟨fun _ => x_refused (no _ (fun q => h ⟨⟨q.1.1.1, by omega⟩, q.1.2.1, by omega⟩) (p_no hK (by decide))), fun q => absurd rfl q⟩)
  rw [ex] at h
  have yes : ∀ (K : Int → MS → Prop), (∀ r M', wM (mref m 0) (maR M' 44 r) → good (bkM m) (bkM m).nt (E1 (sE (bkM m)) (a 1) (a 2)) r → ((a 3 = 0 → K (gr (m.1 27) r) (maR M' 44 r)) ∧ (a 3 = 1 → K (fi (fun k => r ((bkM m).da k) = r ((bkM m).db k)) (bkM m).nd) (maR M' 44 r)) ∧ (a 3 = 2 → K (gr (m.1 27) (m.2 36) - gr (m.1 27) r) (maR M' 44 r)))) → C_would (a 1) (a 2) (a 3) m K := by
    intro K hk
    refine c_isTerm h24 (fun _ => ⟨fun q => absurd q (by decide), fun _ => c_isTerm h24 (fun _ => ⟨fun q => absurd q (by decide), fun _ => c_in (fun _ => ⟨fun q => absurd q (by decide), fun _ => r_yes (c_closesWith (m := mref m 0) hb wM.rf h.1.1 h.1.2 h.2.1 h.2.2 (fun r M' hw hg => ?_))⟩) (fun q => absurd h3 q)⟩) (fun q => absurd h.2 q)⟩) (fun q => absurd h.1 q)
    obtain ⟨k1, k2, k3⟩ := hk r M' hw hg
    have e27 : (maR M' 44 r).1 27 = m.1 27 := by rw [hw.1]; rfl
    have e36 : (maR M' 44 r).2 36 = m.2 36 := hw.2.1 36 (by decide) (by decide) (by decide)
    have e44 : (maR M' 44 r).2 44 = r := maR_at
    have hag := hw.ag
    have hb' := hag.ok hb
    have hgr : ∀ (K1 : Int → MS → Prop), K1 (gr (m.1 27) r) (maR M' 44 r) → C_groupsIn 44 (maR M' 44 r) K1 := fun K1 hk1 => c_groupsIn ⟨rfl, rfl⟩ (by rw [e27]; exact h24) (by rw [e27, e44]; exact hk1)
    refine ⟨fun e => hgr _ (k1 e), fun e0 => ⟨fun e => c_clashIn ⟨rfl, rfl⟩ hb' ?_, fun e1 => c_groupsIn ⟨rfl, rfl⟩ (by rw [e27]; exact h24) ?_⟩⟩
    · have ed : (bkM (maR M' 44 r)).nd = (bkM m).nd := by
        show (maR M' 44 r).1 33 = m.1 33
        rw [hw.1]; rfl
      have ea : (bkM (maR M' 44 r)).da = (bkM m).da := hw.2.1 34 (by decide) (by decide) (by decide)
      have eb : (bkM (maR M' 44 r)).db = (bkM m).db := hw.2.1 35 (by decide) (by decide) (by decide)
      rw [ed, ea, eb, e44]
      exact k2 e
    · rw [e27, e36]
      refine hgr _ ⟨?_, k3 (by omega)⟩
      have b1 := cn_b (P := fun t => m.2 36 t = t) h24.1
      have b2 := cn_b (P := fun t => r t = t) h24.1
      unfold gr
      exact inI_s (by omega)
  refine x_with hb hr n1 hgx (sE_rg hb) h.1.1 h.1.2 h.2.1 h.2.2 (fun r hg => ?_)
  have hpx : pX s (psh s (bkM m).nt r) := pX_psh
  have fin : ∀ (v v' : Int) (M' : MS) (r2 : Int → Int), wM (mref m 0) (maR M' 44 r2) → v = v' → v = v' ∧ KN (xfin (psh s (bkM m).nt r)) (maR M' 44 r2) := fun v v' M' r2 hw e => ⟨e, hK _ _ (hpx.x.tr eqX_o) (eqM_ref.tr hw.m) ⟨by rw [hw.1]; rfl, by rw [hw.1]; rfl⟩⟩
  have hn3 : ((psh s (bkM m).nt r).2 3).1 1 = m.1 27 := psh_1
  have hgr : ∀ r2, good (bkM m) (bkM m).nt (E1 (sE (bkM m)) (a 1) (a 2)) r2 → gr (m.1 27) r = gr (m.1 27) r2 := fun r2 hg2 => gr_congr (fun t t0 t1 => good_eq hg hg2 t0 t1)
  refine ⟨fun e => x_groups (by rw [hn3]; exact h24) (x_fine ?_), fun e0 => ⟨fun e => x_clash hb (hpx.rxb hr) (x_fine ?_), fun e1 => x_groups (by rw [psh_o (by decide), n1]; exact h24) (x_groups (by rw [hn3]; exact h24) ⟨?_, x_fine ?_⟩)⟩⟩
  · rw [hn3, psh_r]
    exact yes _ (fun r2 M' hw hg2 => ⟨fun _ => fin _ _ M' r2 hw (hgr r2 hg2), fun q => absurd q (by omega), fun q => absurd q (by omega)⟩)
  · rw [psh_r]
    exact yes _ (fun r2 M' hw hg2 => ⟨fun q => absurd q e0, fun _ => fin _ _ M' r2 hw (cl_congr hb (fun t t0 t1 => good_eq hg hg2 t0 t1)), fun q => absurd q (by omega)⟩)
  · rw [hn3, psh_r, psh_o (by decide), n1]
    have b1 := cn_b (P := fun t => (s.2 4).2 0 t = t) h24.1
    have b2 := cn_b (P := fun t => r t = t) h24.1
    unfold gr
    exact inI_s (by omega)
  · rw [hn3, psh_r, psh_o (by decide), n1]
    have e4 : gr (m.1 27) ((s.2 4).2 0) = gr (m.1 27) (m.2 36) := gr_congr (fun t t0 t1 => (n2 t t0 t1).1)
    rw [e4]
    exact yes _ (fun r2 M' hw hg2 => ⟨fun q => absurd q e0, fun q => absurd q e1, fun _ => fin _ _ M' r2 hw (by rw [hgr r2 hg2])⟩)
