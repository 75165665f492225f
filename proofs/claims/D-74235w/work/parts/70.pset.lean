/-! THE PURE PART, 11: questions by sets of sames -/
set_option maxRecDepth 100000
/-- the plain sheet -/
def JE (s : XS) (m : MS) : Prop := (s.2 2).1 1 = m.1 27 ∧ good (bkM m) (bkM m).nt E0 ((s.2 2).2 0)
theorem x_every {s : XS} {K : Int → Prop} (h : 0 ≤ s.1.1 32 ∧ s.1.1 32 ≤ 12) (hK : K (jshl 1 (s.1.1 32) - 1)) : C_X1_every s K := by
  have := every_b h.1 (by omega)
  unfold C_X1_every B_X1_every_E C_X1_sames B_X1_sames_E
  exact ⟨inI_s (by omega), hK⟩
theorem c_allSames {m : MS} {K : Int → MS → Prop} (h : 0 ≤ m.1 30 ∧ m.1 30 ≤ 12) (hK : K (jshl 1 (m.1 30) - 1) m) : C_allSames m K := by
  have := every_b h.1 (by omega)
  exact ⟨inI_s (by omega), hK⟩
theorem eqX_psh {s : XS} {n : Int} {r : Int → Int} : eqX s (psh s n r) := ⟨fun _ _ _ => rfl, fun _ _ _ _ _ _ => rfl, rfl, fun _ _ => rfl, fun _ _ _ => rfl⟩
theorem eqM_by {m : MS} {r : Int → Int} : eqM m (maR m 44 r) := ⟨fun _ _ => rfl, fun k h _ _ => if_neg (fun e => h (Or.inl e)), fun _ _ _ => ⟨rfl, rfl⟩⟩
/-- a question by the paper answered -/
theorem p_by {s : XS} {m : MS} {KN : XS → MS → Prop} {n x x' : Int} {r r' : Int → Int} (hK : keepsJ s m KN) (e : x = x') : x = x' ∧ KN (xfin (psh s n r)) (maR (mref m 0) 44 r') :=
  ⟨e, hK _ _ (eqX.tr eqX_psh eqX_o) (eqM.tr eqM_ref eqM_by) ⟨rfl, rfl⟩⟩
theorem c_isOneBy {S t u : Int} {m : MS} {K : Int → MS → Prop} (hb : (bkM m).ok) (hS : below S (bkM m).ns) (t0 : 0 ≤ t) (t1 : t < (bkM m).nt) (u0 : 0 ≤ u) (u1 : u < (bkM m).nt) (h : ∀ r, good (bkM m) (bkM m).nt (ES (bkM m) S) r → K (if r t = r u then 1 else 0) (maR m 44 r)) : C_isOneBy S t u m K := by
  have h24 := hb.nt
  refine c_by hb hS (fun r hr => ⟨⟨t0, by omega⟩, ⟨u0, by omega⟩, fun e => ?_, fun e => ?_⟩)
  · have := h r hr
    rw [if_pos (show r t = r u from e)] at this
    exact this
  · have := h r hr
    rw [if_neg (show ¬ r t = r u from e)] at this
    exact this
theorem p_proves {a : Int → Int} {s : XS} {m : MS} {KN : XS → MS → Prop} (hB : JB s m) (hE : JE s m) (hK : keepsJ s m KN) : C_law_18 a s m KN := by
  obtain ⟨hb, hr⟩ := hB
  have h24 := hb.nt
  have h12 := hb.ns
  have hnt : (bkM m).nt = m.1 27 := rfl
  have hns : (bkM m).ns = m.1 30 := rfl
  have ex : s.1.1 31 = m.1 27 := hr.1.2.1
  have es : s.1.1 32 = m.1 30 := hr.1.2.2.1
  obtain ⟨n1, hg⟩ := hE
  unfold C_law_18 C_X1_proves B_X1_proves_E C_proves B_proves_E
  refine x_isTerm2 (by omega) (fun h => ⟨fun q => absurd q (by decide), fun _ => x_every (by omega) ?_⟩) (fun h => ⟨fun _ => x_refused ?_, fun q => absurd rfl q⟩)
  · rw [es]
    refine x_isIn (fun h2 => ⟨fun q => absurd q (by decide), fun _ => ?_⟩) (fun h2 => ⟨fun _ => x_refused ?_, fun q => absurd rfl q⟩)
    · have hS : below (a 1) (bkM m).ns := below_le h12.1 (by omega) h2.1 h2.2
      refine x_by hb hr n1 hg (fun r hr1 => ?_)
      refine x_areOne ⟨h.1.1, by omega⟩ ⟨h.2.1, by omega⟩ (fun e => ⟨fun q => absurd q (by decide), fun _ => x_fine ?_⟩) (fun e => ⟨fun _ => x_fine ?_, fun q => absurd rfl q⟩) <;>
      · refine c_isTerm h24 (fun _ => ⟨fun q => absurd q (by decide), fun _ => c_isTerm h24 (fun _ => ⟨fun q => absurd q (by decide), fun _ => c_allSames h12 (c_in (fun _ => ⟨fun q => absurd q (by decide), fun _ => c_isRefused (fun _ => ⟨fun _ => ?_, fun q => absurd rfl q⟩) (fun q => absurd rfl q)⟩) (fun q => absurd h2 q))⟩) (fun q => absurd ⟨h.2.1, by omega⟩ q)⟩) (fun q => absurd ⟨h.1.1, by omega⟩ q)
        refine c_isOneBy (m := mref m 0) hb hS h.1.1 (by show a 2 < m.1 27; omega) h.2.1 (by show a 3 < m.1 27; omega) (fun r2 hr2 => ?_)
        have e1 := good_eq hr1 hr2 h.1.1 (show a 2 < (bkM m).nt by omega)
        have e2 := good_eq hr1 hr2 h.2.1 (show a 3 < (bkM m).nt by omega)
        have e : r (a 2) = r (a 3) ↔ r2 (a 2) = r2 (a 3) := by rw [e1, e2]
        by_cases q : r2 (a 2) = r2 (a 3)
        · rw [if_pos q]
          refine ⟨fun q2 => absurd q2 (by decide), fun _ => ?_⟩
          first
            | exact p_by hK rfl
            | exact absurd (e.mpr q) ‹_›
        · rw [if_neg q]
          refine ⟨fun _ => ?_, fun q2 => absurd rfl q2⟩
          first
            | exact p_by hK rfl
            | exact absurd (e.mp ‹_›) q
    · refine c_isTerm h24 (fun _ => ⟨fun q => absurd q (by decide), fun _ => c_isTerm h24 (fun _ => ⟨fun q => absurd q (by decide), fun _ => c_allSames h12 (c_in (fun q => absurd q h2) (fun _ => ⟨fun _ => c_isRefused (fun q => absurd q (by decide)) (fun _ => ⟨fun q => absurd q (by decide), fun _ => p_no hK (by decide)⟩), fun q => absurd rfl q⟩))⟩) (fun q => absurd ⟨h.2.1, by omega⟩ q)⟩) (fun q => absurd ⟨h.1.1, by omega⟩ q)
  · refine c_isTerm h24 (fun h1 => ⟨fun q => absurd q (by decide), fun _ => c_isTerm h24 (fun h2 => absurd ⟨⟨h1.1, by omega⟩, h2.1, by omega⟩ h) (fun _ => ⟨fun _ => c_isRefused (fun q => absurd q (by decide)) (fun _ => ⟨fun q => absurd q (by decide), fun _ => p_no hK (by decide)⟩), fun q => absurd rfl q⟩)⟩) (fun _ => ⟨fun _ => c_isRefused (fun q => absurd q (by decide)) (fun _ => ⟨fun q => absurd q (by decide), fun _ => p_no hK (by decide)⟩), fun q => absurd rfl q⟩)
