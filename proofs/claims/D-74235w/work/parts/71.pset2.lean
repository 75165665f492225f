/-! THE PURE PART, 12: without one same -/
set_option maxRecDepth 100000
theorem p_without {a : Int → Int} {s : XS} {m : MS} {KN : XS → MS → Prop} (hB : JB s m) (hE : JE s m) (hK : keepsJ s m KN) : C_law_29 a s m KN := by
  obtain ⟨hb, hr⟩ := hB
  have h24 := hb.nt
  have h12 := hb.ns
  have hnt : (bkM m).nt = m.1 27 := rfl
  have hns : (bkM m).ns = m.1 30 := rfl
  have es : s.1.1 32 = m.1 30 := hr.1.2.2.1
  obtain ⟨n1, hg⟩ := hE
  unfold C_law_29 C_X1_without B_X1_without_E C_X1_sames B_X1_sames_E C_without B_without_E
  rw [es]
  refine ⟨inI_s (by omega), x_isIn (fun h => ⟨fun q => absurd q (by decide), fun _ => ?_⟩) (fun h => ⟨fun _ => x_refused ⟨inI_s (by omega), c_in (fun q => absurd q h) (fun _ => ⟨fun _ => r_no (p_no hK (by decide)), fun q => absurd rfl q⟩)⟩, fun q => absurd rfl q⟩)⟩
  refine x_isIn (fun h2 => ⟨fun q => absurd q (by decide), fun _ => x_every (by omega) ?_⟩) (fun h2 => ⟨fun _ => x_refused ⟨inI_s (by omega), c_in (fun _ => ⟨fun q => absurd q (by decide), fun _ => c_in (fun q => absurd q h2) (fun _ => ⟨fun _ => r_no (p_no hK (by decide)), fun q => absurd rfl q⟩)⟩) (fun q => absurd h q)⟩, fun q => absurd rfl q⟩)
  rw [es]
  have hS : below (jand (jshl 1 (m.1 30) - 1) (jxor (jshl 1 (a 1)) (-1))) (bkM m).ns := below_del h.1 (by omega) (below_every h12.1 (by omega))
  refine x_by hb hr n1 hg (fun r hr1 => ⟨fun e => x_groups (by rw [psh_1]; exact h24) (x_fine ?_), fun e => x_clash hb hr.psh (x_fine ?_)⟩)
  · refine ⟨inI_s (by omega), c_in (fun _ => ⟨fun q => absurd q (by decide), fun _ => c_in (fun _ => ⟨fun q => absurd q (by decide), fun _ => r_yes (c_allSames (m := mref m 0) h12 (c_by (m := mref m 0) hb hS (fun r2 hr2 => ⟨fun _ => c_groupsIn ⟨rfl, rfl⟩ h24 (p_by hK ?_), fun q => absurd e q⟩)))⟩) (fun q => absurd h2 q)⟩) (fun q => absurd h q)⟩
    exact gr_congr (fun t t0 t1 => good_eq hr1 hr2 t0 t1)
  · refine ⟨inI_s (by omega), c_in (fun _ => ⟨fun q => absurd q (by decide), fun _ => c_in (fun _ => ⟨fun q => absurd q (by decide), fun _ => r_yes (c_allSames (m := mref m 0) h12 (c_by (m := mref m 0) hb hS (fun r2 hr2 => ⟨fun q => absurd q e, fun _ => c_clashIn ⟨rfl, rfl⟩ (s := maR (mref m 0) 44 r2) hb (p_by hK ?_)⟩)))⟩) (fun q => absurd h2 q)⟩) (fun q => absurd h q)⟩
    exact cl_congr hb (fun t t0 t1 => good_eq hr1 hr2 t0 t1)
theorem p_sameOf {a : Int → Int} {s : XS} {m : MS} {KN : XS → MS → Prop} (hB : JB s m) (hE : JE s m) (hK : keepsJ s m KN) : C_law_8 a s m KN := by
  obtain ⟨hb, hr⟩ := hB
  have hr' := hr
  have h24 := hb.nt
  have h12 := hb.ns
  have hnt : (bkM m).nt = m.1 27 := rfl
  have hns : (bkM m).ns = m.1 30 := rfl
  have es : s.1.1 32 = m.1 30 := hr.1.2.2.1
  obtain ⟨n1, hg⟩ := hE
  obtain ⟨⟨x1, x2, x3, x4⟩, ⟨y1, y2, y3, y4⟩, ⟨c1, c2, c3, c4⟩, -, -, hs, -⟩ := hr'
  unfold C_law_8 C_X1_sameOf B_X1_sameOf_E C_X1_sames B_X1_sames_E C_sameOf B_sameOf_E
  rw [es]
  refine ⟨inI_s (by omega), x_isIn (fun h => ⟨fun q => absurd q (by decide), fun _ => ?_⟩) (fun h => ⟨fun _ => x_refused ⟨inI_s (by omega), c_in (fun q => absurd q h) (fun _ => ⟨fun _ => r_no (p_no hK (by decide)), fun q => absurd rfl q⟩)⟩, fun q => absurd rfl q⟩)⟩
  obtain ⟨e1, e2⟩ := hs (a 1) h.1 (by omega)
  have d1 := hb.sa (a 1) h.1 (by omega)
  have d2 := hb.sb (a 1) h.1 (by omega)
  have hm : 0 ≤ a 1 ∧ a 1 < s.1.1 42 := ⟨h.1, by omega⟩
  have h13 : 0 ≤ a 1 ∧ a 1 < 13 := ⟨h.1, by omega⟩
  have hS : below (jand (jshl 1 (m.1 30) - 1) (jxor (jshl 1 (a 1)) (-1))) (bkM m).ns := below_del h.1 (by omega) (below_every h12.1 (by omega))
  refine ⟨⟨⟨h.1, by omega⟩, c3⟩, hm, fun e => ⟨hm, x_fine ⟨inI_s (by omega), c_in (fun _ => ⟨fun q => absurd q (by decide), fun _ => c_in (fun _ => ⟨fun q => absurd q (by decide), fun _ => r_yes ⟨fun q => by omega, fun _ => ⟨fun _ => ⟨h13, p_ok hK e1⟩, fun q => absurd e q⟩⟩⟩) (fun q => by omega)⟩) (fun q => absurd h q)⟩⟩, fun e0 => ⟨fun e => ⟨hm, x_fine ⟨inI_s (by omega), c_in (fun _ => ⟨fun q => absurd q (by decide), fun _ => c_in (fun _ => ⟨fun q => absurd q (by decide), fun _ => r_yes ⟨fun q => by omega, fun _ => ⟨fun q => absurd q e0, fun _ => ⟨h13, p_ok hK e2⟩⟩⟩⟩) (fun q => by omega)⟩) (fun q => absurd h q)⟩⟩, fun e1' => ⟨fun e => x_every (by omega) ?_, fun e2' => x_refused ⟨inI_s (by omega), c_in (fun _ => ⟨fun q => absurd q (by decide), fun _ => c_in (fun q => by omega) (fun _ => ⟨fun _ => r_no (p_no hK (by decide)), fun q => absurd rfl q⟩)⟩) (fun q => absurd h q)⟩⟩⟩⟩
  rw [es]
  refine x_by hb hr n1 hg (fun r hr1 => ⟨hm, hm, ?_⟩)
  rw [show (psh s (bkM m).nt r).1.2 40 (a 1) = (bkM m).sa (a 1) from e1, show (psh s (bkM m).nt r).1.2 41 (a 1) = (bkM m).sb (a 1) from e2]
  refine x_areOne ⟨d1.1, by omega⟩ ⟨d2.1, by omega⟩ (fun e3 => ⟨fun q => absurd q (by decide), fun _ => x_fine ?_⟩) (fun e3 => ⟨fun _ => x_fine ?_, fun q => absurd rfl q⟩) <;>
  · refine ⟨inI_s (by omega), c_in (fun _ => ⟨fun q => absurd q (by decide), fun _ => c_in (fun _ => ⟨fun q => absurd q (by decide), fun _ => r_yes ⟨fun _ => c_allSames (m := mref m 0) h12 ⟨h13, h13, ?_⟩, fun q => by omega⟩⟩) (fun q => by omega)⟩) (fun q => absurd h q)⟩
    refine c_isOneBy (m := mref m 0) hb hS d1.1 d1.2 d2.1 d2.2 (fun r2 hr2 => ?_)
    have e1 := good_eq hr1 hr2 d1.1 d1.2
    have e2 := good_eq hr1 hr2 d2.1 d2.2
    have e3' : r ((bkM m).sa (a 1)) = r ((bkM m).sb (a 1)) ↔ r2 ((bkM m).sa (a 1)) = r2 ((bkM m).sb (a 1)) := by rw [e1, e2]
    by_cases q : r2 ((bkM m).sa (a 1)) = r2 ((bkM m).sb (a 1))
    · rw [show ((mref m 0).2 31 (a 1)) = (bkM m).sa (a 1) from rfl, show ((mref m 0).2 32 (a 1)) = (bkM m).sb (a 1) from rfl, if_pos q]
      refine ⟨fun q2 => absurd q2 (by decide), fun _ => ?_⟩
      first
        | exact p_by hK rfl
        | exact absurd (e3'.mpr q) e3
    · rw [show ((mref m 0).2 31 (a 1)) = (bkM m).sa (a 1) from rfl, show ((mref m 0).2 32 (a 1)) = (bkM m).sb (a 1) from rfl, if_neg q]
      refine ⟨fun _ => ?_, fun q2 => absurd rfl q2⟩
      first
        | exact p_by hK rfl
        | exact absurd (e3'.mp e3) q
