/-! THE PURE PART, 9: questions about the book -/
set_option maxRecDepth 100000
theorem p_partOf {a : Int → Int} {s : XS} {m : MS} {KN : XS → MS → Prop} (hB : JB s m) (hK : keepsJ s m KN) : C_law_7 a s m KN := by
  obtain ⟨hb, hr⟩ := hB
  have h24 := hb.nt
  have hnt : (bkM m).nt = m.1 27 := rfl
  obtain ⟨⟨x1, x2, x3, x4⟩, ⟨y1, y2, y3, y4⟩, ⟨c1, c2, c3, c4⟩, -, ht, -⟩ := hr
  unfold C_law_7 C_X1_partOf B_X1_partOf_E C_partOf B_partOf_E
  refine x_isTerm1 (by omega) (fun h => ⟨fun q => absurd q (by decide), fun _ => ⟨fun h0 => ?_, fun h0 => x_refused ?_⟩⟩) (fun h => ⟨fun _ => x_refused ?_, fun q => absurd rfl q⟩)
  · obtain ⟨e1, e2, e3⟩ := ht (a 1) h.1 (by omega)
    have f1 := hb.fn (a 1) h.1 (by omega)
    have f2 := hb.tk _ f1.1 f1.2
    have hm : 0 ≤ a 1 ∧ a 1 < s.1.1 41 := ⟨h.1, by omega⟩
    rw [e2]
    refine ⟨⟨⟨h.1, by omega⟩, c2⟩, hm, hm, ⟨hm, f2.1, by omega⟩, fun q => x_fine ?_, fun q => ⟨⟨hm, h0, by omega⟩, x_fine ?_⟩⟩
    · refine c_isTerm h24 (fun _ => ⟨fun q => absurd q (by decide), fun _ => ⟨fun q => absurd h0 (by omega), fun _ => r_yes (c_takesOf (s := mref m 0) hb h.1 (by show a 1 < (bkM m).nt; omega) ⟨fun _ => p_ok hK rfl, fun q2 => absurd q q2⟩)⟩⟩) (fun q => absurd ⟨h.1, by omega⟩ q)
    · have hk : a 2 < (bkM m).tk ((bkM m).fn (a 1)) := by omega
      refine c_isTerm h24 (fun _ => ⟨fun q => absurd q (by decide), fun _ => ⟨fun q => absurd h0 (by omega), fun _ => r_yes (c_takesOf (s := mref m 0) hb h.1 (by show a 1 < (bkM m).nt; omega) ⟨fun q2 => absurd q2 q, fun _ => ⟨inI_s (by omega), inI_s (by omega), ⟨by omega, by omega⟩, p_ok hK (e3 (a 2) h0 hk)⟩⟩)⟩⟩) (fun q => absurd ⟨h.1, by omega⟩ q)
  · exact c_isTerm h24 (fun _ => ⟨fun q => absurd q (by decide), fun _ => ⟨fun _ => r_no (p_no hK (by decide)), fun q => absurd (by omega) q⟩⟩) (fun q => absurd ⟨h.1, by omega⟩ q)
  · exact c_isTerm h24 (fun q => absurd ⟨q.1, by omega⟩ h) (fun _ => ⟨fun _ => r_no (p_no hK (by decide)), fun q => absurd rfl q⟩)
theorem p_diffOf {a : Int → Int} {s : XS} {m : MS} {KN : XS → MS → Prop} (hB : JB s m) (hN : JN s m) (hK : keepsJ s m KN) : C_law_9 a s m KN := by
  obtain ⟨hb, hr⟩ := hB
  have h24 := hb.nt
  have h8 := hb.nd
  have hnt : (bkM m).nt = m.1 27 := rfl
  have hnd : (bkM m).nd = m.1 33 := rfl
  obtain ⟨⟨x1, x2, x3, x4⟩, ⟨y1, y2, y3, y4⟩, ⟨c1, c2, c3, c4⟩, -, -, -, hd⟩ := hr
  obtain ⟨n1, n2, n3, n4⟩ := hN
  unfold C_law_9 C_X1_diffOf B_X1_diffOf_E C_diffOf B_diffOf_E
  rw [x4]
  refine ⟨inI_s (by omega), x_isIn (fun h => ⟨fun q => absurd q (by decide), fun _ => ?_⟩) (fun h => ⟨fun _ => x_refused ⟨inI_s (by omega), c_in (fun q => absurd q h) (fun _ => ⟨fun _ => r_no (p_no hK (by decide)), fun q => absurd rfl q⟩)⟩, fun q => absurd rfl q⟩)⟩
  obtain ⟨e1, e2⟩ := hd (a 1) h.1 (by omega)
  have d1 := hb.da (a 1) h.1 (by omega)
  have d2 := hb.db (a 1) h.1 (by omega)
  have hm : 0 ≤ a 1 ∧ a 1 < s.1.1 43 := ⟨h.1, by omega⟩
  have h8' : 0 ≤ a 1 ∧ a 1 < 8 := ⟨h.1, by omega⟩
  have q1 : 0 ≤ m.2 34 (a 1) ∧ m.2 34 (a 1) < 24 := ⟨d1.1, by have : m.2 34 (a 1) < (bkM m).nt := d1.2; omega⟩
  have q2 : 0 ≤ m.2 35 (a 1) ∧ m.2 35 (a 1) < 24 := ⟨d2.1, by have : m.2 35 (a 1) < (bkM m).nt := d2.2; omega⟩
  have r1 := (n2 _ d1.1 d1.2).1
  have r2 := (n2 _ d2.1 d2.2).1
  rw [e1, e2]
  refine ⟨⟨⟨h.1, by omega⟩, c4⟩, hm, fun e => ⟨hm, x_fine ⟨inI_s (by omega), c_in (fun _ => ⟨fun q => absurd q (by decide), fun _ => c_in (fun _ => ⟨fun q => absurd q (by decide), fun _ => r_yes ⟨fun q => by omega, fun _ => ⟨fun _ => ⟨h8', p_ok hK rfl⟩, fun q => absurd e q⟩⟩⟩) (fun q => by omega)⟩) (fun q => absurd h q)⟩⟩, fun e0 => ⟨fun e => ⟨hm, x_fine ⟨inI_s (by omega), c_in (fun _ => ⟨fun q => absurd q (by decide), fun _ => c_in (fun _ => ⟨fun q => absurd q (by decide), fun _ => r_yes ⟨fun q => by omega, fun _ => ⟨fun q => absurd q e0, fun _ => ⟨h8', p_ok hK rfl⟩⟩⟩⟩) (fun q => by omega)⟩) (fun q => absurd h q)⟩⟩, fun e1 => ⟨fun e => ⟨hm, hm, ?_⟩, fun e2 => x_refused ⟨inI_s (by omega), c_in (fun _ => ⟨fun q => absurd q (by decide), fun _ => c_in (fun q => by omega) (fun _ => ⟨fun _ => r_no (p_no hK (by decide)), fun q => absurd rfl q⟩)⟩) (fun q => absurd h q)⟩⟩⟩⟩
  refine x_areOne q1 q2 (fun e3 => ⟨fun q => absurd q (by decide), fun _ => x_fine ?_⟩) (fun e3 => ⟨fun _ => x_fine ?_, fun q => absurd rfl q⟩) <;>
  · refine ⟨inI_s (by omega), c_in (fun _ => ⟨fun q => absurd q (by decide), fun _ => c_in (fun _ => ⟨fun q => absurd q (by decide), fun _ => r_yes ⟨fun _ => ⟨h8', q1, h8', q2, fun q => ?_, fun q => ?_⟩, fun q => by omega⟩⟩) (fun q => by omega)⟩) (fun q => absurd h q)⟩
    · first
        | exact p_ok hK rfl
        | exact absurd (r1.trans ((show m.2 36 ((bkM m).da (a 1)) = m.2 36 ((bkM m).db (a 1)) from q).trans r2.symm)) e3
    · first
        | exact p_ok hK rfl
        | exact absurd (r1.symm.trans ((show (s.2 4).2 0 ((bkM m).da (a 1)) = (s.2 4).2 0 ((bkM m).db (a 1)) from e3).trans r2)) q
