/-! THE PURE PART, 36: undo, both -/
set_option maxRecDepth 100000
theorem J_gcs {n : Nat} {s : XS} {m : MS} (h : J n s m) : gck s.1 ∧ J n (gcs s) m := by
  obtain ⟨h1, h2, ⟨a1, a3, a4, a5⟩, h4, h5, h6, h7, h8⟩ := h
  obtain ⟨p1, p2, p3, p4, p5⟩ := h6 1 (by decide)
  obtain ⟨q1, q2, q3, q4, q5⟩ := h6 2 (by decide)
  obtain ⟨r1, r2, r3, r4, r5⟩ := h6 3 (by decide)
  have p1 : s.1.1 41 = s.1.1 31 := p1
  have q1 : s.1.1 42 = s.1.1 32 := q1
  have r1 : s.1.1 43 = s.1.1 33 := r1
  obtain ⟨z1, z2, z3, z4, z5, z6, z7⟩ := a5
  have hg : ∀ j, (j < 41 ∨ 43 < j) → (j < 61 ∨ 63 < j) → (gcs s).1.1 j = s.1.1 j := fun j h1 h2 => by
    show (if j = 41 then _ else if j = 42 then _ else if j = 43 then _ else if j = 61 then _ else if j = 62 then _ else if j = 63 then _ else s.1.1 j) = s.1.1 j
    rw [if_neg (by omega), if_neg (by omega), if_neg (by omega), if_neg (by omega), if_neg (by omega), if_neg (by omega)]
  refine ⟨⟨⟨by omega, by omega, by omega⟩, p3, q3, r3⟩, h1, h2, ⟨a1, a3, a4, ⟨z1, z2, z3, ?_, z5, z6, z7⟩⟩, h4, h5, fun j hj => ?_, h7, h8⟩
  · obtain ⟨x, ⟨y1, y2, y3, y4⟩, ⟨c0, c1, c2, c3⟩, d⟩ := z4
    refine ⟨x, ⟨y1, ?_, ?_, ?_⟩, ⟨c0, ?_, ?_, ?_⟩, d⟩
    · show _ ≤ s.1.1 31; omega
    · show _ ≤ s.1.1 32; omega
    · show _ ≤ s.1.1 33; omega
    · exact ⟨c1.1, Nat.le_refl _, c1.2.2⟩
    · exact ⟨c2.1, Nat.le_refl _, c2.2.2⟩
    · exact ⟨c3.1, Nat.le_refl _, c3.2.2⟩
  · obtain ⟨v1, v2, v3, v4, v5⟩ := h6 j hj
    rw [hg (30 + j) (by omega) (by omega), hg (50 + j) (by omega) (by omega), hg (70 + j) (by omega) (by omega)]
    refine ⟨?_, v2, ?_, v4, v5⟩
    · rcases hj with rfl | rfl | rfl <;> rfl
    · rcases hj with rfl | rfl | rfl <;> exact Int.le_refl _
theorem p_undo {n : Nat} {a : Int → Int} {s : XS} {m : MS} (hJ : J (n + 1) s m) : C_law_34 a s m (J n) := by
  have hK : keepsW s m (J n) := fun s' m' h1 h2 h3 => J_down (J_keeps hJ s' m' h1 h2 h3)
  have hrows := J_rows hJ
  have hnil := JR.nil hJ.2.2.1
  have hJ0 := hJ
  obtain ⟨j1, j2, ⟨⟨a1, a2⟩, a3, a4, a5⟩, ⟨b1, b2⟩, ⟨c1, c2⟩, j6, -, -⟩ := hJ
  have hKJ := hK.x a5.2.2.2.2.2.1
  obtain ⟨z1, z2, z3, z4, z5, z6, z7⟩ := a5
  unfold C_law_34 C_X1_undo B_X1_undo_E C_undo B_undo_E
  refine ⟨fun e => ?_, fun e => ⟨inI_s (by omega), ?_⟩⟩
  · rintro _ rfl
    have h8 : (ms m 0 0).1 8 = (ms m 0 0).1 9 := by show m.1 8 = m.1 9; omega
    refine ⟨fun _ => ?_, fun q => absurd h8 q⟩
    have := J_gcs (hKJ s (ms m 0 0) eqX.rf eqM_0 j1)
    exact ⟨rfl, this.1, this.2⟩
  · rintro _ rfl
    have hi0 : 0 ≤ s.1.1 12 - 1 := by omega
    have h44 : 0 ≤ s.1.1 12 - 1 ∧ s.1.1 12 - 1 < 44 := ⟨hi0, by omega⟩
    obtain ⟨hc1, hc2, hc3, -, kk, hk, hrz⟩ := b2 (s.1.1 12 - 1) hi0 (by omega)
    have e8 : m.1 9 + (s.1.1 12 - 1) = m.1 8 - 1 := by omega
    rw [e8] at hc1 hc2 hc3 hrz
    -- the steps' facts
    have ek : (m.1 8 - 1).toNat + 1 = (m.1 8).toNat := by omega
    have hfz : fullZ (zM m (m.1 8 - 1)) := runZ_full hnil _ (fun j hj => a4 j (by omega))
    have hokw : okW (zM m (m.1 8 - 1)) (WM m (m.1 8 - 1)) := by
      have := a4 (m.1 8 - 1).toNat (by omega)
      rw [show (((m.1 8 - 1).toNat : Nat) : Int) = m.1 8 - 1 by omega] at this
      exact this
    have hZ : zM m (m.1 8) = stepZ (zM m (m.1 8 - 1)) (WM m (m.1 8 - 1)) := by
      unfold zM
      rw [← ek]
      show stepZ _ (WM m ((m.1 8 - 1).toNat : Int)) = _
      rw [show (((m.1 8 - 1).toNat : Nat) : Int) = m.1 8 - 1 by omega]
    have hst := stepZ_n hfz hokw
    rw [← hZ] at hst
    obtain ⟨s6, s7, s39, s40, s27, s30, s33⟩ := hst
    have hbs := bkSub_step hfz hokw
    rw [← hZ] at hbs
    have hw0 : WM m (m.1 8 - 1) 0 = m.2 10 (m.1 8 - 1) := rfl
    rw [hw0] at s27 s30 s33
    have hr := (RXb_ag z2 z1.1.ok).mp z4
    have x31 : s.1.1 31 = (zM m (m.1 8)).1.1 27 := hr.1.2.1
    have x32 : s.1.1 32 = (zM m (m.1 8)).1.1 30 := hr.1.2.2.1
    have x33 : s.1.1 33 = (zM m (m.1 8)).1.1 33 := hr.1.2.2.2
    have x1 : (s.2 4).1 1 = (zM m (m.1 8)).1.1 27 := z5.1
    have n12 : 0 ≤ (zM m (m.1 8 - 1)).1.1 30 := hfz.1.ok.ns.1
    have n24 : 0 ≤ (zM m (m.1 8 - 1)).1.1 27 ∧ (zM m (m.1 8 - 1)).1.1 27 ≤ 24 := hfz.1.ok.nt
    have n8 : 0 ≤ (zM m (m.1 8 - 1)).1.1 33 := hfz.1.ok.nd.1
    have c24 : 0 ≤ (zM m (m.1 8)).1.1 27 ∧ (zM m (m.1 8)).1.1 27 ≤ 24 := z1.1.ok.nt
    have c12 : 0 ≤ (zM m (m.1 8)).1.1 30 ∧ (zM m (m.1 8)).1.1 30 ≤ 12 := z1.1.ok.ns
    have c8 : 0 ≤ (zM m (m.1 8)).1.1 33 ∧ (zM m (m.1 8)).1.1 33 ≤ 8 := z1.1.ok.nd
    have e27 : m.1 27 = (zM m (m.1 8)).1.1 27 := z2.1.2.1
    -- the reference's half
    have ref : ∀ s', (∀ m', mfu m m' → m'.1 8 = m.1 8 - 1 → agB m' (zM m (m.1 8 - 1)).1 → agN m' (zM m (m.1 8 - 1)).1 → gck s'.1 ∧ J n (gcs s') m') → ∀ s1, s1 = ms m 0 0 → (s1.1 8 = s1.1 9 → (1 : Int) = 0 ∧ gck s'.1 ∧ J n (gcs s') s1) ∧ (¬ s1.1 8 = s1.1 9 → inI (s1.1 8 - 1) ∧ ∀ s5, s5 = ms s1 8 (s1.1 8 - 1) → C_makes s5 (fun s7 => (1 : Int) = 1 ∧ gck s'.1 ∧ J n (gcs s') s7)) := by
      intro s' hs'
      rintro _ rfl
      refine ⟨fun q => absurd q (by show ¬ m.1 8 = m.1 9; omega), fun _ => ⟨inI_s (show -1000000 ≤ m.1 8 - 1 ∧ m.1 8 - 1 ≤ 1000000 by omega), ?_⟩⟩
      rintro _ rfl
      refine c_makes (z0 := nilZ (m.1 6) (tkM m)) (W := WM m) (m := ms (ms m 0 0) 8 (m.1 8 - 1)) hnil ⟨rfl, rfl, rfl, rfl, rfl⟩ (fun f f0 f1 => ?_) (show 0 ≤ m.1 8 - 1 ∧ m.1 8 - 1 ≤ 96 by omega) (fun r r0 r1 => ⟨rfl, fun i i0 i1 => ?_⟩) (fun j hj => a4 j (by
        have hj : j < (m.1 8 - 1).toNat := hj
        omega)) (fun m' q1 q2 q3 => ?_)
      · show m.2 7 f = tkM m f
        exact (if_pos ⟨f0, f1⟩).symm
      · show m.2 11 (4 * r + i) = WM m r (1 + i)
        unfold WM
        rw [if_neg (by omega), if_pos (by omega), show 1 + i - 1 = i by omega]
      · refine ⟨rfl, hs' m' ⟨fun k k0 k8 k27 k30 k33 k39 => ?_, fun k hk => q3.2 k hk⟩ (q3.1 8 (by decide) (by decide) (by decide) (by decide) (by decide)) q1 q2⟩
        rw [q3.1 k k0 k27 k30 k33 k39]
        show (if k = 8 then _ else if k = 0 then _ else m.1 k) = m.1 k
        rw [if_neg k8, if_neg k0]
    have h0t : 0 ≤ s.1.2 10 (s.1.1 12 - 1) := hc3.1
    obtain ⟨p1, p2, p3, p4, p5⟩ := j6 1 (by decide)
    obtain ⟨q1, q2, q3, q4, q5⟩ := j6 2 (by decide)
    obtain ⟨r1, r2, r3, r4, r5⟩ := j6 3 (by decide)
    refine ⟨h44, ?_⟩
    refine x_goesBack (s := xs s 12 (s.1.1 12 - 1)) h0t kk z6 (by show trl s = _; exact hk.symm) ⟨h44, ?_⟩
    rintro _ rfl
    refine ⟨h44, ?_⟩
    -- the state then
    have hb1 : ∀ i, i ≠ 12 → (ys (backX (xs s 12 (s.1.1 12 - 1)) kk) 4 10 (s.1.2 11 (s.1.1 12 - 1))).1.1 i = s.1.1 i := fun i hi => if_neg hi
    have hkind : (ys (backX (xs s 12 (s.1.1 12 - 1)) kk) 4 10 (s.1.2 11 (s.1.1 12 - 1))).1.2 9 (s.1.1 12 - 1) = kindX (m.2 10 (m.1 8 - 1)) := hc1
    show ((ys (backX (xs s 12 (s.1.1 12 - 1)) kk) 4 10 (s.1.2 11 (s.1.1 12 - 1))).1.2 9 (s.1.1 12 - 1) = 0 → _) ∧ (¬ (ys (backX (xs s 12 (s.1.1 12 - 1)) kk) 4 10 (s.1.2 11 (s.1.1 12 - 1))).1.2 9 (s.1.1 12 - 1) = 0 → _)
    rw [hkind]
    have hk0 : kindX (m.2 10 (m.1 8 - 1)) = 0 ↔ m.2 10 (m.1 8 - 1) = 1 := by
      unfold kindX
      by_cases e0 : m.2 10 (m.1 8 - 1) = 0
      · rw [if_pos e0]; omega
      · rw [if_neg e0]
        by_cases e1 : m.2 10 (m.1 8 - 1) = 1
        · rw [if_pos e1]; omega
        · rw [if_neg e1]; omega
    have hk1 : kindX (m.2 10 (m.1 8 - 1)) = 1 ↔ (m.2 10 (m.1 8 - 1) ≠ 0 ∧ m.2 10 (m.1 8 - 1) ≠ 1) := by
      unfold kindX
      by_cases e0 : m.2 10 (m.1 8 - 1) = 0
      · rw [if_pos e0]; omega
      · rw [if_neg e0]
        by_cases e1 : m.2 10 (m.1 8 - 1) = 1
        · rw [if_pos e1]; omega
        · rw [if_neg e1]; omega
    have ht : trl (ys (backX (xs s 12 (s.1.1 12 - 1)) kk) 4 10 (s.1.2 11 (s.1.1 12 - 1))) = s.1.2 10 (s.1.1 12 - 1) := by
      show trl s - 3 * (kk : Int) = _
      omega
    have hgz : good (bkM (zM m (m.1 8)).1) ((zM m (m.1 8)).1.1 27) E0 ((s.2 2).2 0) := good_ga z2 z1.1.ok (Int.le_refl _) (by rw [← e27]; exact c2)
    have hbare : (zM m (m.1 8 - 1)).1.1 27 = (zM m (m.1 8)).1.1 27 → (s.2 2).1 1 = (zM m (m.1 8 - 1)).1.1 27 ∧ good (bkM (zM m (m.1 8 - 1)).1) ((zM m (m.1 8 - 1)).1.1 27) E0 ((s.2 2).2 0) := fun e => ⟨by rw [e, ← e27]; exact c1, good_sub hfz.1.ok z1.1.ok (Int.le_refl _) hbs (by rw [e]; exact hgz)⟩
    have xk2 : xok s 2 := hr.2.2.1.2.2.1
    have xk3 : xok s 3 := hr.2.2.1.2.2.2
    have xk1 : xok s 1 := hr.2.2.1.2.1
    refine ⟨fun e => x_sames ?_, fun e => ⟨h44, fun e1 => ?_, fun e1 => x_terms ?_⟩⟩
    · have e := hk0.mp e
      rw [if_neg (by omega)] at s27
      rw [if_pos e] at s30
      rw [if_neg (fun q => q.2 e)] at s33
      refine ⟨inI_s (show -1000000 ≤ s.1.1 32 - 1 ∧ s.1.1 32 - 1 ≤ 1000000 by omega), ⟨rfl, show 0 < s.1.1 32 by omega, xok_o xk2 rfl rfl rfl, show -1000000 ≤ s.1.1 72 by have q4 : 0 ≤ s.1.1 72 := q4; omega, show s.1.1 72 ≤ 1000000 by have q5 : s.1.1 72 + ((n + 1 : Nat) : Int) ≤ 1000 := q5; omega⟩, ?_⟩
      rintro _ rfl
      refine ref _ (fun m' y1 y2 y3 y4 => J_undo (i := s.1.1 12 - 1) (kk := kk) hJ0 rfl hi0 hk hrz y1 y2 y3 y4 (fun j f1 f2 f3 => ?_) rfl rfl (fun j hj => ?_) ⟨?_, ?_, ?_⟩ ⟨?_, ?_, ht, rfl, rfl⟩ ?_)
      · show (if j = 70 + 2 then _ else if j = 30 + 2 then _ else if j = 12 then _ else s.1.1 j) = s.1.1 j
        rw [if_neg (by omega), if_neg (by omega), if_neg f1]
      · rcases hj with rfl | rfl | rfl
        · show s.1.1 71 ≤ s.1.1 71 ∧ s.1.1 71 ≤ s.1.1 71 + 1; omega
        · show s.1.1 72 ≤ s.1.1 72 + 1 ∧ s.1.1 72 + 1 ≤ s.1.1 72 + 1; omega
        · show s.1.1 73 ≤ s.1.1 73 ∧ s.1.1 73 ≤ s.1.1 73 + 1; omega
      · show s.1.1 31 = _; omega
      · show s.1.1 32 - 1 = _; omega
      · show s.1.1 33 = _; omega
      · show (s.2 4).1 1 = _; omega
      · exact hc2
      · exact hbare (by omega)
    · have e1 := hk1.mp (hkind.symm.trans e1)
      rw [if_neg e1.1] at s27
      rw [if_neg e1.2] at s30
      rw [if_pos e1] at s33
      refine ⟨inI_s (show -1000000 ≤ s.1.1 33 - 1 ∧ s.1.1 33 - 1 ≤ 1000000 by omega), ⟨rfl, show 0 < s.1.1 33 by omega, xok_o xk3 rfl rfl rfl, show -1000000 ≤ s.1.1 73 by have r4 : 0 ≤ s.1.1 73 := r4; omega, show s.1.1 73 ≤ 1000000 by have r5 : s.1.1 73 + ((n + 1 : Nat) : Int) ≤ 1000 := r5; omega⟩, ?_⟩
      rintro _ rfl
      refine ref _ (fun m' y1 y2 y3 y4 => J_undo (i := s.1.1 12 - 1) (kk := kk) hJ0 rfl hi0 hk hrz y1 y2 y3 y4 (fun j f1 f2 f3 => ?_) rfl rfl (fun j hj => ?_) ⟨?_, ?_, ?_⟩ ⟨?_, ?_, ht, rfl, rfl⟩ ?_)
      · show (if j = 70 + 3 then _ else if j = 30 + 3 then _ else if j = 12 then _ else s.1.1 j) = s.1.1 j
        rw [if_neg (by omega), if_neg (by omega), if_neg f1]
      · rcases hj with rfl | rfl | rfl
        · show s.1.1 71 ≤ s.1.1 71 ∧ s.1.1 71 ≤ s.1.1 71 + 1; omega
        · show s.1.1 72 ≤ s.1.1 72 ∧ s.1.1 72 ≤ s.1.1 72 + 1; omega
        · show s.1.1 73 ≤ s.1.1 73 + 1 ∧ s.1.1 73 + 1 ≤ s.1.1 73 + 1; omega
      · show s.1.1 31 = _; omega
      · show s.1.1 32 = _; omega
      · show s.1.1 33 - 1 = _; omega
      · show (s.2 4).1 1 = _; omega
      · exact hc2
      · exact hbare (by omega)
    · have e0 : m.2 10 (m.1 8 - 1) = 0 := by
        by_cases q0 : m.2 10 (m.1 8 - 1) = 0
        · exact q0
        · by_cases q1 : m.2 10 (m.1 8 - 1) = 1
          · exact absurd (hk0.mpr q1) e
          · exact absurd (hkind.trans (hk1.mpr ⟨q0, q1⟩)) e1
      rw [if_pos e0] at s27
      rw [if_neg (by omega)] at s30
      rw [if_neg (fun q => q.1 e0)] at s33
      refine ⟨inI_s (show -1000000 ≤ s.1.1 31 - 1 ∧ s.1.1 31 - 1 ≤ 1000000 by omega), ⟨rfl, show 0 < s.1.1 31 by omega, xok_o xk1 rfl rfl rfl, show -1000000 ≤ s.1.1 71 by have p4 : 0 ≤ s.1.1 71 := p4; omega, show s.1.1 71 ≤ 1000000 by have p5 : s.1.1 71 + ((n + 1 : Nat) : Int) ≤ 1000 := p5; omega⟩, ?_⟩
      rintro _ rfl
      refine ⟨inI_s (show -1000000 ≤ (s.2 4).1 1 - 1 ∧ (s.2 4).1 1 - 1 ≤ 1000000 by omega), ?_⟩
      rintro _ rfl
      have hrx : RXb (bkM (zM m (m.1 8 - 1)).1) (ys ((yr (ys (backX (xs s 12 (s.1.1 12 - 1)) kk) 4 10 (s.1.2 11 (s.1.1 12 - 1))).1 1, (ys (backX (xs s 12 (s.1.1 12 - 1)) kk) 4 10 (s.1.2 11 (s.1.1 12 - 1))).2) : XS) 4 1 ((s.2 4).1 1 - 1)) := by
        refine RXb_sub (s := s) hfz.1.ok hbs hr ⟨?_, ?_, ?_, ?_⟩ ⟨?_, ?_, ?_, ?_⟩ ⟨xok_o hr.2.2.1.1 rfl rfl rfl, ⟨?_, xk1.2⟩, xok_o xk2 rfl rfl rfl, xok_o xk3 rfl rfl rfl⟩ rfl
        · show s.1.1 30 = _; rw [hr.1.1]; exact hbs.1.1.symm
        · show s.1.1 31 - 1 = (zM m (m.1 8 - 1)).1.1 27; omega
        · show s.1.1 32 = (zM m (m.1 8 - 1)).1.1 30; omega
        · show s.1.1 33 = (zM m (m.1 8 - 1)).1.1 33; omega
        · show _ ≤ s.1.1 40; rw [hbs.1.1]; exact hr.2.1.1
        · show (zM m (m.1 8 - 1)).1.1 27 ≤ s.1.1 41
          have : s.1.1 41 = s.1.1 31 := p1
          omega
        · show (zM m (m.1 8 - 1)).1.1 30 ≤ s.1.1 42
          have : s.1.1 42 = s.1.1 32 := q1
          omega
        · show (zM m (m.1 8 - 1)).1.1 33 ≤ s.1.1 43
          have : s.1.1 43 = s.1.1 33 := r1
          omega
        · show s.1.1 31 - 1 ≤ (xcap 1 (s.1.1 51).toNat : Int)
          have : s.1.1 31 ≤ (xcap 1 (s.1.1 51).toNat : Int) := xk1.1
          omega
      refine x_lays hfz.1.ok hrx (fun s' f1 f2 f3 => ?_)
      have f4 := f1.2 4 (by decide)
      refine ref s' (fun m' y1 y2 y3 y4 => J_undo (i := s.1.1 12 - 1) (kk := kk) hJ0 rfl hi0 hk hrz y1 y2 y3 y4 (fun j g1 g2 g3 => ?_) ?_ ?_ (fun j hj => ?_) ⟨?_, ?_, ?_⟩ ⟨?_, ?_, ?_, ?_, ?_⟩ ⟨f2, f3⟩)
      · rw [f1.1]
        show (if j = 70 + 1 then _ else if j = 30 + 1 then _ else if j = 12 then _ else s.1.1 j) = s.1.1 j
        rw [if_neg (by omega), if_neg (by omega), if_neg g1]
      · rw [f1.1]; rfl
      · rw [f1.1]; rfl
      · rw [f1.1]
        rcases hj with rfl | rfl | rfl
        · show s.1.1 71 ≤ s.1.1 71 + 1 ∧ s.1.1 71 + 1 ≤ s.1.1 71 + 1; omega
        · show s.1.1 72 ≤ s.1.1 72 ∧ s.1.1 72 ≤ s.1.1 72 + 1; omega
        · show s.1.1 73 ≤ s.1.1 73 ∧ s.1.1 73 ≤ s.1.1 73 + 1; omega
      · rw [f1.1]; show s.1.1 31 - 1 = _; omega
      · rw [f1.1]; show s.1.1 32 = _; omega
      · rw [f1.1]; show s.1.1 33 = _; omega
      · rw [f4]; show (s.2 4).1 1 - 1 = _; omega
      · rw [f4]; exact hc2
      · show (s'.2 4).1 3 = _
        rw [f4]; exact ht
      · show ((s'.2 4).1 20).toNat = _
        rw [f4]; rfl
      · rw [f4]; rfl
