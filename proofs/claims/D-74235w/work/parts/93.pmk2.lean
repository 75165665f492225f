/-! THE PURE PART, 34: make, both -/
set_option maxRecDepth 100000
theorem RN_4 {s s' : XS} {z : ZS} (h : s'.2 4 = s.2 4) (g : RN s z) : RN s' z := by unfold RN at g ⊢; rw [h]; exact g
theorem Tr_4 {s s' : XS} (h : s'.2 4 = s.2 4) (g : Tr s) : Tr s' := by unfold Tr trl trT xq at g ⊢; rw [h]; exact g
theorem TB_4 {s s' : XS} {z : ZS} (h : s'.2 4 = s.2 4) (g : TB s z) : TB s' z := by unfold TB trl at g ⊢; rw [h]; exact g
theorem hstX_4 {s s' : XS} {to : Int} {z : ZS} (h : s'.2 4 = s.2 4) (g : hstX s to z) : hstX s' to z := by unfold hstX trl trT xq at g ⊢; rw [h]; exact g
theorem all3_iup {b c d : Int} {k : Int} : iup (iup (iup (fun _ => (0 : Int)) 0 b) 1 c) 2 d k = all3 b c d k := by
  show (if k = 2 then d else if k = 1 then c else if k = 0 then b else 0) = (if k = 0 then b else if k = 1 then c else if k = 2 then d else 0)
  by_cases e0 : k = 0
  · rw [if_pos e0, if_neg (by omega), if_neg (by omega), if_pos e0]
  · by_cases e1 : k = 1
    · rw [if_neg (show ¬ k = 2 by omega), if_pos e1, if_neg e0, if_pos e1]
    · by_cases e2 : k = 2
      · rw [if_pos e2, if_neg e0, if_neg e1, if_pos e2]
      · rw [if_neg e2, if_neg e1, if_neg e0, if_neg e0, if_neg e1, if_neg e2]
/-- parts copied below a place -/
def PX (b c d k : Int) : Int → Int := fun i => if 0 ≤ i ∧ i < k then all3 b c d i else 0
theorem p_make {n : Nat} {a : Int → Int} {s : XS} {m : MS} (hJ : J (n + 1) s m) : C_law_33 a s m (J n) := by
  have hK : keepsW s m (J n) := fun s' m' h1 h2 h3 => J_down (J_keeps hJ s' m' h1 h2 h3)
  have hrows := J_rows hJ
  have hJ0 := hJ
  obtain ⟨j1, j2, ⟨⟨a1, a2⟩, a3, a4, a5⟩, ⟨b1, b2⟩, ⟨c1, c2⟩, j6, -, -⟩ := hJ
  have hKJ := hK.x a5.2.2.2.2.2.1
  obtain ⟨hb, hr⟩ := a5.b
  obtain ⟨z1, z2, z3, z4, z5, z6, z7⟩ := a5
  have h24 : 0 ≤ m.1 27 ∧ m.1 27 ≤ 24 := hb.nt
  have h12 : 0 ≤ m.1 30 ∧ m.1 30 ≤ 12 := hb.ns
  have h8 : 0 ≤ m.1 33 ∧ m.1 33 ≤ 8 := hb.nd
  have hf8 : 0 ≤ m.1 6 ∧ m.1 6 ≤ 8 := hb.nf
  have ex : s.1.1 31 = m.1 27 := hr.1.2.1
  have ef : s.1.1 30 = m.1 6 := hr.1.1
  have hf40 : m.1 6 ≤ s.1.1 40 := hr.2.1.1
  have e27 : m.1 27 = (zM m (m.1 8)).1.1 27 := z2.1.2.1
  have e6 : m.1 6 = (zM m (m.1 8)).1.1 6 := z2.1.1
  obtain ⟨l1, l2, l3, l4, l5⟩ := j6 1 (by decide)
  have l1 : s.1.1 41 = s.1.1 31 := l1
  have l2 : 0 ≤ s.1.1 51 ∧ s.1.1 51 ≤ 3 := l2
  have l3 : s.1.1 61 ≤ s.1.1 51 := l3
  have l4 : 0 ≤ s.1.1 71 := l4
  have l5 : s.1.1 71 + ((n + 1 : Nat) : Int) ≤ 1000 := l5
  by_cases hv : 0 ≤ a 1 ∧ a 1 < m.1 6
  · have etk : s.1.2 31 (a 1) = m.2 7 (a 1) := hr.2.2.2.1 (a 1) hv.1 hv.2
    have htk : 0 ≤ m.2 7 (a 1) ∧ m.2 7 (a 1) ≤ 3 := hb.tk (a 1) hv.1 hv.2
    have eztk : m.2 7 (a 1) = (zM m (m.1 8)).1.2 7 (a 1) := z2.2.1 (a 1) hv.1 (by omega)
    -- the parts copied
    have walk : ∀ (kc ks : Nat) (K : Int → XS → Prop) (X : Int → Int → (Int → Int) → (Int → Int) → Int → Nat → Nat → XS → Prop), (∀ x1 x5 x6 x7 x8 kc ks s0, B_X1_make_76 X K x1 x5 x6 x7 x8 kc ks (s.1.1 41).toNat s0 → X x1 x5 x6 x7 x8 kc ks s0) → (∀ P : Int → Int, P = PX (a 2) (a 3) (a 4) (m.2 7 (a 1)) → B_X1_make_76 X K (a 1) (a 1) (iup (iup (iup (fun _ => 0) 0 (a 2)) 1 (a 3)) 2 (a 4)) P (m.2 7 (a 1)) kc ks (s.1.1 41).toNat s) → X (a 1) (a 1) (iup (iup (iup (fun _ => 0) 0 (a 2)) 1 (a 3)) 2 (a 4)) (fun _ => 0) 0 kc ks s := by
      intro kc ks K X hX hend
      have L : ∀ k, 0 ≤ k → k ≤ m.2 7 (a 1) → X (a 1) (a 1) (iup (iup (iup (fun _ => 0) 0 (a 2)) 1 (a 3)) 2 (a 4)) (PX (a 2) (a 3) (a 4) k) k kc ks s := by
        refine upto (fun k k0 k1 ih => hX _ _ _ _ _ _ _ _ ?_)
        by_cases e : k = m.2 7 (a 1)
        · rw [e]; exact hend _ rfl
        · unfold B_X1_make_76
          rw [etk]
          refine ⟨by omega, fun q => by omega, fun _ => ⟨⟨k0, by omega⟩, ⟨k0, by omega⟩, inI_s (by omega), ?_⟩⟩
          have e3 : iup (PX (a 2) (a 3) (a 4) k) k (iup (iup (iup (fun _ => 0) 0 (a 2)) 1 (a 3)) 2 (a 4) k) = PX (a 2) (a 3) (a 4) (k + 1) := by
            funext i
            unfold PX
            by_cases e2 : i = k
            · rw [e2, iup_at, all3_iup, if_pos (by omega)]
            · rw [iup_ne e2]
              by_cases e4 : 0 ≤ i ∧ i < k
              · rw [if_pos e4, if_pos (by omega)]
              · rw [if_neg e4, if_neg (by omega)]
          rw [e3]
          exact ih (by omega)
      have e0 : PX (a 2) (a 3) (a 4) 0 = fun _ => 0 := funext fun i => if_neg (by omega)
      have := L 0 (by omega) htk.1
      rw [e0] at this
      exact this
    have hPX : ∀ P : Int → Int, P = PX (a 2) (a 3) (a 4) (m.2 7 (a 1)) → ∀ k, 0 ≤ k → k < m.2 7 (a 1) → P k = all3 (a 2) (a 3) (a 4) k := fun P hP k k0 k1 => by rw [hP]; exact if_pos ⟨k0, k1⟩
    have hin : 0 ≤ a 1 ∧ a 1 ≤ s.1.1 30 - 1 := ⟨hv.1, by omega⟩
    have m41 : 0 ≤ a 1 ∧ a 1 < s.1.1 40 := ⟨hv.1, by omega⟩
    by_cases hp : ∀ k, 0 ≤ k → k < m.2 7 (a 1) → 0 ≤ all3 (a 2) (a 3) (a 4) k ∧ all3 (a 2) (a 3) (a 4) k < m.1 27
    · by_cases hfull : m.1 27 = 24
      · refine ⟨10, 20, ⟨by decide, by decide⟩, ?_⟩
        intro X hX
        refine ⟨inI_s (by omega), x_isIn (fun _ => ⟨fun q => absurd q (by decide), fun _ => ⟨⟨⟨hv.1, by omega⟩, hr.2.2.1.1⟩, m41, ⟨by decide, by decide⟩, m41, ⟨by rw [etk]; omega, by decide, by rw [etk]; omega⟩, ?_⟩⟩) (fun q => absurd hin q)⟩
        refine walk _ _ _ X hX (fun P hP => ?_)
        unfold B_X1_make_76
        rw [etk]
        refine ⟨by omega, fun _ => ⟨by omega, ?_⟩, fun q => by omega⟩
        refine x_isTerm (by omega) (by omega) (fun _ => ⟨fun q => absurd q (by decide), fun _ => x_terms ⟨fun _ => x_refused ⟨⟨Int.le_refl _, Nat.le_refl _⟩, ?_⟩, fun q => absurd (by rw [ex]; exact hfull) q⟩⟩) (fun q => absurd (fun k k0 k1 => by rw [hPX P hP k k0 (by omega), ex]; exact hp k k0 (by omega)) q)
        exact c_makeL hb (fun q => absurd ⟨hv, hp⟩ q) (fun _ _ => ⟨rfl, hKJ _ _ eqX_o eqM_ref (JT_ref (by decide))⟩) (fun _ q => absurd hfull q)
      · -- the act
        have hokw : okW (zM m (m.1 8)) (rowW 0 (a 1) (a 2) (a 3) (a 4)) := ⟨fun _ => ⟨by omega, ⟨hv.1, show a 1 < (zM m (m.1 8)).1.1 6 by omega⟩, fun k k0 k1 => by
            have k1 : k < (zM m (m.1 8)).1.2 7 (a 1) := k1
            rw [rowW_all ⟨k0, by omega⟩, ← e27]; exact hp k k0 (by omega)⟩, fun q => absurd (show (0 : Int) = 1 from q) (by decide), fun q => absurd rfl q⟩
        have hzp := (hokw.1 rfl).2.2
        have hT := termZ_wf (f := a 1) (p := fun k => rowW 0 (a 1) (a 2) (a 3) (a 4) (2 + k)) z1.1 (by omega) ⟨hv.1, by omega⟩ hzp
        have hrz : RXb (bkM (zM m (m.1 8)).1) s := (RXb_ag z2 z1.1.ok).mp hr
        have hrA : RXb (bkM (zM m (m.1 8)).1) (sAct s 2) := RXb_act hrz
        obtain ⟨g1, g2, g3, g4, g5, g6⟩ := grow_1 l2 (show s.1.1 31 < 24 by omega) (hr.2.2.1.2.1.1)
        have hr20 := RXb_term (s := sAct s 2) (nm := 0) (f := a 1) (n := m.2 7 (a 1)) (p := fun k => rowW 0 (a 1) (a 2) (a 3) (a 4) (2 + k)) (P := PX (a 2) (a 3) (a 4) (m.2 7 (a 1))) z1.1.ok (by omega) ⟨hv.1, by omega⟩ eztk (fun k k0 k1 => by rw [hPX _ rfl k k0 (by omega)]; exact (rowW_all ⟨k0, by omega⟩).symm) hrA l1 l2
        obtain ⟨s23, q1, q2, q3, q4⟩ := rn_comes (s := (yf1 (sAct s 2).1 0 (a 1) (m.2 7 (a 1)) (PX (a 2) (a 3) (a 4) (m.2 7 (a 1))), s.2)) z1.1 hT (subB_self hT.ok) hr20 z6 z5 z7 (by omega)
        have hx5 := xtl_6 (q := xq s) q2.2.2.2.2.2.2.1
        have hm5 := q2.2.2.2.2.2.2.1
        have hcl := closeZ_spec 24 _ hT (gr24 hT)
        refine ⟨xq s23 - xq s + 4, xtl (xq s23 + 1) - xtl (xq s + 1) + al_N (xcap 1 (s.1.1 51).toNat) + 7 + (m.2 7 (a 1)).toNat, ⟨by show _ ≤ 40000; omega, by show _ ≤ 200000; omega⟩, ?_⟩
        intro X hX
        refine ⟨inI_s (by omega), x_isIn (fun _ => ⟨fun q => absurd q (by decide), fun _ => ⟨⟨⟨hv.1, by omega⟩, hr.2.2.1.1⟩, m41, ⟨by omega, by omega⟩, m41, ⟨by rw [etk]; omega, by omega, by rw [etk]; omega⟩, ?_⟩⟩) (fun q => absurd hin q)⟩
        refine walk _ _ _ X hX (fun P hP => ?_)
        unfold B_X1_make_76
        rw [etk, hP]
        refine ⟨by omega, fun _ => ⟨by omega, ?_⟩, fun q => by omega⟩
        refine x_isTerm (by omega) (by omega) (fun _ => ⟨fun q => absurd q (by decide), fun _ => x_terms ⟨fun q => absurd (by rw [← ex]; exact q) hfull, fun _ => x_acts ⟨by omega, by omega⟩ ?_⟩⟩) (fun q => absurd (fun k k0 k1 => by rw [hPX _ rfl k k0 (by omega), ex]; exact hp k k0 (by omega)) q)
        have hbk : (bkc 1 (sAct s 2).1 ∧ bkm 1 (sAct s 2).1) := ⟨⟨⟨by show 0 ≤ s.1.1 31; omega, l2.1⟩, hrA.2.2.1.2.1, g5, ⟨by show -1000000 ≤ s.1.1 71; omega, by show s.1.1 71 ≤ 1000000; omega⟩⟩, l1⟩
        refine ⟨⟨⟨l1, rfl⟩, by omega, by omega⟩, ⟨l1, rfl⟩, ⟨hbk, by omega, by show al_N (xcap 1 (s.1.1 51).toNat) ≤ _; omega⟩, ?_⟩
        rintro _ rfl
        refine ⟨xq s23 - xq s, xtl (xq s23 + 1) - xtl (xq s + 1), by omega, by show _ ≤ _ - al_N (xcap 1 (s.1.1 51).toNat); omega, q1.2 _ _ _ (Nat.le_refl _) (Nat.le_refl _) ?_⟩
        refine x_lays hT.ok (hr20.pt q2) (fun s29 p1 p2 p3 => x_terms ?_)
        have e1 : s29.1 = yf1 (sAct s 2).1 0 (a 1) (m.2 7 (a 1)) (PX (a 2) (a 3) (a 4) (m.2 7 (a 1))) := p1.1.trans q2.1.1
        have e4 : s29.2 4 = s23.2 4 := p1.2 4 (by decide)
        have e31 : s29.1.1 31 = m.1 27 + 1 := by rw [e1, ← ex]; rfl
        rw [e31]
        refine ⟨inI_s (by omega), x_fine (c_makeL hb (fun q => absurd ⟨hv, hp⟩ q) (fun _ q => absurd q hfull) (fun _ _ => ?_))⟩
        refine c_acts (m := mref m 0) z1 z2 z3 (show 0 ≤ m.1 8 ∧ m.1 8 < 96 by omega) hokw (fun m1 u1 u2 u3 => ?_)
        have u1' := u1
        rw [stepZ_term] at u1'
        have m27 : m1.1 27 = m.1 27 + 1 := by
          have := u1'.1.2.1
          rw [hcl.2.2.1.1 27 (by decide)] at this
          have h2 : m1.1 27 = (zM m (m.1 8)).1.1 27 + 1 := this
          omega
        rw [m27]
        refine ⟨inI_s (by omega), rfl, ?_⟩
        have hJ' : J (n + 1) (xfin s) (mref m 0) := J_keeps hJ0 _ _ (eqX_o.w z6) eqM_ref JT_fine
        have ebk : bkM (stepZ (zM m (m.1 8)) (rowW 0 (a 1) (a 2) (a 3) (a 4))).1 = bkM (termZ (zM m (m.1 8)) (a 1) (fun k => rowW 0 (a 1) (a 2) (a 3) (a 4) (2 + k))).1 := by rw [stepZ_term]; exact hcl.2.2.1.2.2
        have hokz : (bkM (stepZ (zM m (m.1 8)) (rowW 0 (a 1) (a 2) (a 3) (a 4))).1).ok := by rw [ebk]; exact hT.ok
        have hRXf : RXb (bkM m1) (xfin s29) := (RXb_ag u1 hokz).mpr (by
          rw [ebk]
          exact RXb_fin (p1.rxb (hr20.pt q2)))
        have z27 : (stepZ (zM m (m.1 8)) (rowW 0 (a 1) (a 2) (a 3) (a 4))).1.1 27 = m.1 27 + 1 := by
          rw [stepZ_term, hcl.2.2.1.1 27 (by decide)]
          show (zM m (m.1 8)).1.1 27 + 1 = _
          omega
        refine J_act (s := xfin s) (m := mref m 0) hJ' u3 hokw u1 u2 ⟨?_, ?_⟩ ?_ hRXf (RN_4 (s := s23) e4 (by rw [show zM (mref m 0) ((mref m 0).1 8) = zM m (m.1 8) from rfl, stepZ_term]; exact q4)) (Tr_4 (s := s23) e4 q2.2.2.2.2.2.2) (TB_4 (s := s23) e4 (by rw [show zM (mref m 0) ((mref m 0).1 8) = zM m (m.1 8) from rfl, stepZ_term]; exact q3)) ?_ ?_ ?_ ?_ (fun to z h0 h => hstX_4 (s := s23) e4 (hstX_pt (s := (yf1 (sAct s 2).1 0 (a 1) (m.2 7 (a 1)) (PX (a 2) (a 3) (a 4) (m.2 7 (a 1))), s.2)) q2 h0 h)) ⟨?_, ?_⟩ (fun j hj => ?_) (fun t t0 t1 => ?_) (fun t t0 t1 => ?_) ?_ ?_
        · have := u3.1 1 (by decide) (by decide) (by decide) (by decide) (by decide) (by decide)
          exact this.symm
        · have := u3.1 1 (by decide) (by decide) (by decide) (by decide) (by decide) (by decide)
          rw [this]; rfl
        · show s29.1.1 4 = s.1.1 4
          rw [e1]; rfl
        · show s29.1.1 12 = s.1.1 12 + 1
          rw [e1]; rfl
        · show s29.1.2 9 = _
          rw [e1, yf1_o (by decide) (by decide) (by decide) (by omega)]; rfl
        · show s29.1.2 10 = _
          rw [e1, yf1_o (by decide) (by decide) (by decide) (by omega)]; rfl
        · show s29.1.2 11 = _
          rw [e1, yf1_o (by decide) (by decide) (by decide) (by omega)]; rfl
        · show (s29.2 2).1 1 = m1.1 27
          rw [p2, m27]
          show (zM m (m.1 8)).1.1 27 + 1 = _
          omega
        · show good (bkM m1) (m1.1 27) E0 ((s29.2 2).2 0)
          refine good_ag u1 hokz (by rw [m27]; show m.1 27 + 1 ≤ (stepZ (zM m (m.1 8)) (rowW 0 (a 1) (a 2) (a 3) (a 4))).1.1 27; rw [z27]; exact Int.le_refl _) ?_
          show good (bkM (stepZ (zM m (m.1 8)) (rowW 0 (a 1) (a 2) (a 3) (a 4))).1) (m1.1 27) E0 ((s29.2 2).2 0)
          rw [ebk, m27]
          have e5 : (bkM (termZ (zM m (m.1 8)) (a 1) (fun k => rowW 0 (a 1) (a 2) (a 3) (a 4) (2 + k))).1).nt = m.1 27 + 1 := by
            show (zM m (m.1 8)).1.1 27 + 1 = _
            omega
          rw [e5] at p3
          exact p3
        · have hj' := j6 j hj
          rw [xfin_o (by omega), xfin_o (by omega), xfin_o (by omega), xfin_o (by omega), xfin_o (by omega), e1]
          rcases hj with rfl | rfl | rfl
          · refine ⟨?_, g1, ?_, ?_, ?_⟩
            · show s.1.1 41 + 1 = s.1.1 31 + 1
              omega
            · show s.1.1 61 ≤ (if s.1.1 31 = (xcap 1 (s.1.1 51).toNat : Int) then s.1.1 51 + 1 else s.1.1 51)
              omega
            · show 0 ≤ s.1.1 71 + 1
              omega
            · show s.1.1 71 + 1 + (n : Int) ≤ 1000
              omega
          · obtain ⟨q1, q2, q3, q4, q5⟩ := hj'
            exact ⟨q1, q2, q3, q4, by show s.1.1 72 + (n : Int) ≤ 1000; have q5 : s.1.1 72 + ((n + 1 : Nat) : Int) ≤ 1000 := q5; omega⟩
          · obtain ⟨q1, q2, q3, q4, q5⟩ := hj'
            exact ⟨q1, q2, q3, q4, by show s.1.1 73 + (n : Int) ≤ 1000; have q5 : s.1.1 73 + ((n + 1 : Nat) : Int) ≤ 1000 := q5; omega⟩
        · show s29.1.2 32 t = s.1.2 32 t
          rw [e1]
          show iup (s.1.2 32) (s.1.1 31) 0 t = _
          have t1 : t < m.1 27 := t1
          rw [iup_ne (by omega)]
        · show s29.1.2 32 t = 0
          rw [e1]
          show iup (s.1.2 32) (s.1.1 31) 0 t = _
          have t0 : m.1 27 ≤ t := t0
          rw [show t = s.1.1 31 by omega, iup_at]
        · show s29.1.1 3 = s.1.1 3
          rw [e1]; rfl
        · show s29.1.2 2 = s.1.2 2
          rw [e1, yf1_o (by decide) (by decide) (by decide) (by omega)]; rfl
    · refine ⟨10, 20, ⟨by decide, by decide⟩, ?_⟩
      intro X hX
      refine ⟨inI_s (by omega), x_isIn (fun _ => ⟨fun q => absurd q (by decide), fun _ => ⟨⟨⟨hv.1, by omega⟩, hr.2.2.1.1⟩, m41, ⟨by decide, by decide⟩, m41, ⟨by rw [etk]; omega, by decide, by rw [etk]; omega⟩, ?_⟩⟩) (fun q => absurd hin q)⟩
      refine walk _ _ _ X hX (fun P hP => ?_)
      unfold B_X1_make_76
      rw [etk]
      refine ⟨by omega, fun _ => ⟨by omega, ?_⟩, fun q => by omega⟩
      refine x_isTerm (by omega) (by omega) (fun q => absurd (fun k k0 k1 => by have := q k k0 (by omega); rw [hPX P hP k k0 k1, ex] at this; exact this) hp) (fun _ => ⟨fun _ => x_refused ⟨⟨Int.le_refl _, Nat.le_refl _⟩, ?_⟩, fun q => absurd rfl q⟩)
      exact c_makeL hb (fun _ => ⟨rfl, hKJ _ _ eqX_o eqM_ref (JT_ref (by decide))⟩) (fun q => absurd q.2 hp) (fun q => absurd q.2 hp)
  · refine ⟨1, 3, ⟨by decide, by decide⟩, ?_⟩
    intro X hX
    refine ⟨inI_s (by omega), x_isIn (fun q => absurd ⟨q.1, by omega⟩ hv) (fun _ => ⟨fun _ => x_refused (c_makeL hb (fun _ => ⟨rfl, hKJ _ _ eqX_o eqM_ref (JT_ref (by decide))⟩) (fun q => absurd q.1 hv) (fun q => absurd q.1 hv)), fun q => absurd rfl q⟩)⟩
