/-! THE PURE PART, 31: part -/
set_option maxRecDepth 100000
theorem xfin_o {s : XS} {i : Nat} (h : 2 ≤ i) : (xfin s).1.1 i = s.1.1 i := by
  show (if i = 1 then _ else if i = 0 then _ else s.1.1 i) = s.1.1 i
  rw [if_neg (by omega), if_neg (by omega)]
theorem RXb_fin {b : PB} {s : XS} (h : RXb b s) : RXb b (xfin s) := h.of (fun k hk => xfin_o (by omega)) (fun _ _ => rfl)
theorem sAct_1 {s : XS} {k : Int} {i : Nat} (h : i ≠ 12) : (sAct s k).1.1 i = s.1.1 i := if_neg h
theorem sAct_2 {s : XS} {k : Int} {i : Nat} (h : 12 ≤ i) : (sAct s k).1.2 i = s.1.2 i := by
  show (if i = 11 then _ else if i = 10 then _ else if i = 9 then _ else s.1.2 i) = s.1.2 i
  rw [if_neg (by omega), if_neg (by omega), if_neg (by omega)]
theorem RXb_act {b : PB} {s : XS} {k : Int} (h : RXb b s) : RXb b (sAct s k) := h.of (fun k hk => sAct_1 (by omega)) (fun k hk => sAct_2 (by omega))
theorem p_part {n : Nat} {a : Int → Int} {s : XS} {m : MS} (hJ : J (n + 1) s m) : C_law_32 a s m (J n) := by
  have hK : keepsW s m (J n) := fun s' m' h1 h2 h3 => J_down (J_keeps hJ s' m' h1 h2 h3)
  have hrows := J_rows hJ
  have hJ0 := hJ
  obtain ⟨j1, j2, ⟨⟨a1, a2⟩, a3, a4, a5⟩, ⟨b1, b2⟩, ⟨c1, c2⟩, j6, -, -⟩ := hJ
  have hKJ := hK.x a5.2.2.2.2.2.1
  obtain ⟨hb, hr⟩ := a5.b
  obtain ⟨z1, z2, z3, z4, z5, z6, z7⟩ := a5
  have h24 := hb.nt
  have h12 := hb.ns
  have h8 := hb.nd
  have hnt : (bkM m).nt = m.1 27 := rfl
  have hns : (bkM m).ns = m.1 30 := rfl
  have hnd : (bkM m).nd = m.1 33 := rfl
  have ex : s.1.1 31 = m.1 27 := hr.1.2.1
  have es : s.1.1 33 = m.1 33 := hr.1.2.2.2
  have e27 : m.1 27 = (zM m (m.1 8)).1.1 27 := z2.1.2.1
  have e33 : m.1 33 = (zM m (m.1 8)).1.1 33 := z2.1.2.2.2
  have no : ∀ w : Int, w ≠ 4 → (∀ K : Int → MS → Prop, K (-1) (mref m w) → C_part (a 1) (a 2) m K) → C_X1_refused w s (fun r s' => C_part (a 1) (a 2) m (fun r' m' => r = r' ∧ J n s' m')) := fun w hw hc => x_refused (hc _ ⟨rfl, hKJ _ _ eqX_o eqM_ref (JT_ref hw)⟩)
  by_cases hv : (0 ≤ a 1 ∧ a 1 < m.1 27) ∧ 0 ≤ a 2 ∧ a 2 < m.1 27
  · by_cases hf : m.1 33 = 8
    · refine ⟨1, 2, ⟨by decide, by decide⟩, ⟨by decide, by decide⟩, x_isTerm2 (by omega) (fun _ => ⟨fun q => absurd q (by decide), fun _ => ⟨fun _ => no 3 (by decide) (fun K hk => ⟨fun _ => c_whyNotTwo h24 (fun q => absurd hv q) (fun _ => ⟨fun q => absurd q (by decide), fun _ => c_isRefused (fun q => absurd q (by decide)) (fun _ => ⟨fun q => absurd q (by decide), fun _ => hk⟩)⟩), fun q => absurd hf q⟩), fun q => absurd (by rw [es]; exact hf) q⟩⟩) (fun q => absurd (by rw [ex]; exact hv) q)⟩
    · obtain ⟨l1, l2, l3, l4, l5⟩ := j6 3 (by decide)
      have l1 : s.1.1 43 = s.1.1 33 := l1
      have l2 : 0 ≤ s.1.1 53 ∧ s.1.1 53 ≤ 2 := l2
      have l3 : s.1.1 63 ≤ s.1.1 53 := l3
      have l4 : 0 ≤ s.1.1 73 := l4
      have l5 : s.1.1 73 + ((n + 1 : Nat) : Int) ≤ 1000 := l5
      have hokw : okW (zM m (m.1 8)) (rowW 2 (a 1) (a 2) 0 0) := ⟨fun q => absurd (show (2 : Int) = 0 from q) (by decide), fun q => absurd (show (2 : Int) = 1 from q) (by decide), fun _ _ => ⟨by omega, ⟨hv.1.1, show a 1 < (zM m (m.1 8)).1.1 27 by omega⟩, hv.2.1, show a 2 < (zM m (m.1 8)).1.1 27 by omega⟩⟩
      have hTs := diffZ_wf (a := a 1) (b := a 2) z1.1 (by omega) ⟨hv.1.1, by omega⟩ ⟨hv.2.1, by omega⟩
      have hrz : RXb (bkM (zM m (m.1 8)).1) s := (RXb_ag z2 z1.1.ok).mp hr
      have hrA : RXb (bkM (zM m (m.1 8)).1) (sAct s 1) := RXb_act hrz
      have hr15 := RXb_diff (a := a 1) (b := a 2) (s := sAct s 1) z1.1.ok (by omega) hrA l1 l2
      obtain ⟨g1, g2, g3, g4, g5, g6⟩ := grow_3 l2 (show s.1.1 33 < 8 by omega) (hr.2.2.1.2.2.2.1)
      have r1 := (z5.2.1.1 (a 1) hv.1.1 (by omega)).1
      have r2 := (z5.2.1.1 (a 2) hv.2.1 (by omega)).1
      -- the reference's half
      have ref : ∀ x : Int, x = (if (zM m (m.1 8)).1.2 36 (a 1) = (zM m (m.1 8)).1.2 36 (a 2) then 1 else 0) → C_part (a 1) (a 2) m (fun r' m' => x = r' ∧ J n (xfin (yf3 (sAct s 1).1 (a 1) (a 2), s.2)) m') := by
        intro x hx
        refine ⟨fun q => absurd q hf, fun _ => c_whyNotTwo h24 (fun q => absurd hv q) (fun _ => ⟨fun _ => c_isRefused (fun _ => ⟨fun _ => ?_, fun q => absurd rfl q⟩) (fun q => absurd rfl q), fun q => absurd rfl q⟩)⟩
        refine c_acts (m := mref m 0) z1 z2 z3 (show 0 ≤ m.1 8 ∧ m.1 8 < 96 by omega) hokw (fun m1 u1 u2 u3 => ?_)
        have u1' := u1
        have u2' := u2
        rw [stepZ_diff] at u1' u2'
        have m27 : m1.1 27 = (zM m (m.1 8)).1.1 27 := u1'.1.2.1
        have hJn : J n (xfin (yf3 (sAct s 1).1 (a 1) (a 2), s.2)) m1 := by
          have hJ' : J (n + 1) (xfin s) (mref m 0) := J_keeps hJ0 _ _ (eqX_o.w z6) eqM_ref JT_fine
          have ebk : bkM (stepZ (zM m (m.1 8)) (rowW 2 (a 1) (a 2) 0 0)).1 = bkM (diffZ (zM m (m.1 8)) (a 1) (a 2)).1 := by rw [stepZ_diff]
          have hokz : (bkM (stepZ (zM m (m.1 8)) (rowW 2 (a 1) (a 2) 0 0)).1).ok := by rw [ebk]; exact hTs.ok
          have hRXf : RXb (bkM m1) (xfin (yf3 (sAct s 1).1 (a 1) (a 2), s.2)) := (RXb_ag u1 hokz).mpr (by
            rw [ebk]
            exact RXb_fin hr15)
          refine J_act (s := xfin s) (m := mref m 0) hJ' u3 hokw u1 u2 ⟨?_, ?_⟩ rfl hRXf (by show RN (xfin (yf3 (sAct s 1).1 (a 1) (a 2), s.2)) (stepZ (zM m (m.1 8)) (rowW 2 (a 1) (a 2) 0 0)); rw [stepZ_diff]; exact z5) z6 (by show TB (xfin (yf3 (sAct s 1).1 (a 1) (a 2), s.2)) (stepZ (zM m (m.1 8)) (rowW 2 (a 1) (a 2) 0 0)); rw [stepZ_diff]; exact z7) rfl rfl rfl rfl (fun to z h0 h => h) ⟨?_, ?_⟩ (fun j hj => ?_) (fun t t0 t1 => rfl) (fun t t0 t1 => ?_) rfl rfl
          · have := u3.1 1 (by decide) (by decide) (by decide) (by decide) (by decide) (by decide)
            exact this.symm
          · have := u3.1 1 (by decide) (by decide) (by decide) (by decide) (by decide) (by decide)
            rw [this]; rfl
          · show (s.2 2).1 1 = m1.1 27
            rw [m27, ← e27]; exact c1
          · show good (bkM m1) (m1.1 27) E0 ((s.2 2).2 0)
            rw [m27]
            refine good_ag u1 hokz (by rw [stepZ_diff]; exact Int.le_refl _) ?_
            rw [ebk]
            have := good_ga z2 z1.1.ok (Int.le_refl _) (show good (bkM m) ((zM m (m.1 8)).1.1 27) E0 ((s.2 2).2 0) by rw [← e27]; exact c2)
            exact this
          · have hj' := j6 j hj
            rw [xfin_o (by omega), xfin_o (by omega), xfin_o (by omega), xfin_o (by omega), xfin_o (by omega)]
            rcases hj with rfl | rfl | rfl
            · obtain ⟨q1, q2, q3, q4, q5⟩ := hj'
              exact ⟨q1, q2, q3, q4, by show s.1.1 71 + (n : Int) ≤ 1000; have q5 : s.1.1 71 + ((n + 1 : Nat) : Int) ≤ 1000 := q5; omega⟩
            · obtain ⟨q1, q2, q3, q4, q5⟩ := hj'
              exact ⟨q1, q2, q3, q4, by show s.1.1 72 + (n : Int) ≤ 1000; have q5 : s.1.1 72 + ((n + 1 : Nat) : Int) ≤ 1000 := q5; omega⟩
            · refine ⟨?_, g1, ?_, ?_, ?_⟩
              · show s.1.1 43 + 1 = s.1.1 33 + 1
                omega
              · show s.1.1 63 ≤ (if s.1.1 33 = (xcap 3 (s.1.1 53).toNat : Int) then s.1.1 53 + 1 else s.1.1 53)
                omega
              · show 0 ≤ s.1.1 73 + 1
                omega
              · show s.1.1 73 + 1 + (n : Int) ≤ 1000
                omega
          · have t0 : m.1 27 ≤ t := t0
            omega
        have v1 := (u2'.2.1 (a 1) hv.1.1 (show a 1 < (zM m (m.1 8)).1.1 27 by omega)).1
        have v2 := (u2'.2.1 (a 2) hv.2.1 (show a 2 < (zM m (m.1 8)).1.1 27 by omega)).1
        refine ⟨⟨hv.1.1, by omega⟩, ⟨hv.2.1, by omega⟩, ?_⟩
        rw [v1, v2]
        refine ⟨fun q => ⟨?_, hJn⟩, fun q => ⟨?_, hJn⟩⟩
        · rw [hx, if_pos (show (zM m (m.1 8)).1.2 36 (a 1) = (zM m (m.1 8)).1.2 36 (a 2) from q)]
        · rw [hx, if_neg (show ¬ (zM m (m.1 8)).1.2 36 (a 1) = (zM m (m.1 8)).1.2 36 (a 2) from q)]
      refine ⟨3, al_N (xcap 3 (s.1.1 53).toNat) + 4, ⟨by decide, by show _ ≤ 200000; omega⟩, ⟨by omega, by omega⟩, x_isTerm2 (by omega) (fun _ => ⟨fun q => absurd q (by decide), fun _ => ⟨fun q => absurd (by rw [← es]; exact q) hf, fun _ => x_acts ⟨by omega, by omega⟩ ?_⟩⟩) (fun q => absurd (by rw [ex]; exact hv) q)⟩
      refine ⟨⟨l1, by omega, by omega⟩, l1, ⟨by show 0 ≤ s.1.1 33; omega, l1, l2.1, hrA.2.2.1.2.2.2, g5, ⟨by show -1000000 ≤ s.1.1 73; omega, by show s.1.1 73 ≤ 1000000; omega⟩, by omega, by show al_N (xcap 3 (s.1.1 53).toNat) ≤ _; omega⟩, ?_⟩
      rintro _ rfl
      refine x_areOne ⟨hv.1.1, by omega⟩ ⟨hv.2.1, by omega⟩ (fun q => ⟨fun q2 => absurd q2 (by decide), fun _ => x_fine (ref 1 ?_)⟩) (fun q => ⟨fun _ => x_fine (ref 0 ?_), fun q2 => absurd rfl q2⟩)
      · rw [if_pos (by rw [← r1, ← r2]; exact q)]
      · rw [if_neg (fun q2 => q (by show (s.2 4).2 0 (a 1) = (s.2 4).2 0 (a 2); rw [r1, r2]; exact q2))]
  · refine ⟨1, 2, ⟨by decide, by decide⟩, ⟨by decide, by decide⟩, x_isTerm2 (by omega) (fun q => absurd (by rw [← ex]; exact q) hv) (fun _ => ⟨fun _ => no 1 (by decide) (fun K hk => ⟨fun _ => c_whyNotTwo h24 (fun _ => c_isRefused (fun q => absurd q (by decide)) (fun _ => ⟨fun q => absurd q (by decide), fun _ => hk⟩)) (fun q => absurd q hv), fun _ => c_whyNotTwo h24 (fun _ => c_isRefused (fun q => absurd q (by decide)) (fun _ => ⟨fun q => absurd q (by decide), fun _ => hk⟩)) (fun q => absurd q hv)⟩), fun q => absurd rfl q⟩)⟩
