/-! THE PURE PART, 52: text -/
set_option maxRecDepth 100000
theorem p_text {n : Nat} {a : Int → Int} {s : XS} {m : MS} (hn : n ≤ 900) (hJ : J (n + 1) s m) : C_law_1 a s m (J n) := by
  have hK : keepsW s m (J n) := fun s' m' h1 h2 h3 => J_down (J_keeps hJ s' m' h1 h2 h3)
  have hJn := J_down hJ
  obtain ⟨-, -, ⟨-, -, -, a5⟩, -, -, -, -, ⟨p1, p2, p3⟩⟩ := hJ
  have hKJ := hK.x a5.2.2.2.2.2.1
  refine ⟨3300, 32000, 10, 20000, ⟨by decide, by decide⟩, ?_⟩
  by_cases hin : 0 ≤ a 1 ∧ a 1 ≤ m.1 5
  · refine x_isIn (fun _ => ⟨fun q => absurd q (by decide), fun _ => ?_⟩) (fun q => absurd (by rw [p1]; exact hin) q)
    rintro _ rfl
    -- what the reference does first
    have cbeg : ∀ {K : Int → MS → Prop}, (∀ (X76 X123 X198 : Int → MS → Prop) (X148 : Int → Int → MS → Prop), (∀ (x2 : Int) (s0 : MS), B_text_76 X76 X123 X148 X198 K x2 s0 → X76 x2 s0) → (∀ (x2 : Int) (s0 : MS), B_text_123 X76 X123 X148 X198 K x2 s0 → X123 x2 s0) → (∀ (x2 x3 : Int) (s0 : MS), B_text_148 X76 X123 X148 X198 K x2 x3 s0 → X148 x2 x3 s0) → (∀ (x2 : Int) (s0 : MS), B_text_198 X76 X123 X148 X198 K x2 s0 → X198 x2 s0) → C_readAll (a 1) (ms (ms (mref m 0) 5 0) 2 0) (fun r18 s15 => ((r18 = 0 → (∀ s22 : MS, s22 = ms s15 2 (s15.1 18) → (∀ s24 : MS, s24 = ms s22 3 (s22.1 19) → (C_no 4 s24 (fun r29 s26 => K r29 s26))))) ∧ (¬ r18 = 0 → (∀ s20 : MS, s20 = ms s15 6 (s15.1 20) → X76 0 s20))))) → C_text (a 1) m K := by
      intro K q X76 X123 X148 X198 h76 h123 h148 h198
      refine c_in (fun _ => ⟨fun q2 => absurd q2 (by decide), fun _ => c_isRefused (fun _ => ⟨fun _ => ?_, fun q2 => absurd rfl q2⟩) (fun q2 => absurd rfl q2)⟩) (fun q2 => absurd hin q2)
      rintro _ rfl _ rfl
      exact q X76 X123 X198 X148 h76 h123 h148 h198
    rcases read_all (tp := s.1.2 2) (m := ms (ms (mref m 0) 5 0) 2 0) (n := a 1) (kc := 3300) (ks := 32000) p3 ⟨hin.1, by omega⟩ (Nat.le_refl _) (Nat.le_refl _) with ⟨r, m1, ra, rb, hRD, hfr⟩ | ⟨kd, pl, m1, ra, rb, e18, e19, hkd, hfr⟩
    · -- both read it
      obtain ⟨-, -, -, hBR⟩ := hRD
      have hb0 := hBR
      have hfu := hBR.fun
      have hte := hBR.term
      have hsa := hBR.same
      have hdi := hBR.diff
      have hro := hBR.rows
      obtain ⟨⟨c1, c2, c3, c4, c5, c6⟩, l5, lv, lf, lt, lw⟩ := hBR
      have M6 : (cpM m1).1 6 = m1.1 20 := rfl
      have M8 : (cpM m1).1 8 = m1.1 24 := rfl
      have M9 : (cpM m1).1 9 = m1.1 24 := rfl
      have M26 : (cpM m1).1 26 = m1.1 21 := rfl
      have M7 : (cpM m1).2 7 = cpf (m1.2 7) 8 (m1.1 20) := rfl
      have M10 : (cpM m1).2 10 = cpf (m1.2 10) 48 (m1.1 24) := rfl
      have M11 : (cpM m1).2 11 = cpf (m1.2 11) 192 (4 * m1.1 24) := rfl
      have M12 : (cpM m1).2 12 = cpf (m1.2 12) 144 144 := rfl
      have htk : ∀ f, 0 ≤ f → f < r.1 30 → tkM (cpM m1) f = r.2 31 f := fun f f0 f1 => by
        unfold tkM
        rw [if_pos ⟨f0, by rw [M6]; omega⟩, M7, cpf_i ⟨f0, by omega⟩]
        exact (lf f f0 f1).2.1.symm
      have h0 : fullZ (nilZ ((cpM m1).1 6) (tkM (cpM m1))) := nilZ_full ⟨by rw [M6]; omega, fun f f0 f1 => by
        rw [M6] at f1
        rw [htk f f0 (by omega)]; exact ⟨(lf f f0 (by omega)).2.2.1, (lf f f0 (by omega)).2.2.2⟩⟩
      have hW : ∀ k : Nat, k < (m1.1 24).toNat → WM (cpM m1) (k : Int) 0 = m1.2 10 (48 + (k : Int)) ∧ ∀ i, 0 ≤ i → i < 4 → WM (cpM m1) (k : Int) (1 + i) = m1.2 11 (4 * (48 + (k : Int)) + i) := fun k hk => by
        refine ⟨?_, fun i i0 i1 => ?_⟩
        · unfold WM
          rw [if_pos rfl, M10, cpf_i ⟨by omega, by omega⟩]
        · unfold WM
          rw [if_neg (by omega), if_pos (by omega), M11, cpf_i ⟨by omega, by omega⟩, show 192 + (4 * (k : Int) + (1 + i - 1)) = 4 * (48 + (k : Int)) + i by omega]
      have e6 : (nilZ ((cpM m1).1 6) (tkM (cpM m1))).1.1 6 = r.1 30 := by show (cpM m1).1 6 = _; rw [M6]; omega
      have e7 : ∀ f, 0 ≤ f → f < r.1 30 → (nilZ ((cpM m1).1 6) (tkM (cpM m1))).1.2 7 f = r.2 31 f := htk
      have hf3 : ∀ f, 0 ≤ f → f < r.1 30 → r.2 31 f ≤ 3 := fun f f0 f1 => (lf f f0 f1).2.2.2
      have rrun := rows_run (W := WM (cpM m1)) (R := (m1.1 24).toNat) h0 e6 ⟨rfl, rfl, rfl⟩ e7 hf3 hW
      obtain ⟨ok, ⟨n1, n2, n3⟩, ag⟩ := rrun _ _ _ _ (Nat.le_refl _) (by omega) (by omega) (by omega) lw
      have hzR := runZ_full h0 _ ok
      have hb := hzR.1.ok
      have hsub : ∀ k, k ≤ (m1.1 24).toNat → subB (bkM (runZ (nilZ ((cpM m1).1 6) (tkM (cpM m1))) (WM (cpM m1)) (m1.1 24).toNat).1) (runZ (nilZ ((cpM m1).1 6) (tkM (cpM m1))) (WM (cpM m1)) k) := fun k hk => by
        obtain ⟨t', s', d', q1, q2, q3, q4⟩ := RW_pre _ _ _ _ lw k hk
        obtain ⟨-, -, ag'⟩ := rrun k t' s' d' hk (by omega) (by omega) (by omega) q1
        exact agR_sub ag' ag hb (runZ_mono h0 _ k hk ok).1
      have hRX : RXb (bkM (runZ (nilZ ((cpM m1).1 6) (tkM (cpM m1))) (WM (cpM m1)) (m1.1 24).toNat).1) (xjoin (xs (xs s 3 0) 4 0) r) := RXb_R hb0 ag n1 n2 n3
      have e4s : (xjoin (xs (xs s 3 0) 4 0) r).2 4 = sr0 := rfl
      have hq0 : xq (xjoin (xs (xs s 3 0) 4 0) r) = 0 := rfl
      obtain ⟨sk, P1, P2, P3, P4⟩ := text_order (W := WM (cpM m1)) (R := (m1.1 24).toNat) (s0 := xjoin (xs (xs s 3 0) 4 0) r) h0 e6 ⟨rfl, rfl, rfl⟩ e7 hf3 hW (by omega) (by omega) (by omega) hb hRX hsub ((xj_i (by decide)).trans c5) (xj_ok ((l5 4 (by decide)).rok (by decide)).1) (fun x x0 x1 => ⟨by rw [xj_a (by decide)], lv.2 x x0 (by omega)⟩) (fun k _ _ => ⟨by rw [xj_a (by decide)], by rw [xj_a (by decide)]⟩) ⟨xj_i (by decide), by rw [xj_i (by decide)]; exact ((l5 2 (by decide)).rok (by decide)).2⟩ (sr0_Tr e4s) (sr0_RN e4s) (sr0_TB e4s) _ _ _ _ (Nat.le_refl _) (Int.le_refl _) (Int.le_refl _) (Int.le_refl _) lw
      have hTk : Tr sk := P1.2.2.2.2.2.2
      have hrk := hRX.of (s' := sk) (fun _ _ => by rw [P1.1.1]) (fun _ _ => by rw [P1.1.1])
      refine ra _ _ (fun X139 X227 h139 h227 => P4 X139 X227 _ 10 20000 h139 (by rw [hq0]; decide) (by rw [hq0]; decide) (fun kc' ks' _ _ => h139 _ _ _ _ ⟨fun _ => ?_, fun q => absurd (if_pos (by rw [P1.1.1, xj_i (by decide)]; omega)) q⟩))
      refine text_bare h227 hb hrk (by rw [P1.1.2 2 (by decide)]; rfl) (fun s' B1 B2 B3 => ?_)
      refine cbeg (fun X76 X123 X198 X148 h76 h123 h148 h198 => rb _ ⟨fun q => absurd q (by decide), fun _ => ?_⟩)
      rintro _ rfl
      refine c_copies h76 h123 h148 h198 (by omega) hro (c_makes (W := WM (cpM m1)) h0 ⟨rfl, rfl, rfl, rfl, rfl⟩ (fun f f0 f1 => ?_) (by rw [M8]; omega) (fun k k0 k1 => ⟨?_, fun i i0 i1 => ?_⟩) ok (fun m' hB hN hfs => ⟨?_, ?_⟩))
      · show (cpM m1).2 7 f = tkM (cpM m1) f
        unfold tkM
        rw [if_pos ⟨f0, f1⟩]
      · unfold WM
        rw [if_pos rfl]
      · unfold WM
        rw [if_neg (by omega), if_pos (by omega), show 4 * k + (1 + i - 1) = 4 * k + i by omega]
      · exact hB.1.2.1.symm
      · -- the relation again
        have hB : agB m' (runZ (nilZ ((cpM m1).1 6) (tkM (cpM m1))) (WM (cpM m1)) (m1.1 24).toNat).1 := hB
        have hN : agN m' (runZ (nilZ ((cpM m1).1 6) (tkM (cpM m1))) (WM (cpM m1)) (m1.1 24).toNat).1 := hN
        obtain ⟨F1, F2⟩ := hfs
        have i1 : m'.1 1 = 0 := (F1 1 (by decide) (by decide) (by decide) (by decide) (by decide)).trans ((show (cpM m1).1 1 = m1.1 1 from rfl).trans ((hfr.1 1 (by decide)).trans rfl))
        have i2 : m'.1 2 = 0 := (F1 2 (by decide) (by decide) (by decide) (by decide) (by decide)).trans ((show (cpM m1).1 2 = m1.1 2 from rfl).trans ((hfr.1 2 (by decide)).trans rfl))
        have i5 : m'.1 5 = 0 := (F1 5 (by decide) (by decide) (by decide) (by decide) (by decide)).trans ((show (cpM m1).1 5 = m1.1 5 from rfl).trans ((hfr.1 5 (by decide)).trans rfl))
        have i6 : m'.1 6 = (cpM m1).1 6 := F1 6 (by decide) (by decide) (by decide) (by decide) (by decide)
        have i8 : m'.1 8 = m1.1 24 := F1 8 (by decide) (by decide) (by decide) (by decide) (by decide)
        have i9 : m'.1 9 = m1.1 24 := F1 9 (by decide) (by decide) (by decide) (by decide) (by decide)
        have i26 : m'.1 26 = m1.1 21 := F1 26 (by decide) (by decide) (by decide) (by decide) (by decide)
        have y7 : m'.2 7 = (cpM m1).2 7 := F2 7 (Or.inl (by decide))
        have y10 : m'.2 10 = (cpM m1).2 10 := F2 10 (Or.inl (by decide))
        have y11 : m'.2 11 = (cpM m1).2 11 := F2 11 (Or.inl (by decide))
        have y12 : m'.2 12 = cpf (m1.2 12) 144 144 := F2 12 (Or.inl (by decide))
        have y4 : m'.2 4 = m.2 4 := (F2 4 (Or.inl (by decide))).trans ((show (cpM m1).2 4 = m1.2 4 from rfl).trans ((hfr.2.1 4 (by decide) (by decide) (by decide) (by decide) (by decide)).trans rfl))
        have etk : tkM m' = tkM (cpM m1) := by
          funext f
          unfold tkM
          rw [i6, y7]
        have eW : WM m' = WM (cpM m1) := by
          funext k i
          unfold WM
          rw [y10, y11]
        have ez : zM m' (m1.1 24) = runZ (nilZ ((cpM m1).1 6) (tkM (cpM m1))) (WM (cpM m1)) (m1.1 24).toNat := by
          unfold zM
          rw [etk, eW, i6]
        have x4 : (xfin (xs s' 12 0)).2 4 = sk.2 4 := B1.2 4 (by decide)
        have xk : ∀ k, k ≠ 0 → k ≠ 1 → k ≠ 12 → (xfin (xs s' 12 0)).1.1 k = (xjoin (xs (xs s 3 0) 4 0) r).1.1 k := fun k k0 k1 k2 => by
          show (if k = 1 then _ else if k = 0 then _ else if k = 12 then _ else s'.1.1 k) = _
          rw [if_neg k1, if_neg k0, if_neg k2, B1.1, P1.1.1]
        have xa : (xfin (xs s' 12 0)).1.2 = (xjoin (xs (xs s 3 0) 4 0) r).1.2 := by
          show s'.1.2 = _
          rw [B1.1, P1.1.1]
        have b27 : m'.1 27 = r.1 31 := hB.1.2.1.trans n1
        have b30 : m'.1 30 = r.1 32 := hB.1.2.2.1.trans n2
        have b33 : m'.1 33 = r.1 33 := hB.1.2.2.2.trans n3
        refine ⟨⟨i1.symm, by rw [i1]; rfl⟩, ?_, ⟨⟨by rw [i8, i9]; omega, by rw [i8, b27, b30, b33]; omega⟩, ⟨by rw [i6, M6]; omega, fun f f0 f1 => ?_⟩, ?_, ?_⟩, ⟨?_, fun i i0 i1 => ?_⟩, ⟨?_, ?_⟩, fun j hj => ?_, ⟨?_, fun t t0 t1 => ?_, fun t t0 t1 => ?_⟩, ⟨?_, by omega, fun k k0 k1 => ?_⟩⟩
        · rw [xk 4 (by decide) (by decide) (by decide), i2]; rfl
        · rw [i6, M6] at f1
          rw [y7, M7, cpf_i ⟨f0, f1⟩]
          have := lf f f0 (by omega)
          rw [← this.2.1]; exact ⟨this.2.2.1, this.2.2.2⟩
        · rw [etk, eW, i6, i8]; exact ok
        · rw [i8, ez]
          refine ⟨hzR, hB, hN, (RXb_ag hB hb).mpr (hrk.of (fun k hk => ?_) (fun k _ => ?_)), RN_4 x4 P3, Tr_4 x4 hTk, TB_4 x4 P2⟩
          · rw [xk k (by omega) (by omega) (by omega), P1.1.1]
          · rw [xa, P1.1.1]
        · show (0 : Int) = _
          omega
        · have i1 : i < 0 := i1
          omega
        · rw [b27]
          have : (s'.2 2).1 1 = (runZ (nilZ ((cpM m1).1 6) (tkM (cpM m1))) (WM (cpM m1)) (m1.1 24).toNat).1.1 27 := B2
          exact this.trans n1
        · have e : (bkM m').nt = (runZ (nilZ ((cpM m1).1 6) (tkM (cpM m1))) (WM (cpM m1)) (m1.1 24).toNat).1.1 27 := hB.1.2.1
          rw [e]
          exact good_ag hB hb (Int.le_refl _) B3
        · have hl := l5 j (by omega)
          unfold lsR at hl
          obtain ⟨q1, q2, q3, q4, q5, q6⟩ := hl
          have hg : gmR j = gmx j := by rcases hj with rfl | rfl | rfl <;> rfl
          have hx : mxR j ≤ 36 := by rcases hj with rfl | rfl | rfl <;> decide
          rw [xk (40 + j) (by omega) (by omega) (by omega), xk (30 + j) (by omega) (by omega) (by omega), xk (50 + j) (by omega) (by omega) (by omega), xk (60 + j) (by omega) (by omega) (by omega), xk (70 + j) (by omega) (by omega) (by omega), xj_i (by omega), xj_i (by omega), xj_i (by omega), xj_i (by omega), xj_i (by omega)]
          exact ⟨q1, by omega, q4, by omega, by omega⟩
        · rw [i26, i9, ez, n1]; omega
        · rw [i26] at t1
          rw [xa, xj_a (by decide), y12]
          refine nameL_congr (fun k k0 k1 => ?_) (lt t t0 (by omega))
          show cpf (m1.2 12) 144 144 (6 * t + k) = m1.2 12 (6 * (24 + t) + k)
          rw [cpf_i ⟨by omega, by omega⟩, show 144 + (6 * t + k) = 6 * (24 + t) + k by omega]
        · rw [i26] at t0
          rw [b27] at t1
          omega
        · rw [xk 3 (by decide) (by decide) (by decide), i5]; rfl
        · rw [xa, y4]
          exact p3 k k0 k1
    · -- both find the fault
      refine ra _ _ ?_
      rintro _ rfl
      refine x_refused ⟨⟨fun k hk => ?_, rfl, rfl⟩, ?_⟩
      · show (if k = 1 then _ else if k = 0 then _ else if k = 4 then _ else if k = 4 then _ else if k = 3 then _ else s.1.1 k) = (if k = 4 then _ else if k = 4 then _ else if k = 3 then _ else s.1.1 k)
        rw [if_neg (by omega), if_neg (by omega)]
      · refine cbeg (fun X76 X123 X198 X148 h76 h123 h148 h198 => rb _ ⟨fun _ => ?_, fun q => absurd rfl q⟩)
        rintro _ rfl _ rfl _ rfl
        have g : ∀ k, k < 13 ∨ 24 < k → m1.1 k = (ms (ms (mref m 0) 5 0) 2 0).1 k := hfr.1
        have ge : ∀ k, k ≠ 0 → k ≠ 1 → k ≠ 2 → k ≠ 3 → k ≠ 5 → (k < 13 ∨ 24 < k) → (ms (ms (ms m1 2 (m1.1 18)) 3 ((ms m1 2 (m1.1 18)).1 19)) 1 4).1 k = m.1 k := fun k k0 k1 k2 k3 k5 hk => by
          show (if k = 1 then _ else if k = 3 then _ else if k = 2 then _ else m1.1 k) = _
          rw [if_neg k1, if_neg k3, if_neg k2, g k hk]
          show (if k = 2 then _ else if k = 5 then _ else if k = 1 then _ else if k = 3 then _ else if k = 0 then _ else m.1 k) = _
          rw [if_neg k2, if_neg k5, if_neg k1, if_neg k3, if_neg k0]
        refine ⟨rfl, J_read hJn (fun k k0 k1 k3 k4 => ?_) (fun _ _ => rfl) rfl rfl ⟨fun k hk => ge k (by omega) (by omega) (by omega) (by omega) (by omega) (by omega), fun k _ b1 b2 b3 b4 b5 => hfr.2.1 k b1 b2 b3 b4 b5, fun k hk => hfr.2.2.1 k hk, fun k hk => hfr.2.2.2.1 k hk, fun k hk => hfr.2.2.2.2.1 k hk, fun k hk => hfr.2.2.2.2.2 k hk⟩ ⟨rfl, ?_⟩ ?_ ?_ ?_ ?_⟩
        · show (if k = 1 then _ else if k = 1 then _ else if k = 0 then _ else if k = 4 then _ else if k = 4 then _ else if k = 3 then _ else s.1.1 k) = s.1.1 k
          rw [if_neg k1, if_neg k1, if_neg k0, if_neg k4, if_neg k4, if_neg k3]
        · show pl = (if (4 : Int) = 4 then m1.1 19 else -1)
          rw [if_pos rfl]; exact e19.symm
        · show kd = m1.1 18
          exact e18.symm
        · show (0 : Int) = m1.1 5
          rw [g 5 (by decide)]; rfl
        · show 0 ≤ m1.1 5 ∧ m1.1 5 ≤ 500
          rw [g 5 (by decide)]; exact ⟨Int.le_refl 0, by show (0 : Int) ≤ 500; omega⟩
        · intro k k0 k1
          have e4 : m1.2 4 = m.2 4 := hfr.2.1 4 (by decide) (by decide) (by decide) (by decide) (by decide)
          show (-128 ≤ s.1.2 2 k ∧ s.1.2 2 k < 128) ∧ m1.2 4 k = (if s.1.2 2 k < 0 then s.1.2 2 k + 256 else s.1.2 2 k)
          rw [e4]; exact p3 k k0 k1
  · refine x_isIn (fun q => absurd (by rw [← p1]; exact q) hin) (fun _ => ⟨fun _ => x_refused (fun X76 X123 X148 X198 h76 h123 h148 h198 => c_in (fun q => absurd q hin) (fun _ => ⟨fun _ => c_isRefused (fun q => absurd q (by decide)) (fun _ => ⟨fun q => absurd q (by decide), fun _ => ⟨rfl, hKJ _ _ eqX_o eqM_ref (JT_ref (by decide))⟩⟩), fun q => absurd rfl q⟩)), fun q => absurd rfl q⟩)
