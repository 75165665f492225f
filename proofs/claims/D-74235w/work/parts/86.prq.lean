/-! THE PURE PART, 27: reasons -/
set_option maxRecDepth 100000
/-- done joins are in the set -/
def DN (nj : Int) (jb : Int → Int) (s : XS) (B : Int) : Prop := ∀ i, 0 ≤ i → i < B → i < nj → (s.2 4).2 12 i ≠ 0 → ∀ c : Nat, c < 32 → bt (jb i) c = true → bt ((s.2 4).1 13) c = true
/-- what leads and takes leave -/
def LD (nj : Int) (jb : Int → Int) (s s' : XS) (B x : Int) : Prop := rsX s s' ∧ (s'.2 4).1 13 = x ∧ DN nj jb s' B ∧ ∀ i, B ≤ i → (s'.2 4).2 12 i = (s.2 4).2 12 i
theorem bt_jor_l {x y : Int} {c : Nat} (h : bt x c = true) : bt (jor x y) c = true := by rw [bt_or, h, Bool.true_or]
theorem jor_sub {x y : Int} (hx : inI x) (h : ∀ c : Nat, c < 32 → bt y c = true → bt x c = true) : jor x y = x := by
  refine set_ext inI_or hx (fun c hc => ?_)
  rw [bt_or, Bool.or_eq_true]
  exact ⟨fun q => q.elim id (h c hc), Or.inl⟩
theorem jor_assoc {x y w : Int} : jor (jor x y) w = jor x (jor y w) := by
  refine set_ext inI_or inI_or (fun c hc => ?_)
  rw [bt_or, bt_or, bt_or, bt_or, Bool.or_assoc]
theorem DN_low {nj B B' : Int} {jb : Int → Int} {s : XS} (h : DN nj jb s B) (hB : B' ≤ B) : DN nj jb s B' := fun i i0 i1 i2 => h i i0 (by omega) i2
theorem orb_s {f : Int → Int} {k : Int} (k0 : 0 ≤ k) : orb f (fun _ => true) (k + 1) = jor (orb f (fun _ => true) k) (f k) := by
  unfold orb
  rw [show (k + 1).toNat = k.toNat + 1 by omega]
  show (if true = true then _ else _) = _
  rw [if_pos rfl, show ((k.toNat : Nat) : Int) = k by omega]
/-- takes, given leads -/
theorem x_takes {b : PB} {z : ZS} {R : Int → Int → XS → (XS → Prop) → Prop} {l : Int} {s : XS} {K : XS → Prop} (hw : wfZ z) (hs : subB b z) (hr : RXb b s) (hR : RN s z) (hI : inI ((s.2 4).1 13)) (l0 : 0 ≤ l) (l1 : l < z.1.1 39)
    (hLead : ∀ (p q : Int) (s1 : XS) (K1 : XS → Prop), rsX s s1 → inI ((s1.2 4).1 13) → 0 ≤ p → p < z.1.1 27 → 0 ≤ q → q < z.1.1 27 → z.1.2 36 p = z.1.2 36 q → (∀ i, z.2 p i ≠ z.2 q i → i < l) → DN (z.1.1 39) (z.1.2 43) s1 l → (∀ s2, LD (z.1.1 39) (z.1.2 43) s1 s2 l (jor ((s1.2 4).1 13) (orb (z.1.2 43) (wayP z.2 p q) (z.1.1 39))) → K1 s2) → R p q s1 K1)
    (hD : DN (z.1.1 39) (z.1.2 43) s (l + 1)) (hK : ∀ s', LD (z.1.1 39) (z.1.2 43) s s' (l + 1) (jor ((s.2 4).1 13) (z.1.2 43 l)) → K s') : C_X6_takes_N_ R l s K := by
  intro X hX
  have hb := hs.1
  have hle := hs.2.1
  have h24 := hb.nt
  have hj := hw.nj
  have hjn := hw.njn (by
    have h24' : 0 ≤ z.1.1 27 ∧ z.1.1 27 ≤ 24 := hw.ok.nt
    have := (cn_b (P := fun t => z.1.2 36 t = t) h24'.1).1
    unfold gr at hj
    omega)
  have l24 : 0 ≤ l ∧ l < 24 := ⟨l0, by omega⟩
  unfold B_X6_takes_N_E
  refine ⟨l24, fun e => ⟨l24, ?_⟩, fun e => ?_⟩
  · rintro _ rfl
    obtain ⟨⟨w1, w1'⟩, w2, w3⟩ := hw.jw l l0 l1
    obtain ⟨b1, b2, b3⟩ := hR.2.2.2 l l0 l1
    have e9 : ((ya s 4 12 l 1).2 4).2 9 l = z.1.2 42 l := b3
    have e7 : ((ya s 4 12 l 1).2 4).2 7 l = z.1.2 40 l := b1
    have e8 : ((ya s 4 12 l 1).2 4).2 8 l = z.1.2 41 l := b2
    have hrs : rsX s (ya s 4 12 l 1) := rsX_ya (Or.inr rfl)
    rw [e9]
    refine ⟨l24, fun ec => ?_, fun ec => ⟨l24, ?_⟩⟩
    · obtain ⟨v1, v2, v3⟩ := w3 ec
      have a1 : z.1.2 40 l < z.1.1 27 := w1.2
      have a2 : z.1.2 41 l < z.1.1 27 := w1'.2
      obtain ⟨⟨x1, x2, x3, x4⟩, ⟨y1, y2, y3, y4⟩, ⟨c1, c2, c3, c4⟩, d, et, f, g⟩ := hrs.rxb hr
      rw [e7, e8]
      have g1 : 0 ≤ z.1.2 40 l ∧ z.1.2 40 l < (ya s 4 12 l 1).1.1 31 := ⟨w1.1, by omega⟩
      have g2 : 0 ≤ z.1.2 41 l ∧ z.1.2 41 l < (ya s 4 12 l 1).1.1 31 := ⟨w1'.1, by omega⟩
      have g3 : 0 ≤ z.1.2 40 l ∧ z.1.2 40 l < (ya s 4 12 l 1).1.1 41 := ⟨w1.1, by omega⟩
      have g4 : 0 ≤ z.1.2 41 l ∧ z.1.2 41 l < (ya s 4 12 l 1).1.1 41 := ⟨w1'.1, by omega⟩
      refine ⟨l24, ⟨g1, c2⟩, g3, g3, l24, ⟨g2, c2⟩, g4, g4, ?_⟩
      obtain ⟨p1, p2, p3⟩ := hs.2.2 _ w1.1 a1
      obtain ⟨q1, q2, q3⟩ := hs.2.2 _ w1'.1 a2
      have f1 := hb.fn (z.1.2 40 l) w1.1 (by omega)
      have f2 := hb.tk _ f1.1 f1.2
      have LX : ∀ k, 0 ≤ k → k ≤ b.tk (b.fn (z.1.2 40 l)) → ∀ s1, rsX s s1 → (s1.2 4).1 13 = jor ((s.2 4).1 13) (orb (fun k => orb (z.1.2 43) (wayP z.2 ((bkM z.1).pt (z.1.2 40 l) k) ((bkM z.1).pt (z.1.2 41 l) k)) l) (fun _ => true) k) → DN (z.1.1 39) (z.1.2 43) s1 l → (∀ i, l + 1 ≤ i → (s1.2 4).2 12 i = (s.2 4).2 12 i) → X (z.1.2 40 l) (z.1.2 41 l) k s1 := by
        refine upto (fun k k0 k1 ih s1 h1 h2 h3 h4 => hX _ _ _ _ ?_)
        unfold B_X6_takes_N_93
        obtain ⟨-, ⟨-, y2', -, -⟩, -, -, et', -⟩ := h1.rxb hr
        have t1 := et' (z.1.2 40 l) w1.1 (by omega)
        have t2 := et' (z.1.2 41 l) w1'.1 (by omega)
        have m1 : 0 ≤ z.1.2 40 l ∧ z.1.2 40 l < s1.1.1 41 := ⟨w1.1, by omega⟩
        have m2 : 0 ≤ z.1.2 41 l ∧ z.1.2 41 l < s1.1.1 41 := ⟨w1'.1, by omega⟩
        have htk : b.tk (b.fn (z.1.2 40 l)) = b.tk (b.fn (z.1.2 41 l)) := by rw [p2, q2, v1]
        rw [t1.2.1, t2.2.1, ← htk]
        refine ⟨⟨m1, f2.1, by omega⟩, fun e3 => ?_, fun e3 => ⟨⟨m1, k0, by omega⟩, ⟨m2, k0, by omega⟩, ?_⟩⟩
        · refine hK s1 ⟨h1, ?_, fun i i0 i1 i2 hd c hc hbt => ?_, h4⟩
          · rw [h2, v3, ← p2, show k = b.tk (b.fn (z.1.2 40 l)) by omega]
          · by_cases e4 : i = l
            · rw [e4, v3, ← p2] at hbt
              rw [h2, show k = b.tk (b.fn (z.1.2 40 l)) by omega, bt_or, hbt, Bool.or_true]
            · exact h3 i i0 (by omega) i2 hd c hc hbt
        · rw [t1.2.2 k k0 (by omega), t2.2.2 k k0 (by omega)]
          have k2 : k < (bkM z.1).tk ((bkM z.1).fn (z.1.2 40 l)) := by rw [← p2]; omega
          rw [p3 k k0 k2, q3 k k0 (by rw [← v1]; exact k2)]
          have n1 := hw.ok.pt _ w1.1 w1.2 k k0 k2
          have n2 := hw.ok.pt _ w1'.1 w1'.2 k k0 (by rw [← v1]; exact k2)
          obtain ⟨u1, u2⟩ := v2 k k0 k2
          refine hLead _ _ s1 _ h1 (by rw [h2]; exact inI_or) n1.1 (by omega) n2.1 (by omega) u1 u2 h3 (fun s2 hL => ⟨inI_s (by omega), ih (by omega) s2 (h1.tr hL.1) ?_ hL.2.2.1 (fun i hi => (hL.2.2.2 i (by omega)).trans (h4 i hi))⟩)
          rw [hL.2.1, h2, jor_assoc, orb_s k0]
          congr 2
          refine set_ext inI_orb inI_orb (fun c hc => ?_)
          rw [bt_orb hc, bt_orb hc]
          constructor <;> rintro ⟨i, i0, i1, i2, i3⟩
          · exact ⟨i, i0, u2 i (wayP_ne.mp i2), i2, i3⟩
          · exact ⟨i, i0, by omega, i2, i3⟩
      refine LX 0 (by omega) f2.1 _ hrs (jor_0r hI).symm (fun i i0 i1 i2 hd c hc hbt => ?_) (fun i hi => ?_)
      · refine hD i i0 (by omega) i2 ?_ c hc hbt
        have e5 : ((ya s 4 12 l 1).2 4).2 12 i = (s.2 4).2 12 i := by
          show (if i = l then 1 else (s.2 4).2 12 i) = _
          rw [if_neg (by omega)]
        rw [← e5]; exact hd
      · show (if i = l then 1 else (s.2 4).2 12 i) = _
        rw [if_neg (by omega)]
    · rintro _ rfl
      have w2 := w2 ec
      refine hK _ ⟨⟨rfl, fun j hj => ?_, fun k hk => if_neg hk, fun j h1 h2 => ?_⟩, ?_, fun i i0 i1 i2 hd c hc hbt => ?_, fun i hi => ?_⟩
      · show (if j = 4 then _ else if j = 4 then _ else s.2 j) = s.2 j
        rw [if_neg hj, if_neg hj]
      · show (ma (s.2 4) 12 l 1).2 j = _
        rw [ma_o h2]
      · rw [w2.2]; rfl
      · show bt (jor ((s.2 4).1 13) (jshl 1 (z.1.2 42 l))) c = true
        rw [bt_or]
        by_cases e4 : i = l
        · rw [e4, w2.2] at hbt
          rw [hbt, Bool.or_true]
        · have hd : (if i = l then 1 else (s.2 4).2 12 i) ≠ 0 := hd
          rw [if_neg e4] at hd
          rw [hD i i0 i1 i2 hd c hc hbt, Bool.true_or]
      · show (if i = l then 1 else (s.2 4).2 12 i) = _
        rw [if_neg (by omega)]
  · refine hK s ⟨rsX.rf, ?_, hD, fun _ _ => rfl⟩
    exact (jor_sub hI (fun c hc hbt => hD l l0 (by omega) l1 e c hc hbt)).symm
theorem x_leads {b : PB} {z : ZS} (hw : wfZ z) (hs : subB b z) : ∀ (f : Nat) (p q B : Int) (s : XS) (K : XS → Prop), 0 ≤ B → B < f → RXb b s → RN s z → inI ((s.2 4).1 13) → 0 ≤ p → p < z.1.1 27 → 0 ≤ q → q < z.1.1 27 → z.1.2 36 p = z.1.2 36 q → (∀ i, z.2 p i ≠ z.2 q i → i < B) → DN (z.1.1 39) (z.1.2 43) s B → (∀ s2, LD (z.1.1 39) (z.1.2 43) s s2 B (jor ((s.2 4).1 13) (orb (z.1.2 43) (wayP z.2 p q) (z.1.1 39))) → K s2) → C_X6_leads_Nf f p q s K := by
  have h24 : 0 ≤ z.1.1 27 ∧ z.1.1 27 ≤ 24 := hw.ok.nt
  obtain ⟨dep, hd⟩ := FO_dep h24.2 hw.fo
  have hF := hw.fo
  intro f
  induction f with
  | zero => exact fun p q B s K h1 h2 => by omega
  | succ f ihf =>
    intro p q B s K hB0 hBf hr hR hI p0 p1 q0 q1 hpq hlab hD hK
    intro X10 X42 h10 h42
    unfold B_X6_leads_N_E
    refine x_common h24.2 hF hd (fun t t0 t1 => (hR.2.1.1 t t0 t1).2.1) p0 p1 q0 q1 hpq (fun to s0 hrs0 hd12 hs13 hto hta htb hlca => ?_)
    -- one step: a label is taken
    have step : ∀ (t o : Int) (s1 : XS) (K1 : XS → Prop), rsX s s1 → inI ((s1.2 4).1 13) → 0 ≤ t → t < z.1.1 27 → z.1.2 37 t ≠ -2 → (z.2 t (z.1.2 38 t) ≠ z.2 o (z.1.2 38 t)) → (∀ i, z.2 t i ≠ z.2 o i → i < B) → DN (z.1.1 39) (z.1.2 43) s1 B → (∀ s2, rsX s s2 → (s2.2 4).1 13 = jor ((s1.2 4).1 13) (z.1.2 43 (z.1.2 38 t)) → DN (z.1.1 39) (z.1.2 43) s2 B → (∀ i, B ≤ i → (s2.2 4).2 12 i = (s1.2 4).2 12 i) → K1 s2) → C_X6_takes_N_ (C_X6_leads_Nf f) (z.1.2 38 t) s1 K1 := by
      intro t o s1 K1 h1 hI1 t0 t1 ht hcr hl hD1 hK1
      have g := hF.2.1 t t0 t1 ht
      have hlB := hl _ hcr
      refine x_takes hw hs (h1.rxb hr) (h1.rn hR) hI1 g.2.1.1 g.2.1.2 (fun p' q' s2 K2 a1 a2 a3 a4 a5 a6 a7 a8 a9 a10 => ?_) (DN_low hD1 (by omega)) (fun s2 hL => hK1 s2 (h1.tr hL.1) hL.2.1 (fun i i0 i1 i2 hdn c hc hbt => ?_) (fun i hi => hL.2.2.2 i (by omega)))
      · have hgl := g.2.1.1
        exact ihf p' q' (z.1.2 38 t) s2 K2 hgl (by omega) ((h1.tr a1).rxb hr) ((h1.tr a1).rn hR) a2 a3 a4 a5 a6 a7 a8 a9 a10
      · by_cases e : i < z.1.2 38 t + 1
        · exact hL.2.2.1 i i0 e i2 hdn c hc hbt
        · rw [hL.2.2.2 i (by omega)] at hdn
          rw [hL.2.1]
          exact bt_jor_l (hD1 i i0 i1 i2 hdn c hc hbt)
    have way_up : ∀ t o, 0 ≤ t → t < z.1.1 27 → z.1.2 37 t ≠ -2 → z.2 t (z.1.2 38 t) ≠ z.2 o (z.1.2 38 t) → ∀ i, (wayP z.2 t o i = true ↔ wayP z.2 (z.1.2 37 t) o i = true ∨ i = z.1.2 38 t) := by
      intro t o t0 t1 ht hcr i
      have g := hF.2.1 t t0 t1 ht
      rw [wayP_ne, wayP_ne]
      by_cases e4 : i = z.1.2 38 t
      · rw [e4]
        exact ⟨fun _ => Or.inr rfl, fun _ => hcr⟩
      · have : ¬ z.2 t i ≠ z.2 (z.1.2 37 t) i := fun q3 => e4 ((g.2.2.1 i).mp q3)
        have : z.2 t i = z.2 (z.1.2 37 t) i := by cases q5 : z.2 t i <;> cases q6 : z.2 (z.1.2 37 t) i <;> simp [q5, q6] at this ⊢
        rw [this]
        exact ⟨fun q => Or.inl q, fun q => q.elim id (fun q => absurd q e4)⟩
    have up_sub : ∀ t x, z.1.2 37 t ≠ -2 → 0 ≤ t → subt (z.1.2 37) t x → subt (z.1.2 37) (z.1.2 37 t) x := by
      intro t x hut t0 ⟨i, hi⟩
      have hs : subt (z.1.2 37) (z.1.2 37 t) t := ⟨1, by show (if z.1.2 37 t = -2 then -2 else itu (z.1.2 37) 0 (z.1.2 37 t)) = z.1.2 37 t; rw [if_neg hut]; rfl⟩
      exact subt_trans i x hi t0 hs
    -- a step on the way up to the lowest one above both
    have one : ∀ t o, 0 ≤ t → t < z.1.1 27 → 0 ≤ o → o < z.1.1 27 → z.1.2 36 t = z.1.2 36 o → t ≠ to → subt (z.1.2 37) to t → ¬ subt (z.1.2 37) t o → z.1.2 37 t ≠ -2 ∧ subt (z.1.2 37) to (z.1.2 37 t) ∧ z.2 t (z.1.2 38 t) ≠ z.2 o (z.1.2 38 t) ∧ dep (z.1.2 37 t) < dep t := by
      intro t o t0 t1 o0 o1 hto' hne hst hno
      have hut : z.1.2 37 t ≠ -2 := fun q => subt_root hto.1 hne q hst
      have d := (hd t t0 t1).2.2 hut
      exact ⟨hut, (subt_up hne hut).mp hst, FO_cross2 hF hd t0 t1 o0 o1 hto' hut hno, by omega⟩
    have hqto : z.1.2 36 q = z.1.2 36 to := ((subt_dep hF hd hto.1 q q0 q1 htb).2).symm
    have L42 : ∀ (k : Nat) (t : Int) (s1 : XS), rsX s s1 → inI ((s1.2 4).1 13) → 0 ≤ t → t < z.1.1 27 → dep t < k → z.1.2 36 t = z.1.2 36 to → subt (z.1.2 37) to t → (∀ i, z.2 t i ≠ z.2 to i → i < B) → DN (z.1.1 39) (z.1.2 43) s1 B → (∀ i, B ≤ i → (s1.2 4).2 12 i = (s.2 4).2 12 i) → jor ((s1.2 4).1 13) (orb (z.1.2 43) (wayP z.2 t to) (z.1.1 39)) = jor ((s.2 4).1 13) (orb (z.1.2 43) (wayP z.2 p q) (z.1.1 39)) → X42 to t s1 := by
      intro k
      induction k with
      | zero => exact fun t s1 _ _ t0 t1 hk => by have := (hd t t0 t1).1; omega
      | succ k ih =>
        intro t s1 h1 hI1 t0 t1 hk hgt hst hl hD1 hdn e
        refine h42 _ _ _ ⟨fun e2 => ?_, fun e2 => ⟨⟨t0, by omega⟩, ?_⟩⟩
        · rw [e2, orb_none (fun i _ _ => by unfold wayP; cases z.2 to i <;> rfl), jor_0r hI1] at e
          exact hK s1 ⟨h1, e, hD1, hdn⟩
        · have hno : ¬ subt (z.1.2 37) t to := fun q3 => by
            have h5 := (subt_dep hF hd t0 to hto.1 hto.2 q3).1
            have h6 := (subt_dep hF hd hto.1 t t0 t1 hst).1
            rcases h5 with h5 | h5
            · exact e2 h5.symm
            · rcases h6 with h6 | h6
              · exact e2 h6
              · omega
          obtain ⟨u1, u2, u3, u4⟩ := one t to t0 t1 hto.1 hto.2 hgt e2 hst hno
          have g := hF.2.1 t t0 t1 u1
          have rr := (h1.rn hR).2.1.1 t t0 t1
          rw [rr.2.2 u1]
          refine step t to s1 _ h1 hI1 t0 t1 u1 u3 hl hD1 (fun s2 k1 k2 k3 k4 => ⟨⟨t0, by omega⟩, ?_⟩)
          rw [show (s2.2 4).2 5 t = z.1.2 37 t by rw [((k1.rn hR).2.1.1 t t0 t1).2.1]; exact cv_n u1]
          refine ih _ s2 k1 (by rw [k2]; exact inI_or) g.1.1 g.1.2 (by omega) (g.2.2.2.symm.trans hgt) u2 (fun i hi => hl i ?_) k3 (fun i hi => (k4 i hi).trans (hdn i hi)) ?_
          · exact wayP_ne.mp ((way_up t to t0 t1 u1 u3 i).mpr (Or.inl (wayP_ne.mpr hi)))
          · rw [k2, orb_step (P := wayP z.2 t to) g.2.1.1 g.2.1.2 (fun i _ _ => way_up t to t0 t1 u1 u3 i)]
            exact e
    have L10 : ∀ (k : Nat) (t : Int) (s1 : XS), rsX s s1 → inI ((s1.2 4).1 13) → 0 ≤ t → t < z.1.1 27 → dep t < k → z.1.2 36 t = z.1.2 36 q → subt (z.1.2 37) to t → subt (z.1.2 37) t p → (∀ i, z.2 t i ≠ z.2 q i → i < B) → DN (z.1.1 39) (z.1.2 43) s1 B → (∀ i, B ≤ i → (s1.2 4).2 12 i = (s.2 4).2 12 i) → jor ((s1.2 4).1 13) (orb (z.1.2 43) (wayP z.2 t q) (z.1.1 39)) = jor ((s.2 4).1 13) (orb (z.1.2 43) (wayP z.2 p q) (z.1.1 39)) → X10 q to t s1 := by
      intro k
      induction k with
      | zero => exact fun t s1 _ _ t0 t1 hk => by have := (hd t t0 t1).1; omega
      | succ k ih =>
        intro t s1 h1 hI1 t0 t1 hk hgt hst htp hl hD1 hdn e
        refine h10 _ _ _ _ ⟨fun e2 => ?_, fun e2 => ⟨⟨t0, by omega⟩, ?_⟩⟩
        · rw [e2] at hl e
          refine L42 ((dep q).toNat + 1) q s1 h1 hI1 q0 q1 (by have := (hd q q0 q1).1; omega) hqto htb (fun i hi => hl i (fun q => hi q.symm)) hD1 hdn ?_
          rw [wayP_symm]; exact e
        · have hno : ¬ subt (z.1.2 37) t q := fun q3 => by
            have h5 := hlca t t0 t1 htp q3
            have h5 := (subt_dep hF hd t0 to hto.1 hto.2 h5).1
            have h6 := (subt_dep hF hd hto.1 t t0 t1 hst).1
            rcases h5 with h5 | h5
            · exact e2 h5.symm
            · rcases h6 with h6 | h6
              · exact e2 h6
              · omega
          obtain ⟨u1, u2, u3, u4⟩ := one t q t0 t1 q0 q1 hgt e2 hst hno
          have g := hF.2.1 t t0 t1 u1
          have rr := (h1.rn hR).2.1.1 t t0 t1
          rw [rr.2.2 u1]
          refine step t q s1 _ h1 hI1 t0 t1 u1 u3 hl hD1 (fun s2 k1 k2 k3 k4 => ⟨⟨t0, by omega⟩, ?_⟩)
          rw [show (s2.2 4).2 5 t = z.1.2 37 t by rw [((k1.rn hR).2.1.1 t t0 t1).2.1]; exact cv_n u1]
          refine ih _ s2 k1 (by rw [k2]; exact inI_or) g.1.1 g.1.2 (by omega) (g.2.2.2.symm.trans hgt) u2 (up_sub t p u1 t0 htp) (fun i hi => hl i ?_) k3 (fun i hi => (k4 i hi).trans (hdn i hi)) ?_
          · exact wayP_ne.mp ((way_up t q t0 t1 u1 u3 i).mpr (Or.inl (wayP_ne.mpr hi)))
          · rw [k2, orb_step (P := wayP z.2 t q) g.2.1.1 g.2.1.2 (fun i _ _ => way_up t q t0 t1 u1 u3 i)]
            exact e
    refine L10 ((dep p).toNat + 1) p s0 hrs0 (by rw [hs13]; exact hI) p0 p1 (by have := (hd p p0 p1).1; omega) hpq hta subt_self hlab (fun i i0 i1 i2 hdn c hc hbt => ?_) (fun i _ => hd12 i) (by rw [hs13])
    rw [hs13]
    rw [hd12 i] at hdn
    exact hD i i0 i1 i2 hdn c hc hbt
theorem x_why {m : MS} {s : XS} {t u : Int} {K : Int → Prop} (hB : JB s m) (hN : JN s m) (h1 : ¬ ((0 ≤ t ∧ t < m.1 27) ∧ 0 ≤ u ∧ u < m.1 27) → K 1) (h5 : (0 ≤ t ∧ t < m.1 27) ∧ 0 ≤ u ∧ u < m.1 27 → m.2 36 t ≠ m.2 36 u → K 5) (h0 : (0 ≤ t ∧ t < m.1 27) ∧ 0 ≤ u ∧ u < m.1 27 → m.2 36 t = m.2 36 u → K 0) : C_X1_why t u s K := by
  obtain ⟨hb, hr⟩ := hB
  have h24 := hb.nt
  have hnt : (bkM m).nt = m.1 27 := rfl
  have ex : s.1.1 31 = m.1 27 := hr.1.2.1
  refine x_isTerm2 (by omega) (fun h => ⟨fun q => absurd q (by decide), fun _ => ?_⟩) (fun h => ⟨fun _ => h1 (by rw [← ex]; exact h), fun q => absurd rfl q⟩)
  rw [ex] at h
  have e1 := (hN.2.1 t h.1.1 h.1.2).1
  have e2 := (hN.2.1 u h.2.1 h.2.2).1
  refine x_areOne ⟨h.1.1, by omega⟩ ⟨h.2.1, by omega⟩ (fun e => ⟨fun q => absurd q (by decide), fun _ => h0 h (by rw [← e1, ← e2]; exact e)⟩) (fun e => ⟨fun _ => h5 h (fun q => e (by rw [e1, e2]; exact q)), fun q => absurd rfl q⟩)
theorem c_whyNotOne {m : MS} {t u : Int} {K : Int → MS → Prop} (h24 : 0 ≤ m.1 27 ∧ m.1 27 ≤ 24) (h1 : ¬ ((0 ≤ t ∧ t < m.1 27) ∧ 0 ≤ u ∧ u < m.1 27) → K 1 m) (h5 : (0 ≤ t ∧ t < m.1 27) ∧ 0 ≤ u ∧ u < m.1 27 → m.2 36 t ≠ m.2 36 u → K 5 m) (h0 : (0 ≤ t ∧ t < m.1 27) ∧ 0 ≤ u ∧ u < m.1 27 → m.2 36 t = m.2 36 u → K 0 m) : C_whyNotOne t u m K :=
  c_isTerm h24 (fun a => ⟨fun q => absurd q (by decide), fun _ => c_isTerm h24 (fun b => ⟨fun q => absurd q (by decide), fun _ => ⟨⟨a.1, by omega⟩, ⟨b.1, by omega⟩, h0 ⟨a, b⟩, h5 ⟨a, b⟩⟩⟩) (fun b => ⟨fun _ => h1 (fun q => b q.2), fun q => absurd rfl q⟩)⟩) (fun a => ⟨fun _ => h1 (fun q => a q.1), fun q => absurd rfl q⟩)
/-- a question why, refused by both -/
theorem p_why {s : XS} {m : MS} {KN : XS → MS → Prop} {t u : Int} {A : XS → (Int → XS → Prop) → Prop} {A' : MS → (Int → MS → Prop) → Prop} (hB : JB s m) (hN : JN s m) (hK : keepsJ s m KN)
    (h : (0 ≤ t ∧ t < m.1 27) ∧ 0 ≤ u ∧ u < m.1 27 → m.2 36 t = m.2 36 u → A s (fun r s' => C_whyNotOne t u m (fun r4 s1 => C_isRefused r4 s1 (fun r8 s5 => (r8 = 0 → A' s5 (fun r' m' => r = r' ∧ KN s' m')) ∧ (¬ r8 = 0 → r = -1 ∧ KN s' s5))))) :
    C_X1_why t u s (fun r1 => (r1 ≤ 0 → A s (fun r s' => C_whyNotOne t u m (fun r4 s1 => C_isRefused r4 s1 (fun r8 s5 => (r8 = 0 → A' s5 (fun r' m' => r = r' ∧ KN s' m')) ∧ (¬ r8 = 0 → r = -1 ∧ KN s' s5))))) ∧ (¬ r1 ≤ 0 → C_X1_refused r1 s (fun r s' => C_whyNotOne t u m (fun r4 s1 => C_isRefused r4 s1 (fun r8 s5 => (r8 = 0 → A' s5 (fun r' m' => r = r' ∧ KN s' m')) ∧ (¬ r8 = 0 → r = -1 ∧ KN s' s5)))))) := by
  have h24 := hB.1.nt
  refine x_why hB hN (fun q => ⟨fun q2 => absurd q2 (by decide), fun _ => x_refused ?_⟩) (fun q q5 => ⟨fun q2 => absurd q2 (by decide), fun _ => x_refused ?_⟩) (fun q q0 => ⟨fun _ => h q q0, fun q2 => absurd (by decide) q2⟩)
  · exact c_whyNotOne h24 (fun _ => c_isRefused (fun q => absurd q (by decide)) (fun _ => ⟨fun q => absurd q (by decide), fun _ => ⟨rfl, hK _ _ eqX_o eqM_ref (JT_ref (by decide))⟩⟩)) (fun q2 => absurd q2 q) (fun q2 => absurd q2 q)
  · exact c_whyNotOne h24 (fun q2 => absurd q q2) (fun _ _ => c_isRefused (fun q => absurd q (by decide)) (fun _ => ⟨fun q => absurd q (by decide), fun _ => ⟨rfl, hK _ _ eqX_o eqM_ref (JT_ref (by decide))⟩⟩)) (fun _ q2 => absurd q2 q5)
/-- and answered -/
theorem c_why_yes {m : MS} {t u : Int} {A' Z : MS → Prop} (h24 : 0 ≤ m.1 27 ∧ m.1 27 ≤ 24) (h : (0 ≤ t ∧ t < m.1 27) ∧ 0 ≤ u ∧ u < m.1 27) (he : m.2 36 t = m.2 36 u) (hA : A' (mref m 0)) : C_whyNotOne t u m (fun r4 s1 => C_isRefused r4 s1 (fun r8 s5 => (r8 = 0 → A' s5) ∧ (¬ r8 = 0 → Z s5))) :=
  c_whyNotOne h24 (fun q => absurd h q) (fun _ q => absurd he q) (fun _ _ => c_isRefused (fun _ => ⟨fun _ => hA, fun q => absurd rfl q⟩) (fun q => absurd rfl q))
theorem p_reasons {a : Int → Int} {s : XS} {m : MS} {z : ZS} {KN : XS → MS → Prop} (hJ : JZ s m z) (hK : keepsW s m KN) : C_law_15 a s m KN := by
  have hKJ := hK.x hJ.2.2.2.2.2.1
  have hsub := hJ.sub
  have hB := hJ.b
  have hN := hJ.n
  obtain ⟨h1, h2, h3, h4, h5, h6, h7⟩ := hJ
  have h24 : 0 ≤ z.1.1 27 ∧ z.1.1 27 ≤ 24 := h1.1.ok.nt
  have e27 : m.1 27 = z.1.1 27 := h2.1.2.1
  have hj := h1.1.nj
  unfold C_law_15 C_X1_reasons B_X1_reasons_E C_reasons B_reasons_E
  refine p_why (A := fun s K => C_X6_of_N (a 1) (a 2) s (fun r6 s7 => C_X1_fine r6 s7 (fun r10 s11 => K r10 s11))) (A' := fun s5 K => C_reasonsOf (a 1) (a 2) s5 (fun r13 s10 => K r13 s10)) hB hN hKJ (fun hv he => ?_)
  have hz : z.1.2 36 (a 1) = z.1.2 36 (a 2) := by
    rw [← (h3.2.1 (a 1) hv.1.1 (by omega)).1, ← (h3.2.1 (a 2) hv.2.1 (by omega)).1]; exact he
  have hjn := h1.1.njn (by omega)
  intro X hX
  unfold B_X6_of_N_E
  rintro _ rfl
  have L : ∀ k, 0 ≤ k → k ≤ 24 → ∀ s1, rsX s s1 → (s1.2 4).1 13 = 0 → (∀ i, 0 ≤ i → i < k → (s1.2 4).2 12 i = 0) → X (a 1) (a 2) k s1 := by
    refine upto (fun k k0 k1 ih s1 q1 q2 q3 => hX _ _ _ _ ⟨fun e => ?_, fun e => ⟨⟨k0, by omega⟩, ?_⟩⟩)
    · refine x_leads h1.1 hsub 40 (a 1) (a 2) (z.1.1 39) s1 _ hj.1 (by omega) (q1.rxb h4) (q1.rn h5) (by rw [q2]; exact ⟨by omega, by omega⟩) hv.1.1 (by omega) hv.2.1 (by omega) hz (fun i hi => ?_) (fun i i0 i1 i2 hdn => absurd (q3 i i0 (by omega)) hdn) (fun s2 hL => ?_)
      · by_cases s1' : z.2 (a 1) i = true
        · exact (h1.1.fo.2.2.2.2 _ i hv.1.1 (by omega) s1').2
        · by_cases s2 : z.2 (a 2) i = true
          · exact (h1.1.fo.2.2.2.2 _ i hv.2.1 (by omega) s2).2
          · exact absurd (by rw [Bool.not_eq_true] at s1' s2; rw [s1', s2]) hi
      · refine x_fine (c_why_yes (m := m) (by omega) hv he ?_)
        refine c_reasonsOf (m := mref m 0) (n := z.1.1 27) (nj := z.1.1 39) (ld := z.1.2 36) (u := z.1.2 37) (h := z.1.2 38) (σ := z.2) (jb := z.1.2 43) h24.2 (by omega) h1.1.fo (fun t t0 t1 => (h3.2.1 t t0 t1).2.1) (fun t t0 t1 => (h3.2.1 t t0 t1).2.2) (fun i i0 i1 => (h3.2.2 i i0 i1).2.2.2) hv.1.1 (by omega) hv.2.1 (by omega) hz ⟨?_, ?_⟩
        · rw [hL.2.1, q2, jor_0l inI_orb]
        · exact hKJ _ _ ((q1.tr hL.1).x.tr eqX_o) eqM_ref JT_fine
    · rintro _ rfl
      refine ⟨inI_s (by omega), ih (by omega) _ (q1.tr (rsX_ya (Or.inr rfl))) q2 (fun i i0 i1 => ?_)⟩
      show (if i = k then 0 else (s1.2 4).2 12 i) = 0
      by_cases e2 : i = k
      · rw [if_pos e2]
      · rw [if_neg e2]; exact q3 i i0 (by omega)
  refine L 0 (by omega) (by omega) _ ⟨rfl, fun j hj => if_neg hj, fun k hk => if_neg hk, fun _ _ _ => rfl⟩ rfl (fun i i0 i1 => by omega)
