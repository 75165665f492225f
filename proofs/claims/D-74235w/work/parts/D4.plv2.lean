/-! THE PURE PART, 71: level -/
set_option maxRecDepth 100000
theorem p_level {a : Int → Int} {s : XS} {m : MS} {z : ZS} {KN : XS → MS → Prop} (hJ : JZ s m z) (hK : keepsJ s m KN) : C_law_23 a s m KN := by
  have hgd := hJ.good
  obtain ⟨hb, hr⟩ := hJ.b
  have h24 : 0 ≤ m.1 27 ∧ m.1 27 ≤ 24 := hb.nt
  have h12 : 0 ≤ m.1 30 ∧ m.1 30 ≤ 12 := hb.ns
  have hnt : (bkM m).nt = m.1 27 := rfl
  have hns : (bkM m).ns = m.1 30 := rfl
  have ex : s.1.1 31 = m.1 27 := hr.1.2.1
  have e31 : ∀ s', lX s s' → s'.1.1 31 = m.1 27 := fun s' q => by rw [q.1]; exact ex
  intro X28 X62 X77 h28 h62 h77
  refine p_ask hJ.b hJ.n hK (F := C_level (a 1) (a 2) m) (fun K w hw hk Y17 Y40 Y76 Y94 Y126 Y141 _ _ _ _ _ _ => c_whyN h24 hw hk) (fun hv he => ?_)
  -- the system: a level on
  have sysL : ∀ (acc : Int) (s1 : XS) (rS r1 : Int → Int), lX s s1 → inI (acc + 1) → (s1.2 1).1 1 = m.1 27 → (s1.2 1).2 0 = r1 → (∀ i, 0 ≤ i → i < m.1 27 → (s1.2 0).2 0 i = rS i) → lr (m.1 27) r1 → (∀ s' r', lX s s' → (s'.2 1).1 1 = m.1 27 → (s'.2 1).2 0 = r' → PC (bkM m) (m.1 27) r1 rS r' → X28 (a 1) (a 2) (acc + 1) s') → X62 (a 1) (a 2) acc 0 s1 := by
    intro acc s1 rS r1 q1 hI hn1 hr1 hr0 hl1 go
    have L : ∀ i, 0 ≤ i → i ≤ m.1 27 → ∀ s2, lX s s2 → (s2.2 1).1 1 = m.1 27 → s2.2 0 = s1.2 0 → PI (bkM m) (m.1 27) r1 ((s1.2 0).2 0) i (i + 1) ((s2.2 1).2 0) → X62 (a 1) (a 2) acc i s2 := by
      refine upto (fun i i0 i1 ih s2 q2 hn2 h02 hpi => h62 _ _ _ _ _ (x_terms ?_))
      rw [e31 s2 q2]
      refine ⟨fun e => ⟨hI, go s2 _ q2 hn2 rfl (PC_congr hb (Int.le_refl _) (fun i i0 i1 => (hr0 i i0 i1).symm) (PI_end hpi e))⟩, fun e => ⟨inI_s (by omega), ?_⟩⟩
      have L2 : ∀ j, 0 ≤ j → j ≤ m.1 27 → i < j → ∀ s3, lX s s3 → (s3.2 1).1 1 = m.1 27 → s3.2 0 = s1.2 0 → PI (bkM m) (m.1 27) r1 ((s1.2 0).2 0) i j ((s3.2 1).2 0) → X77 (a 1) (a 2) acc i j s3 := by
        refine upto (fun j j0 j1 ih2 ij s3 q3 hn3 h03 hpi3 => h77 _ _ _ _ _ _ (x_terms ?_))
        rw [e31 s3 q3]
        refine ⟨fun e2 => ⟨inI_s (by omega), ih (by omega) s3 q3 hn3 h03 (PI_row hpi3 e2)⟩, fun e2 => x_follow1 hb (q3.rxb hr) i0 (by omega) j0 (by omega) (fun hal => ⟨fun q => absurd q (by decide), fun _ => x_unites (by rw [hn3]; exact h24) i0 (by omega) j0 (by omega) ⟨inI_s (by omega), ?_⟩⟩) (fun hal => ⟨fun _ => ⟨inI_s (by omega), ih2 (by omega) (by omega) s3 q3 hn3 h03 (PI_n hpi3 (by rw [h03] at hal; exact hal))⟩, fun q => absurd rfl q⟩)⟩
        rw [h03] at hal
        refine ih2 (by omega) (by omega) _ (q3.tr (lX_yaR (Or.inr rfl))) (by rw [yaR_at]; exact hn3) (by rw [← h03]; rfl) ?_
        rw [yaR_row, hn3]
        exact PI_y hpi3 i0 ij (by omega) hal
      exact L2 (i + 1) (by omega) (by omega) (by omega) s2 q2 hn2 h02 hpi
    exact L 0 (Int.le_refl _) h24.1 s1 q1 hn1 rfl (by rw [hr1]; exact PI_0 hl1)
  -- the reference: a level on
  have refL : ∀ (Y17 Y40 Y76 : Int → Int → Int → MS → Prop) (Y94 Y126 : Int → Int → Int → Int → MS → Prop) (Y141 : Int → Int → Int → Int → Int → MS → Prop) (K : Int → MS → Prop), (∀ x1 x2 x3 x4 s0, B_level_94 Y17 Y40 Y76 Y94 Y126 Y141 K x1 x2 x3 x4 s0 → Y94 x1 x2 x3 x4 s0) → (∀ x1 x2 x3 x4 s0, B_level_126 Y17 Y40 Y76 Y94 Y126 Y141 K x1 x2 x3 x4 s0 → Y126 x1 x2 x3 x4 s0) → (∀ x1 x2 x3 x4 x5 s0, B_level_141 Y17 Y40 Y76 Y94 Y126 Y141 K x1 x2 x3 x4 x5 s0 → Y141 x1 x2 x3 x4 x5 s0) → ∀ (acc : Int) (M : MS) (r : Int → Int), vM (mref m 0) M → inI (acc + 1) → M.2 47 = r → lr (m.1 27) r → (∀ M' r', vM (mref m 0) M' → M'.2 47 = r' → PC (bkM m) (m.1 27) r r r' → Y76 (a 1) (a 2) (acc + 1) M') → Y94 (a 1) (a 2) acc 0 M := by
    intro Y17 Y40 Y76 Y94 Y126 Y141 K g94 g126 g141 acc M r q1 hI h47 hl go
    have e27 : ∀ M, vM (mref m 0) M → M.1 27 = m.1 27 := fun M q => by rw [q.1]; rfl
    have ebk : ∀ M, vM (mref m 0) M → bkM M = bkM m := fun M q => q.bk
    have tail : ∀ r0, (∀ i, 0 ≤ i → i < m.1 27 → r0 i = r i) → ∀ i, 0 ≤ i → i ≤ m.1 27 → ∀ M2, vM (mref m 0) M2 → M2.2 48 = r0 → PI (bkM m) (m.1 27) r r0 i (i + 1) (M2.2 47) → Y126 (a 1) (a 2) acc i M2 := by
      intro r0 hr0
      refine upto (fun i i0 i1 ih M2 q2 h48 hpi => g126 _ _ _ _ _ ?_)
      unfold B_level_126
      rw [e27 M2 q2]
      refine ⟨fun e => ⟨hI, go M2 _ q2 rfl (PC_congr hb (Int.le_refl _) (fun i i0 i1 => (hr0 i i0 i1).symm) (PI_end hpi e))⟩, fun e => ⟨inI_s (by omega), ?_⟩⟩
      have L2 : ∀ j, 0 ≤ j → j ≤ m.1 27 → i < j → ∀ M3, vM (mref m 0) M3 → M3.2 48 = r0 → PI (bkM m) (m.1 27) r r0 i j (M3.2 47) → Y141 (a 1) (a 2) acc i j M3 := by
        refine upto (fun j j0 j1 ih2 ij M3 q3 h483 hpi3 => g141 _ _ _ _ _ _ ?_)
        unfold B_level_141
        rw [e27 M3 q3]
        refine ⟨fun e2 => ⟨inI_s (by omega), ih (by omega) M3 q3 h483 (PI_row hpi3 e2)⟩, fun e2 => c_isAlike ⟨rfl, rfl⟩ (by rw [ebk M3 q3]; exact hb) i0 (by rw [ebk M3 q3]; show i < m.1 27; omega) j0 (by rw [ebk M3 q3]; show j < m.1 27; omega) (fun hal => ⟨fun q => absurd q (by decide), fun _ => c_unites ⟨rfl, rfl⟩ (by rw [e27 M3 q3]; exact h24) i0 (by rw [e27 M3 q3]; omega) j0 (by rw [e27 M3 q3]; omega) ⟨inI_s (by omega), ?_⟩⟩) (fun hal => ⟨fun _ => ⟨inI_s (by omega), ih2 (by omega) (by omega) M3 q3 h483 (PI_n hpi3 (by rw [ebk M3 q3, h483] at hal; exact hal))⟩, fun q => absurd rfl q⟩)⟩
        rw [ebk M3 q3, h483] at hal
        refine ih2 (by omega) (by omega) _ (vM_R (Or.inl rfl) q3) ((maR_ne (by decide)).trans h483) ?_
        rw [maR_at, e27 M3 q3]
        exact PI_y hpi3 i0 ij (by omega) hal
      exact L2 (i + 1) (by omega) (by omega) (by omega) M2 q2 h48 hpi
    have L94 : ∀ k, 0 ≤ k → k ≤ m.1 27 → Y94 (a 1) (a 2) acc k (maR M 48 (upto_row (M.2 48) r k)) := by
      refine upto (fun k k0 k1 ih => g94 _ _ _ _ _ ?_)
      have q2 := vM_R (k := 48) (r := upto_row (M.2 48) r k) (Or.inr rfl) q1
      have h47' : (maR M 48 (upto_row (M.2 48) r k)).2 47 = r := (maR_ne (by decide)).trans h47
      unfold B_level_94
      rw [e27 _ q2]
      refine ⟨fun e => tail _ (fun i i0 i1 => upto_in i0 (show i < k by omega)) 0 (Int.le_refl _) h24.1 _ q2 maR_at (by rw [h47']; exact PI_0 hl), fun e => ⟨⟨k0, by omega⟩, ⟨k0, by omega⟩, ?_⟩⟩
      rintro _ rfl
      rw [h47', ma_maR, upto_put k0 rfl]
      exact ⟨inI_s (by omega), ih (by omega)⟩
    have := L94 0 (Int.le_refl _) h24.1
    rw [upto_0, maR_id] at this
    exact this
  -- both go on
  have hlp : ∀ (g : Nat) (rM : Int → Int) (acc : Int), LV (bkM m) rM rM → gr (m.1 27) rM ≤ g → 0 ≤ acc → acc ≤ 1000 - g → ∃ v, (∀ rS s1, LV (bkM m) rM rS → lX s s1 → (s1.2 1).1 1 = m.1 27 → (s1.2 1).2 0 = rS → (∀ s', lX s s' → C_level (a 1) (a 2) m (fun r' m' => v = r' ∧ KN (xfin s') m')) → X28 (a 1) (a 2) acc s1) ∧ ∀ (Y17 Y40 Y76 : Int → Int → Int → MS → Prop) (Y94 Y126 : Int → Int → Int → Int → MS → Prop) (Y141 : Int → Int → Int → Int → Int → MS → Prop) (K : Int → MS → Prop), (∀ x1 x2 x3 s0, B_level_76 Y17 Y40 Y76 Y94 Y126 Y141 K x1 x2 x3 s0 → Y76 x1 x2 x3 s0) → (∀ x1 x2 x3 x4 s0, B_level_94 Y17 Y40 Y76 Y94 Y126 Y141 K x1 x2 x3 x4 s0 → Y94 x1 x2 x3 x4 s0) → (∀ x1 x2 x3 x4 s0, B_level_126 Y17 Y40 Y76 Y94 Y126 Y141 K x1 x2 x3 x4 s0 → Y126 x1 x2 x3 x4 s0) → (∀ x1 x2 x3 x4 x5 s0, B_level_141 Y17 Y40 Y76 Y94 Y126 Y141 K x1 x2 x3 x4 x5 s0 → Y141 x1 x2 x3 x4 x5 s0) → ∀ rR M, LV (bkM m) rM rR → lr (m.1 27) rR → vM (mref m 0) M → M.2 47 = rR → (∀ m', vM (mref m 0) m' → K v m') → Y76 (a 1) (a 2) acc M := by
    intro g
    induction g with
    | zero =>
      intro rM acc hLV hg
      have := gr_pos hLV.1 (by omega)
      rw [hnt] at this
      omega
    | succ g ih =>
      intro rM acc hLV hg ac0 ac1
      by_cases hone : rM (a 1) = rM (a 2)
      · refine ⟨acc, fun rS s1 hS q1 hn1 hr1 q2 => h28 _ _ _ _ (x_areOne ⟨hv.1.1, by omega⟩ ⟨hv.2.1, by omega⟩ (fun e => ⟨fun q => absurd q (by decide), fun _ => x_fine (q2 s1 q1)⟩) (fun e => absurd ?_ e)), fun Y17 Y40 Y76 Y94 Y126 Y141 K g76 g94 g126 g141 rR M hR hlR q1 h47 q2 => g76 _ _ _ _ ⟨⟨hv.1.1, by omega⟩, ⟨hv.2.1, by omega⟩, fun _ => q2 M q1, fun q => absurd ?_ q⟩⟩
        · rw [hr1]; exact (hS.2.1 _ _ hv.1.1 hv.1.2 hv.2.1 hv.2.2).mpr hone
        · rw [h47]; exact (hR.2.1 _ _ hv.1.1 hv.1.2 hv.2.1 hv.2.2).mpr hone
      · obtain ⟨rM', hPC⟩ := PC_ex h24.1 hLV.1
        have hPC : PC (bkM m) (bkM m).nt rM rM rM' := hPC
        have hlt := LV_more hb hLV hPC hgd hv.1.1 hv.1.2 hv.2.1 hv.2.2 he hone
        rw [hnt] at hlt
        have hLV' := LV_m hb hLV hPC hPC
        obtain ⟨v, v1, v2⟩ := ih rM' (acc + 1) hLV' (by omega) (by omega) (by omega)
        refine ⟨v, fun rS s1 hS q1 hn1 hr1 q2 => h28 _ _ _ _ (x_areOne ⟨hv.1.1, by omega⟩ ⟨hv.2.1, by omega⟩ (fun e => absurd ?_ hone) (fun e => ⟨fun _ => ?_, fun q => absurd rfl q⟩)), fun Y17 Y40 Y76 Y94 Y126 Y141 K g76 g94 g126 g141 rR M hR hlR q1 h47 q2 => g76 _ _ _ _ ⟨⟨hv.1.1, by omega⟩, ⟨hv.2.1, by omega⟩, fun q => absurd ?_ hone, fun _ => ?_⟩⟩
        · rw [hr1] at e; exact (hS.2.1 _ _ hv.1.1 hv.1.2 hv.2.1 hv.2.2).mp e
        · refine x_like01 h24 hn1 (fun s2 p2 p21 p20 => x_bySames hb hr (q1.tr p2) (fun s3 p3 p3n p3s p30 => ?_))
          refine sysL acc s3 rS _ p3 (inI_s (by omega)) p3n rfl (fun i i0 i1 => ?_) p3s.1 (fun s' r' t1 t2 t3 t4 => v1 r' s' (LV_s hb hS hPC p3s t4) t1 t2 t3 q2)
          rw [p30, p20 i i0 i1, hr1]
        · rw [h47] at q; exact (hR.2.1 _ _ hv.1.1 hv.1.2 hv.2.1 hv.2.2).mp q
        · exact refL Y17 Y40 Y76 Y94 Y126 Y141 K g94 g126 g141 acc M rR q1 (inI_s (by omega)) h47 hlR (fun M' r' t1 t2 t3 => v2 Y17 Y40 Y76 Y94 Y126 Y141 K g76 g94 g126 g141 r' M' (LV_m hb hR hPC t3) t3.1 t1 t2 q2)
  refine x_bySames hb hr lX.rf (fun s1 q1 hn1 hsc _ => ?_)
  have hLVs : LV (bkM m) ((s1.2 1).2 0) ((s1.2 1).2 0) := LV_0 hb hsc hsc
  have hgr := (cn_b (P := fun t => (s1.2 1).2 0 t = t) h24.1).2
  obtain ⟨v, v1, v2⟩ := hlp 24 ((s1.2 1).2 0) 0 hLVs (by unfold gr; omega) (Int.le_refl _) (by decide)
  refine v1 _ s1 hLVs q1 hn1 rfl (fun s' qs Y17 Y40 Y76 Y94 Y126 Y141 g17 g40 g76 g94 g126 g141 => c_why_yes h24 hv he ?_)
  -- the reference begins
  have L40 : ∀ k, 0 ≤ k → k ≤ m.1 30 → ∀ M, vM (mref m 0) M → SC (bkM m) (bkM m).nt k (M.2 47) → Y40 (a 1) (a 2) k M := by
    refine upto (fun k k0 k1 ih M q hsk => g40 _ _ _ _ ?_)
    have e30 : M.1 30 = m.1 30 := by rw [q.1]; rfl
    have e27 : M.1 27 = m.1 27 := by rw [q.1]; rfl
    unfold B_level_40
    rw [e30]
    refine ⟨fun e => ?_, fun e => ⟨⟨k0, by omega⟩, ⟨k0, by omega⟩, ?_⟩⟩
    · have ek : k = (bkM m).ns := by show k = m.1 30; omega
      rw [ek] at hsk
      exact v2 Y17 Y40 Y76 Y94 Y126 Y141 _ g76 g94 g126 g141 _ M (LV_0 hb hsc hsk) hsk.1 q rfl (fun m' q2 => ⟨rfl, hK _ _ (qs.x.tr eqX_o) (eqM_ref.tr q2.m) ⟨by rw [q2.1]; rfl, by rw [q2.1]; rfl⟩⟩)
    · have ha := hb.sa k k0 (by show k < m.1 30; omega)
      have hb' := hb.sb k k0 (by show k < m.1 30; omega)
      have e1 : M.2 31 k = (bkM m).sa k := by rw [q.2 31 (by decide) (by decide)]; rfl
      have e2 : M.2 32 k = (bkM m).sb k := by rw [q.2 32 (by decide) (by decide)]; rfl
      rw [e1, e2]
      refine c_unites ⟨rfl, rfl⟩ (by rw [e27]; exact h24) ha.1 (by rw [e27]; exact ha.2) hb'.1 (by rw [e27]; exact hb'.2) ⟨inI_s (by omega), ih (by omega) _ (vM_R (Or.inl rfl) q) ?_⟩
      rw [maR_at, e27]
      exact SC_s hb k0 (by show k < m.1 30; omega) hsk
  have L17 : ∀ k, 0 ≤ k → k ≤ m.1 27 → Y17 (a 1) (a 2) k (maR (mref m 0) 47 (upto_row ((mref m 0).2 47) (fun x => x) k)) := by
    refine upto (fun k k0 k1 ih => g17 _ _ _ _ ?_)
    have q := vM_R (k := 47) (r := upto_row ((mref m 0).2 47) (fun x => x) k) (Or.inl rfl) (vM.rf (m := mref m 0))
    have e27 : (maR (mref m 0) 47 (upto_row ((mref m 0).2 47) (fun x => x) k)).1 27 = m.1 27 := rfl
    unfold B_level_17
    rw [e27]
    refine ⟨fun e => L40 0 (Int.le_refl _) h12.1 _ q (by rw [maR_at]; exact SC_0 (fun i i0 i1 => upto_in i0 (show i < k by omega))), fun e => ⟨⟨k0, by omega⟩, ?_⟩⟩
    rintro _ rfl
    rw [ma_maR, upto_put k0 rfl]
    exact ⟨inI_s (by omega), ih (by omega)⟩
  have := L17 0 (Int.le_refl _) h24.1
  rw [upto_0, maR_id] at this
  exact this
