/-! THE PURE PART, 7: the relation's parts; the simplest cases -/
set_option maxRecDepth 100000
/-- what a question may change: in the system -/
def eqX (s s' : XS) : Prop := (∀ k, k ≠ 0 → k ≠ 1 → s'.1.1 k = s.1.1 k) ∧ (∀ k, k ≠ 13 → k ≠ 14 → k ≠ 17 → k ≠ 18 → k ≠ 19 → s'.1.2 k = s.1.2 k) ∧ s'.2 2 = s.2 2 ∧ (∀ k, k ≠ 13 → (s'.2 4).1 k = (s.2 4).1 k) ∧ ∀ k, k ≠ 11 → k ≠ 12 → (s'.2 4).2 k = (s.2 4).2 k
/-- in the reference -/
def mscI (k : Nat) : Prop := k = 0 ∨ k = 1 ∨ k = 3 ∨ k = 52 ∨ k = 55
def mscA (k : Nat) : Prop := k = 44 ∨ k = 45 ∨ k = 46 ∨ k = 47 ∨ k = 48 ∨ k = 49 ∨ k = 50 ∨ k = 51 ∨ k = 53 ∨ k = 54
def eqM (m m' : MS) : Prop := (∀ k, ¬ mscI k → m'.1 k = m.1 k) ∧ (∀ k, ¬ mscA k → k ≠ 31 → k ≠ 32 → m'.2 k = m.2 k) ∧ ∀ k, 0 ≤ k → k < m.1 30 → m'.2 31 k = m.2 31 k ∧ m'.2 32 k = m.2 32 k
theorem eqX.rf {s : XS} : eqX s s := ⟨fun _ _ _ => rfl, fun _ _ _ _ _ _ => rfl, rfl, fun _ _ => rfl, fun _ _ _ => rfl⟩
theorem eqX.tr {s s1 s2 : XS} (h : eqX s s1) (g : eqX s1 s2) : eqX s s2 :=
  ⟨fun k a b => (g.1 k a b).trans (h.1 k a b), fun k a b c d e => (g.2.1 k a b c d e).trans (h.2.1 k a b c d e), g.2.2.1.trans h.2.2.1, fun k a => (g.2.2.2.1 k a).trans (h.2.2.2.1 k a), fun k a b => (g.2.2.2.2 k a b).trans (h.2.2.2.2 k a b)⟩
theorem eqM.rf {m : MS} : eqM m m := ⟨fun _ _ => rfl, fun _ _ _ _ => rfl, fun _ _ _ => ⟨rfl, rfl⟩⟩
theorem eqM.tr {m m1 m2 : MS} (h : eqM m m1) (g : eqM m1 m2) : eqM m m2 := by
  have e30 : m1.1 30 = m.1 30 := h.1 30 (by unfold mscI; omega)
  exact ⟨fun k a => (g.1 k a).trans (h.1 k a), fun k a b c => (g.2.1 k a b c).trans (h.2.1 k a b c), fun k a b => ⟨(g.2.2 k a (by omega)).1.trans (h.2.2 k a b).1, (g.2.2 k a (by omega)).2.trans (h.2.2 k a b).2⟩⟩
/-- trouble and place -/
def JT (s : XS) (m : MS) : Prop := s.1.1 0 = m.1 1 ∧ s.1.1 1 = if m.1 1 = 4 then m.1 3 else -1
/-- the book -/
def JB (s : XS) (m : MS) : Prop := (bkM m).ok ∧ RXb (bkM m) s
/-- what stands now -/
def JN (s : XS) (m : MS) : Prop := (s.2 4).1 1 = m.1 27 ∧ (∀ t, 0 ≤ t → t < m.1 27 → (s.2 4).2 0 t = m.2 36 t ∧ (s.2 4).2 5 t = (if m.2 37 t = -2 then -1 else m.2 37 t) ∧ (m.2 37 t ≠ -2 → (s.2 4).2 6 t = m.2 38 t)) ∧ (s.2 4).1 10 = m.1 39 ∧ (∀ k, 0 ≤ k → k < m.1 39 → (s.2 4).2 7 k = m.2 40 k ∧ (s.2 4).2 8 k = m.2 41 k ∧ (s.2 4).2 9 k = m.2 42 k)
/-- acts -/
def JA (s : XS) (m : MS) : Prop := s.1.1 12 = m.1 8 - m.1 9 ∧ 0 ≤ s.1.1 12 ∧ s.1.1 12 ≤ 44
/-- a question leaves what the next one needs -/
def keepsJ (s : XS) (m : MS) (KN : XS → MS → Prop) : Prop := ∀ s' m', eqX s s' → eqM m m' → JT s' m' → KN s' m'
def xfin (s : XS) : XS := xs (xs s 0 0) 1 (-1)
def xref (s : XS) (why : Int) : XS := xs (xs s 0 why) 1 (-1)
theorem eqX_o {s : XS} {a b : Int} : eqX s (xs (xs s 0 a) 1 b) := ⟨fun k h0 h1 => (ms_n h1).trans (ms_n h0), fun _ _ _ _ _ _ => rfl, rfl, fun _ _ => rfl, fun _ _ _ => rfl⟩
theorem eqM_ref {m : MS} {a : Int} : eqM m (mref m a) := ⟨fun k h => by
  unfold mscI at h
  unfold mref
  rw [ms_n (by omega), ms_n (by omega), ms_n (by omega)], fun _ _ _ _ => rfl, fun _ _ _ => ⟨rfl, rfl⟩⟩
theorem eqM_0 {m : MS} : eqM m (ms m 0 0) := ⟨fun k h => ms_n (by unfold mscI at h; omega), fun _ _ _ _ => rfl, fun _ _ _ => ⟨rfl, rfl⟩⟩
theorem x_terms {s : XS} {K : Int → Prop} (h : K (s.1.1 31)) : C_X1_terms s K := h
theorem x_sames {s : XS} {K : Int → Prop} (h : K (s.1.1 32)) : C_X1_sames s K := h
theorem x_fine {a : Int} {s : XS} {K : Int → XS → Prop} (h : K a (xfin s)) : C_X1_fine a s K := by
  unfold C_X1_fine B_X1_fine_E
  rintro _ rfl _ rfl
  exact h
theorem x_refused {a : Int} {s : XS} {K : Int → XS → Prop} (h : K (-1) (xref s a)) : C_X1_refused a s K := by
  unfold C_X1_refused B_X1_refused_E
  rintro _ rfl _ rfl
  exact h
theorem JT_fine {s : XS} {m : MS} : JT (xfin s) (mref m 0) := ⟨rfl, rfl⟩
theorem JT_ref {s : XS} {m : MS} {a : Int} (h : a ≠ 4) : JT (xref s a) (mref m a) := ⟨rfl, by show (-1 : Int) = if a = 4 then -1 else -1; rw [if_neg h]⟩
theorem p_fault {a : Int → Int} {s : XS} {m : MS} {KN : XS → MS → Prop} (h4 : s.1.1 4 = m.1 2) (hT : JT s m) (hK : keepsJ s m KN) : C_law_2 a s m KN := by
  unfold C_law_2 C_X1_fault B_X1_fault_E C_fault B_fault_E
  rintro _ rfl
  exact ⟨h4, hK _ _ eqX.rf eqM_0 hT⟩
theorem p_where {a : Int → Int} {s : XS} {m : MS} {KN : XS → MS → Prop} (hT : JT s m) (hK : keepsJ s m KN) : C_law_3 a s m KN := by
  unfold C_law_3 C_X1_where B_X1_where_E C_where B_where_E
  rintro _ rfl
  have hT2 := hT.2
  refine ⟨fun e => ⟨?_, hK _ _ eqX.rf eqM_0 hT⟩, fun e => ⟨?_, hK _ _ eqX.rf eqM_0 hT⟩⟩
  · rw [hT2, if_pos (show m.1 1 = 4 from e)]; rfl
  · rw [hT2, if_neg (show ¬ m.1 1 = 4 from e)]
theorem p_size {a : Int → Int} {s : XS} {m : MS} {KN : XS → MS → Prop} (h4 : s.1.1 3 = m.1 5) (hT : JT s m) (hK : keepsJ s m KN) : C_law_36 a s m KN := by
  unfold C_law_36 C_X1_size B_X1_size_E C_size B_size_E
  rintro _ rfl
  exact ⟨h4, hK _ _ eqX.rf eqM_0 hT⟩
theorem p_trouble {a : Int → Int} {s : XS} {m : MS} {KN : XS → MS → Prop} (hT : JT s m) (hK : keepsJ s m KN) : C_law_37 a s m KN := by
  unfold C_law_37 C_X1_trouble B_X1_trouble_E C_trouble B_trouble_E
  rintro _ rfl
  exact ⟨hT.1, hK _ _ eqX.rf eqM_0 hT⟩
/-- a question answered -/
theorem p_ok {s : XS} {m : MS} {KN : XS → MS → Prop} {r r' : Int} (hK : keepsJ s m KN) (e : r = r') : r = r' ∧ KN (xfin s) (mref m 0) := ⟨e, hK _ _ eqX_o eqM_ref JT_fine⟩
theorem p_no {s : XS} {m : MS} {KN : XS → MS → Prop} {w : Int} (hK : keepsJ s m KN) (h : w ≠ 4) : (-1 : Int) = -1 ∧ KN (xref s w) (mref m w) := ⟨rfl, hK _ _ eqX_o eqM_ref (JT_ref h)⟩
theorem gr_congr {n : Int} {r r' : Int → Int} (h : ∀ t, 0 ≤ t → t < n → r t = r' t) : gr n r = gr n r' := cn_congr (fun k k0 k1 => by rw [h k k0 k1])
theorem cl_congr {b : PB} {r r' : Int → Int} (hb : b.ok) (h : ∀ t, 0 ≤ t → t < b.nt → r t = r' t) : fi (fun k => r (b.da k) = r (b.db k)) b.nd = fi (fun k => r' (b.da k) = r' (b.db k)) b.nd := fi_congr (fun k k0 k1 => by
  have h1 := hb.da k k0 k1
  have h2 := hb.db k k0 k1
  rw [h _ h1.1 h1.2, h _ h2.1 h2.2])
theorem p_about {a : Int → Int} {s : XS} {m : MS} {KN : XS → MS → Prop} (hB : JB s m) (hN : JN s m) (hA : JA s m) (hK : keepsJ s m KN) : C_law_4 a s m KN := by
  obtain ⟨hb, hr⟩ := hB
  have h24 := hb.nt
  have hnt : (bkM m).nt = m.1 27 := rfl
  obtain ⟨n1, n2, n3, n4⟩ := hN
  unfold C_law_4 C_X1_about B_X1_about_E C_about B_about_E
  have yes : ∀ (what : Int) (K : Int → MS → Prop), 0 ≤ what ∧ what ≤ 7 → K 0 (mref m 0) → C_in what 0 7 m (fun r4 s1 => C_unless r4 s1 (fun r8 s5 => C_isRefused r8 s5 K)) := fun what K hw hk =>
    c_in (fun _ => c_unless (c_isRefused (fun _ => hk) (fun e => absurd rfl e))) (fun e => absurd hw e)
  have row : ∀ t, 0 ≤ t → t < m.1 27 → (s.2 4).2 0 t = m.2 36 t := fun t t0 t1 => (n2 t t0 t1).1
  refine ⟨fun e => ?_, fun e0 => ⟨fun e => ?_, fun e1 => ⟨fun e => ?_, fun e2 => ⟨fun e => ?_, fun e3 => ⟨fun e => ?_, fun e4 => ⟨fun e => ?_, fun e5 => ⟨fun e => ?_, fun e6 => ⟨fun e => ?_, fun e7 => ?_⟩⟩⟩⟩⟩⟩⟩⟩
  · refine x_fine (yes _ _ (by omega) ⟨fun _ => ⟨fun _ => p_ok hK hr.1.1, fun q => absurd e q⟩, fun q => absurd rfl q⟩)
  · refine x_terms (x_fine (yes _ _ (by omega) ⟨fun _ => ⟨fun q => absurd q e0, fun _ => ⟨fun _ => p_ok hK hr.1.2.1, fun q => absurd e q⟩⟩, fun q => absurd rfl q⟩))
  · refine x_sames (x_fine (yes _ _ (by omega) ⟨fun _ => ⟨fun q => absurd q e0, fun _ => ⟨fun q => absurd q e1, fun _ => ⟨fun _ => p_ok hK hr.1.2.2.1, fun q => absurd e q⟩⟩⟩, fun q => absurd rfl q⟩))
  · refine x_fine (yes _ _ (by omega) ⟨fun _ => ⟨fun q => absurd q e0, fun _ => ⟨fun q => absurd q e1, fun _ => ⟨fun q => absurd q e2, fun _ => ⟨fun _ => p_ok hK hr.1.2.2.2, fun q => absurd e q⟩⟩⟩⟩, fun q => absurd rfl q⟩)
  · refine x_groups (by rw [n1]; exact h24) (x_fine (yes _ _ (by omega) ⟨fun _ => ⟨fun q => absurd q e0, fun _ => ⟨fun q => absurd q e1, fun _ => ⟨fun q => absurd q e2, fun _ => ⟨fun q => absurd q e3, fun _ => ⟨fun _ => c_groupsIn ⟨rfl, rfl⟩ h24 (p_ok hK ?_), fun q => absurd e q⟩⟩⟩⟩⟩, fun q => absurd rfl q⟩))
    rw [n1]
    exact gr_congr row
  · refine x_fine (yes _ _ (by omega) ⟨fun _ => ⟨fun q => absurd q e0, fun _ => ⟨fun q => absurd q e1, fun _ => ⟨fun q => absurd q e2, fun _ => ⟨fun q => absurd q e3, fun _ => ⟨fun q => absurd q e4, fun _ => ⟨fun _ => ⟨?_, p_ok hK hA.1⟩, fun q => absurd e q⟩⟩⟩⟩⟩⟩, fun q => absurd rfl q⟩)
    have h1 := hA.1
    have h2 := hA.2
    show inI (m.1 8 - m.1 9)
    exact inI_s (by omega)
  · refine x_fine (yes _ _ (by omega) ⟨fun _ => ⟨fun q => absurd q e0, fun _ => ⟨fun q => absurd q e1, fun _ => ⟨fun q => absurd q e2, fun _ => ⟨fun q => absurd q e3, fun _ => ⟨fun q => absurd q e4, fun _ => ⟨fun q => absurd q e5, fun _ => ⟨fun _ => p_ok hK n3, fun q => absurd e q⟩⟩⟩⟩⟩⟩⟩, fun q => absurd rfl q⟩)
  · refine x_clash hb hr (x_fine (yes _ _ (by omega) ⟨fun _ => ⟨fun q => absurd q e0, fun _ => ⟨fun q => absurd q e1, fun _ => ⟨fun q => absurd q e2, fun _ => ⟨fun q => absurd q e3, fun _ => ⟨fun q => absurd q e4, fun _ => ⟨fun q => absurd q e5, fun _ => ⟨fun q => absurd q e6, fun _ => c_clashIn ⟨rfl, rfl⟩ hb (p_ok hK ?_)⟩⟩⟩⟩⟩⟩⟩, fun q => absurd rfl q⟩))
    exact cl_congr hb row
  · refine x_refused (c_in (fun q => by omega) (fun _ => c_unless (c_isRefused (fun q => absurd q (by decide)) (fun _ => ⟨fun q => absurd q (by decide), fun _ => p_no hK (by decide)⟩))))
