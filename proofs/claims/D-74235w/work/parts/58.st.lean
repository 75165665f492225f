/-! WHAT STANDS AT THE LAW'S ENTRY (gen/gstart.py) -/
set_option maxRecDepth 100000
theorem e_cl_inst : ∀ (ci : Nat) (r : vw_C), e_cl[ci]? = some r → ∃ n : Nat, Cond.instantiable r.1 n ∈ lw_all
  | 0, r, h => by cases h; exact ⟨20, q142⟩
  | 1, r, h => by cases h; exact ⟨56, q1401⟩
  | 2, r, h => by cases h; exact ⟨5, q150⟩
  | 3, r, h => by cases h; exact ⟨4, q317⟩
  | 4, r, h => by cases h; exact ⟨5, q305⟩
  | 5, r, h => by cases h; exact ⟨14, q214⟩
  | 6, r, h => by cases h; exact ⟨8, q411⟩
  | 7, r, h => by cases h; exact ⟨8, q591⟩
  | 8, r, h => by cases h; exact ⟨2, q711⟩
  | 9, r, h => by cases h; exact ⟨4, q803⟩
  | 10, r, h => by cases h; exact ⟨2, q859⟩
  | 11, r, h => by cases h; exact ⟨3, q156⟩
  | 12, r, h => by cases h; exact ⟨4, q883⟩
  | n + 13, r, h => by cases h
section ST
variable {s : State} {args : Array Value}
theorem st_N (hts : ∀ w ∈ lw_tbl, w.before args s = true) : e_N s := fun w hw => va_Nw.of (e_tk_on (List.mem_filter.mp hw).2) (hts w (List.mem_filter.mp hw).1)
theorem st_FW (hts : ∀ w ∈ lw_tbl, w.before args s = true) : e_FW s := by
  intro q hq
  simp only [List.mem_cons, List.not_mem_nil, or_false] at hq
  rcases hq with rfl | rfl | rfl | rfl | rfl | rfl | rfl
  · exact va_Fw.of (hts _ q666) (hts _ q665) (hts _ q671) (hts _ q669) (hts _ q667)
  · exact va_Fw.of (hts _ q690) (hts _ q689) (hts _ q694) (hts _ q692) (hts _ q667)
  · exact va_Fw.of (hts _ q729) (hts _ q728) (hts _ q733) (hts _ q731) (hts _ q667)
  · exact va_Fw.of (hts _ q876) (hts _ q875) (hts _ q880) (hts _ q878) (hts _ q667)
  · exact va_Fw.of (hts _ q1370) (hts _ q1369) (hts _ q1374) (hts _ q1372) (hts _ q667)
  · exact va_Fw.of (hts _ q904) (hts _ q903) (hts _ q909) (hts _ q907) (hts _ q905)
  · exact va_Fw.of (hts _ q914) (hts _ q913) (hts _ q918) (hts _ q916) (hts _ q905)
theorem st_arr {ty : FieldType} (h : (Cond.arrayClass ty).before args s = true) (hty : ∀ n, ty ≠ .object n) : ∃ cA : ClassId, ArrOfT s cA ty ∧ va_RA s cA ty := by
  obtain ⟨c, k, comp, h1, h2, h3⟩ := Cond.arrayClass_spec h
  refine ⟨c, fun n z => ⟨fun k h => (by cases h), k, h2, comp, h3⟩, ?_⟩
  cases ty <;> first | exact h1 | exact absurd rfl (hty _)
theorem st_arrO {n : String} (h : (Cond.arrayOver (.object n)).before args s = true) : ∃ cA : ClassId, ArrOfT s cA (.object n) ∧ va_RA s cA (.object n) := by
  obtain ⟨comp, c, k, h1, -, h2, h3, h4⟩ := Cond.arrayOver_spec h
  exact ⟨c, fun n z => ⟨fun k h => (by cases h), k, h2, comp, h3⟩, k, comp, h2, h3, h1, h4⟩
theorem st_K (hts : ∀ w ∈ lw_tbl, w.before args s = true) : ∃ (q : Nat → ClassId × (Nat → Nat)) (a : Nat → ClassId), (∀ (c : Nat) (r : vw_C), e_cl[c]? = some r → u_Kn s r.1 r.2.1 r.2.2 (q c).1 (q c).2) ∧ ∀ t, t < 6 → ArrOfT s (a t) (e_ty t) ∧ va_RA s (a t) (e_ty t) := by
  have h1 : ∀ c : Nat, ∃ q : ClassId × (Nat → Nat), ∀ r, e_cl[c]? = some r → u_Kn s r.1 r.2.1 r.2.2 q.1 q.2 := by
    intro c
    cases hc : e_cl[c]? with
    | none => exact ⟨(0, fun _ => 0), fun r h => by cases h⟩
    | some r =>
      obtain ⟨n, hn⟩ := e_cl_inst c r hc
      obtain ⟨cC, iS, h⟩ := u_known (ws := lw_all) (fun w hw => hts w (lw_all_tbl hw)) (e_cl_ok c r hc).1 (hts _ (lw_all_tbl hn))
      exact ⟨(cC, iS), fun r' h' => by cases h'; exact h⟩
  have h2 : ∀ t : Nat, ∃ cA : ClassId, t < 6 → ArrOfT s cA (e_ty t) ∧ va_RA s cA (e_ty t) := by
    intro t
    by_cases ht : t < 6
    · have : ∃ cA : ClassId, ArrOfT s cA (e_ty t) ∧ va_RA s cA (e_ty t) := by
        rcases (show t = 0 ∨ t = 1 ∨ t = 2 ∨ t = 3 ∨ t = 4 ∨ t = 5 by omega) with rfl | rfl | rfl | rfl | rfl | rfl
        · exact st_arr (hts _ (lw_all_tbl q302)) (fun n q => by cases q)
        · exact st_arr (hts _ (lw_all_tbl q303)) (fun n q => by cases q)
        · exact st_arr (hts _ (lw_all_tbl q186)) (fun n q => by cases q)
        · exact st_arr (hts _ (lw_all_tbl q389)) (fun n q => by cases q)
        · exact st_arrO (hts _ q168)
        · exact st_arrO (hts _ q2021)
      obtain ⟨cA, h⟩ := this
      exact ⟨cA, fun _ => h⟩
    · exact ⟨0, fun h => absurd h ht⟩
  obtain ⟨q, hq⟩ := Classical.axiomOfChoice h1
  obtain ⟨a, ha⟩ := Classical.axiomOfChoice h2
  exact ⟨q, a, hq, ha⟩
def st_tm : Nat → Term
  | 0 => .string "ReasonCloser$Reader" 116
  | 1 => .string "ReasonCloser$Reader" 141
  | 2 => .string "ReasonCloser$Reader" 176
  | 3 => .string "ReasonCloserModel" 164
  | _ => .string "ReasonCloser$Reader" 61
set_option maxHeartbeats 4000000 in
theorem st_9 (hts : ∀ w ∈ lw_tbl, w.before args s = true) (hs : ∀ w ∈ flatC (Jvm.Cond.and given_1 narrow_1), w.before args s = true) {A : Nat → Prop} (hA : ∀ a : Nat, a < s.heap.size → ¬ A a) (b : Nat) : ∃ ad : EA, e_K9 ad A s ∧ ad (9, 20, 0) = b := by
  obtain ⟨adC, hC, hCe⟩ := vb_Cof (A := A) (st := (Term.static e_int "cache" "[Ljava/lang/Integer;")) rfl (va_eqt (hs (.eq (.length (Term.static e_int "cache" "[Ljava/lang/Integer;")) (.int 256)) (by decide +kernel))) (hs _ (by decide +kernel)) hA
  obtain ⟨tC, htC, hTC⟩ := va_Tof (A := A) (tm := (Term.static e_int "cache" "[Ljava/lang/Integer;")) (ty := .object "java/lang/Integer") (f := fun k => .ref (adC k)) (N := 256) (by decide) (hs _ (by decide +kernel)) (va_eqt (hs (.eq (.length (Term.static e_int "cache" "[Ljava/lang/Integer;")) (.int 256)) (by decide +kernel))) hCe hA
  obtain ⟨adK, adV, hS, hSe⟩ := vk_Sof (A := A) (s := s) (args := args) (N := 5) (tm := st_tm) (len := e_len) (byt := e_byt) (fun i hi => by
    rcases (show i = 0 ∨ i = 1 ∨ i = 2 ∨ i = 3 ∨ i = 4 by omega) with rfl | rfl | rfl | rfl | rfl <;> decide) (fun i hi => by
    rcases (show i = 0 ∨ i = 1 ∨ i = 2 ∨ i = 3 ∨ i = 4 by omega) with rfl | rfl | rfl | rfl | rfl <;> exact hs _ (by decide +kernel)) (fun i hi => by
    rcases (show i = 0 ∨ i = 1 ∨ i = 2 ∨ i = 3 ∨ i = 4 by omega) with rfl | rfl | rfl | rfl | rfl <;> exact hs _ (by decide +kernel)) (fun i hi => by
    rcases (show i = 0 ∨ i = 1 ∨ i = 2 ∨ i = 3 ∨ i = 4 by omega) with rfl | rfl | rfl | rfl | rfl <;> exact hs _ (by decide +kernel)) (fun i hi => by
    rcases (show i = 0 ∨ i = 1 ∨ i = 2 ∨ i = 3 ∨ i = 4 by omega) with rfl | rfl | rfl | rfl | rfl <;> exact hs _ (by decide +kernel)) (fun i hi j hj => by
    have e0 : e_len.getD 0 0 = 3 := rfl
    have e1 : e_len.getD 1 0 = 4 := rfl
    have e2 : e_len.getD 2 0 = 4 := rfl
    have e3 : e_len.getD 3 0 = 4 := rfl
    have e4 : e_len.getD 4 0 = 5 := rfl
    rcases (show i = 0 ∨ i = 1 ∨ i = 2 ∨ i = 3 ∨ i = 4 by omega) with rfl | rfl | rfl | rfl | rfl
    · rcases (show j = 0 ∨ j = 1 ∨ j = 2 by omega) with rfl | rfl | rfl <;> exact hs _ (by decide +kernel)
    · rcases (show j = 0 ∨ j = 1 ∨ j = 2 ∨ j = 3 by omega) with rfl | rfl | rfl | rfl <;> exact hs _ (by decide +kernel)
    · rcases (show j = 0 ∨ j = 1 ∨ j = 2 ∨ j = 3 by omega) with rfl | rfl | rfl | rfl <;> exact hs _ (by decide +kernel)
    · rcases (show j = 0 ∨ j = 1 ∨ j = 2 ∨ j = 3 by omega) with rfl | rfl | rfl | rfl <;> exact hs _ (by decide +kernel)
    · rcases (show j = 0 ∨ j = 1 ∨ j = 2 ∨ j = 3 ∨ j = 4 by omega) with rfl | rfl | rfl | rfl | rfl <;> exact hs _ (by decide +kernel)) (fun i j hi hj hij => by
    rcases (show i = 0 ∨ i = 1 ∨ i = 2 ∨ i = 3 ∨ i = 4 by omega) with rfl | rfl | rfl | rfl | rfl <;>
    rcases (show j = 0 ∨ j = 1 ∨ j = 2 ∨ j = 3 ∨ j = 4 by omega) with rfl | rfl | rfl | rfl | rfl <;>
    first
    | exact absurd rfl hij
    | exact Or.inl (hs _ (by decide +kernel))
    | exact Or.inr (hs _ (by decide +kernel))) hA
  have k0 := hSe 0 (by decide)
  have k1 := hSe 1 (by decide)
  have k2 := hSe 2 (by decide)
  have k3 := hSe 3 (by decide)
  have k4 := hSe 4 (by decide)
  have eq : ∀ (t u : Term) (a : Nat), (Cond.eq t u) ∈ flatC (Jvm.Cond.and given_1 narrow_1) → t.eval args s none [] s = some (.ref a) → u.eval args s none [] s = some (.ref a) := fun t u a h => va_eqR (hs _ h)
  have m155 := eq (.string "ReasonCloser$Reader" 116) (.string "ReasonCloserModel" 155) _ (by decide +kernel) k0
  have m160 := eq (.string "ReasonCloser$Reader" 141) (.string "ReasonCloserModel" 160) _ (by decide +kernel) k1
  have m162 := eq (.string "ReasonCloser$Reader" 176) (.string "ReasonCloserModel" 162) _ (by decide +kernel) k2
  have r386 := eq (.string "ReasonCloser$Reader" 116) (.string "ReasonCloser" 386) _ (by decide +kernel) k0
  have r388 := eq (.string "ReasonCloser$Reader" 141) (.string "ReasonCloser" 388) _ (by decide +kernel) k1
  have r389 := eq (.string "ReasonCloser$Reader" 176) (.string "ReasonCloser" 389) _ (by decide +kernel) k2
  have r390 := eq (.string "ReasonCloserModel" 164) (.string "ReasonCloser" 390) _ (by decide +kernel) k3
  obtain ⟨tO, htO, hTO⟩ := va_Tof (A := A) (tm := .static "ReasonCloser" "OWN" "[Ljava/lang/String;") (ty := .object "java/lang/String") (f := fun k => .ref (adK k)) (N := 4) (by decide) (hs _ (by decide +kernel)) (va_eqt (hs (.eq (.length (.static "ReasonCloser" "OWN" "[Ljava/lang/String;")) (.int 4)) (by decide +kernel))) (fun j hj => by
    rcases (show j = 0 ∨ j = 1 ∨ j = 2 ∨ j = 3 by omega) with rfl | rfl | rfl | rfl
    · exact va_eqv (hs (.eq (.elem (.static "ReasonCloser" "OWN" "[Ljava/lang/String;") (.int 0)) (.string "ReasonCloser" 386)) (by decide +kernel)) r386
    · exact va_eqv (hs (.eq (.elem (.static "ReasonCloser" "OWN" "[Ljava/lang/String;") (.int 1)) (.string "ReasonCloser" 388)) (by decide +kernel)) r388
    · exact va_eqv (hs (.eq (.elem (.static "ReasonCloser" "OWN" "[Ljava/lang/String;") (.int 2)) (.string "ReasonCloser" 389)) (by decide +kernel)) r389
    · exact va_eqv (hs (.eq (.elem (.static "ReasonCloser" "OWN" "[Ljava/lang/String;") (.int 3)) (.string "ReasonCloser" 390)) (by decide +kernel)) r390) hA
  obtain ⟨mi, hmi⟩ := va_Mi.of (hs (.isRef (.mirror "[Ljava/lang/Object;")) (by decide +kernel))
  have pick : ∀ {C n d : String}, va_Zq C n d A s s.heap → ∃ z : Nat × Nat, va_Z C n d (if z.1 = 0 then .null else .ref z.2) A s s.heap := by
    rintro C n d (h | ⟨t, h⟩)
    · exact ⟨(0, 0), h⟩
    · exact ⟨(1, t), h⟩
  obtain ⟨z0, hz0⟩ := pick (va_Zqof (A := A) (hts _ q521) (hts _ (lw_all_tbl q123)) (hs _ (by decide +kernel)) hA)
  have hU := vx_Zqof (A := A) (C := Bundle.tN) (n := "UNASSIGNED_STACK") (d := Bundle.steD) (hts _ q615) (hts _ (lw_all_tbl q125)) (hs _ (by decide +kernel)) hA
  have hP := vx_Zqof (A := A) (C := Bundle.tN) (n := "SUPPRESSED_SENTINEL") (d := Bundle.listD) (hts _ q617) (hts _ (lw_all_tbl q125)) (hs _ (by decide +kernel)) hA
  obtain ⟨z1, hz1⟩ := pick hU.1
  obtain ⟨z2, hz2⟩ := pick hP.1
  refine ⟨fun i => match i.2.1 with
    | 12 => adC i.2.2
    | 13 => adK i.2.2
    | 14 => adV i.2.2
    | 15 => tC
    | 16 => tO
    | 17 => (match i.2.2 with | 0 => z0.2 | 1 => z1.2 | _ => z2.2)
    | 18 => (match i.2.2 with | 0 => z0.1 | 1 => z1.1 | _ => z2.1)
    | 19 => mi
    | _ => b, ⟨⟨hC, hTC⟩, ⟨hS, fun q hq => ?_⟩, hTO, fun q hq => ?_, fun k q hq => ?_, ⟨hU, hP⟩, hmi, va_Dc.of (hts _ q2008)⟩, rfl⟩
  · simp only [List.mem_cons, List.not_mem_nil, or_false] at hq
    rcases hq with rfl | rfl | rfl | rfl | rfl | rfl | rfl | rfl
    · exact vk_R.of (hts _ q464) k4
    · exact vk_R.of (hts _ q658) k0
    · exact vk_R.of (hts _ q789) k1
    · exact vk_R.of (hts _ q857) k2
    · exact vk_R.of (hts _ q1614) m155
    · exact vk_R.of (hts _ q1633) m160
    · exact vk_R.of (hts _ q1634) m162
    · exact vk_R.of (hts _ q1635) k3
  · simp only [List.mem_cons, List.not_mem_nil, or_false] at hq
    rcases hq with rfl | rfl | rfl | rfl
    · exact va_Zof (hts _ q843) (hts _ (lw_all_tbl q136)) htC hA
    · exact va_Zof (hts _ q841) (hts _ (lw_all_tbl q136)) (va_eqi (hs (.eq (.static e_int "high" "I") (.int 127)) (by decide +kernel))) hA
    · exact va_Zof (hts _ q478) (hts _ (lw_all_tbl q119)) (va_eqi (hs (.eq (.static "java/lang/String" "COMPACT_STRINGS" "Z") (.int 1)) (by decide +kernel))) hA
    · exact va_Zof (hts _ q556) (hts _ (lw_all_tbl q108)) htO hA
  · match k, hq with
    | 0, hq => cases hq; exact hz0
    | 1, hq => cases hq; exact hz1
    | 2, hq => cases hq; exact hz2
    | k + 3, hq => cases hq
theorem st_L (hs : ∀ w ∈ flatC (Jvm.Cond.and given_1 narrow_1), w.before args s = true) : ∃ cK : Nat → ClassId, ∀ k, k < 2 → ∃ (m : MethodId) (kc : Class) (cf : ClassFile) (i0 p0 : Nat), s.methodNamed? (e_si k).1 = some m ∧ s.vm.classes[m.cls]? = some kc ∧ kc.cf = some cf ∧ Lambda.shapeOf? cf (e_si k).2.2.1 = some (e_si k).2.2.2 ∧
    (kc.callSites.find? fun y => y.1 == m.idx && y.2.1 == (e_si k).2.1) = some (i0, p0, .makes (cK k)) ∧ Lambda.isMade { classPath := fun _ => none } s.vm m.cls (e_si k).2.2.2 (cK k) = true ∧ s.lambdaCallable (e_si k).2.2.2 (cK k) = true := by
  have one : ∀ (x : MethodName) (pc idx : Nat) (sh : Lambda.Shape), (Cond.lambdaSite x pc idx sh).before args s = true → sh.captured ≠ [] → ∃ (c : ClassId) (m : MethodId) (kc : Class) (cf : ClassFile) (i0 p0 : Nat), s.methodNamed? x = some m ∧ s.vm.classes[m.cls]? = some kc ∧ kc.cf = some cf ∧ Lambda.shapeOf? cf idx = some sh ∧
      (kc.callSites.find? fun y => y.1 == m.idx && y.2.1 == pc) = some (i0, p0, .makes c) ∧ Lambda.isMade { classPath := fun _ => none } s.vm m.cls sh c = true ∧ s.lambdaCallable sh c = true := by
    intro x pc idx sh h hc
    obtain ⟨c, o, hat⟩ := Cond.lambdaSite_spec h
    obtain ⟨m, kc, cf, i0, p0, lk, h1, h2, h3, h4, -, h5, h6, h7, h8⟩ := State.lambdaAt?_spec hat
    rcases h8 with ⟨a, cell, -, -, h, -⟩ | ⟨rfl, -, -⟩
    · exact absurd h hc
    · exact ⟨c, m, kc, cf, i0, p0, h1, h2, h3, h4, h5, h6, h7⟩
  obtain ⟨c0, h0⟩ := one (e_si 0).1 (e_si 0).2.1 (e_si 0).2.2.1 (e_si 0).2.2.2 (hs siteWord_1_1 (by decide +kernel)) (by decide +kernel)
  obtain ⟨c1, h1⟩ := one (e_si 1).1 (e_si 1).2.1 (e_si 1).2.2.1 (e_si 1).2.2.2 (hs siteWord_1_2 (by decide +kernel)) (by decide +kernel)
  refine ⟨fun k => if k = 0 then c0 else c1, fun k hk => ?_⟩
  rcases (show k = 0 ∨ k = 1 by omega) with rfl | rfl
  · exact h0
  · exact h1
end ST
