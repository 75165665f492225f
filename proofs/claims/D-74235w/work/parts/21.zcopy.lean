/-! EW: arraycopy, references into arrays, class objects -/
set_option maxRecDepth 100000
section WCP
variable {p : Program} {l : Launch} {e : Env} {R : Room} {s : State} {m : MethodId} {args : Array Value} {below : List Frame} {meth : Method} {c : Code} {H : Heap} {locs : List Loc} {cells slots : Nat} {Q : State → Prop}
variable {cc : ByteArray} {pc : Nat} {ls : Array Slot} {rest : List Value} {a : Nat}
theorem W_copyi (hexec : p.tables.exec = Jvm.exec) (hb : c.code = cc) (hml : c.maxLocals = ls.size) {own : String} {index : Nat} (hown : s.vm.findClass own = some m.cls) (hlink : (Cond.methodLink own index arraycopyName).before args s = true) (hnat : (Cond.native arraycopyName).before args s = true) (hstat : (Cond.static arraycopyName).before args s = true) (hini : (Cond.initialized "java/lang/System").before args s = true)
    {a0 : Nat} {c0 c1 : ClassId} {n0 n1 : Nat} {f g : Nat → Int32} {ty : FieldType} (hA0 : ArrOfT s c0 (ty)) (hA1 : ArrOfT s c1 (ty)) (hprim : refKind ty = false) (hc0 : H[a0]? = some (arrV c0 n0 (fun j => .int (f j)))) (hc1 : H[a]? = some (arrV c1 n1 (fun j => .int (g j))))
    {sp dp n : Int32} (h1 : ¬ sp < 0) (h2 : ¬ dp < 0) (h3 : ¬ n < 0) (h4 : sp.toNatClampNeg + n.toNatClampNeg ≤ n0) (h5 : dp.toNatClampNeg + n.toNatClampNeg ≤ n1) (hfit : ∀ i, i < n.toNatClampNeg → fits ty (.int (f (sp.toNatClampNeg + i))) = true)
    (hframes : 1 ≤ R.frames) (hlocals : (rest.map fun v => v.category).sum + (nativeFrameWords "java/lang/System" "arraycopy" 5 + 11) ≤ R.locals) (hdg : decode cc pc = .ok (.invokestatic index, 3))
    (kk : ∀ (H1 : Heap) (L : List Loc), (∀ q ∈ L, q.base = a) → H1[a]? = some (arrV c1 n1 (fun j => .int (va_cpy f g sp.toNatClampNeg dp.toNatClampNeg n.toNatClampNeg j))) → H1.size = H.size → (∀ q : Nat, q ≠ a → H1[q]? = H[q]?) → W p l e R s m args below meth c H1 (locs ++ L) cells slots Q (F0 m (pc + 3) ls rest)) : W p l e R s m args below meth c H locs cells slots Q (F0 m pc ls (.int n :: .int dp :: .ref a :: .int sp :: .ref a0 :: rest)) := by
  have nn : ∀ z : Int32, ¬ z < 0 → z.toInt = (z.toNatClampNeg : Int) := by
    intro z hz
    have hz0 : (0 : Int) ≤ z.toInt := by
      have := Int32.not_lt.mp hz
      simpa using Int32.le_iff_toInt_le.mp this
    show z.toInt = ((z.toInt.toNat : Nat) : Int)
    omega
  intro T hT X
  obtain ⟨-, k0, hk0, cm0, hkk0⟩ := hA0 n0 (fun j => .int (f j))
  obtain ⟨-, k1, hk1, cm1, hkk1⟩ := hA1 n1 (fun j => .int (g j))
  obtain ⟨vm', X', step⟩ := X.arraycopy hexec hown hlink hnat hstat hini (src := a0) (dst := a) (cs := arrV c0 n0 (fun j => .int (f j))) (cd := arrV c1 n1 (fun j => .int (g j))) (srcPos := sp) (destPos := dp) (n := n) (by rw [hT]; exact hc0) (by rw [hT]; exact hc1)
    (fun _ h => by cases h) (fun _ h => by cases h) (fun h => by cases h) (fun h => by cases h) hk0 hk1 hkk0 hkk1 (by simp [hprim]) h1 h2 h3
    (by rw [nn sp h1, nn n h3]; show ¬ _ > ((arrV c0 n0 (fun j => .int (f j))).slots.size : Int); rw [arrV_size]; omega)
    (by rw [nn dp h2, nn n h3]; show ¬ _ > ((arrV c1 n1 (fun j => .int (g j))).slots.size : Int); rw [arrV_size]; omega)
    (fun vm₁ hal i hi => by
      have e : (arrV c0 n0 (fun j => .int (f j))).slots.getD (sp.toNatClampNeg + i) .null = .int (f (sp.toNatClampNeg + i)) := by
        rw [Array.getD_eq_getD_getElem?, arrV_read _ _ (by omega)]
        rfl
      rw [e]
      exact ⟨hfit i hi, trivial⟩)
    (g := F0 m pc ls (.int n :: .int dp :: .ref a :: .int sp :: .ref a0 :: rest)) rfl (by rw [hml]) (rest := rest) rfl (by rw [hb]; exact hdg) hframes (by show 2 * 0 + _ + _ ≤ _; omega)
  have e1 : copied (arrV c0 n0 (fun j => .int (f j))) (arrV c1 n1 (fun j => .int (g j))) sp dp n = arrV c1 n1 (fun j => .int (va_cpy f g sp.toNatClampNeg dp.toNatClampNeg n.toNatClampNeg j)) := va_copied (fun z => .int z) c0 c1 f g h4
  rw [e1] at X' step
  have hl : a < H.size := (Array.getElem?_eq_some_iff.mp hc1).1
  obtain ⟨t, a1, b1⟩ := kk (H.setIfInBounds a (arrV c1 n1 (fun j => .int (va_cpy f g sp.toNatClampNeg dp.toNatClampNeg n.toNatClampNeg j)))) _ (fun q hq => by obtain ⟨z, -, hz⟩ := List.mem_map.mp hq; rw [← hz]) (by simp [Array.getElem?_setIfInBounds, hl]) (by simp) (fun q hq => by simp [Array.getElem?_setIfInBounds, Ne.symm hq]) _ (by rw [← hT]; rfl) X'
  exact ⟨t, step t a1, b1⟩
theorem W_copyq (hexec : p.tables.exec = Jvm.exec) (hb : c.code = cc) (hml : c.maxLocals = ls.size) {own : String} {index : Nat} (hown : s.vm.findClass own = some m.cls) (hlink : (Cond.methodLink own index arraycopyName).before args s = true) (hnat : (Cond.native arraycopyName).before args s = true) (hstat : (Cond.static arraycopyName).before args s = true) (hini : (Cond.initialized "java/lang/System").before args s = true)
    {a0 : Nat} {c0 c1 : ClassId} {n0 n1 : Nat} {f g : Nat → Option Nat} {E1 : String} (hA0 : ArrOfT s c0 (.object E1)) (hA1 : ArrOfT s c1 (.object E1)) (hR : va_RA s c1 (.object E1)) (hc0 : H[a0]? = some (arrV c0 n0 (fun j => va_rf (f j)))) (hc1 : H[a]? = some (arrV c1 n1 (fun j => va_rf (g j))))
    {sp dp n : Int32} (h1 : ¬ sp < 0) (h2 : ¬ dp < 0) (h3 : ¬ n < 0) (h4 : sp.toNatClampNeg + n.toNatClampNeg ≤ n0) (h5 : dp.toNatClampNeg + n.toNatClampNeg ≤ n1) (hel : ∀ i : Nat, i < n.toNatClampNeg → ∀ y : Nat, f (sp.toNatClampNeg + i) = some y → ∃ (C : String) (cellV : Cell), H[y]? = some cellV ∧ cellV.vm.isStatics = false ∧ s.vm.findClass C = some cellV.cls ∧ ∀ comp c0 : ClassId, s.vm.findClass E1 = some comp → s.vm.findClass C = some c0 → s.vm.assignable c0 comp = true)
    (hframes : 1 ≤ R.frames) (hlocals : (rest.map fun v => v.category).sum + (nativeFrameWords "java/lang/System" "arraycopy" 5 + 11) ≤ R.locals) (hdg : decode cc pc = .ok (.invokestatic index, 3))
    (kk : ∀ (H1 : Heap) (L : List Loc), (∀ q ∈ L, q.base = a) → H1[a]? = some (arrV c1 n1 (fun j => va_rf (va_cpy f g sp.toNatClampNeg dp.toNatClampNeg n.toNatClampNeg j))) → H1.size = H.size → (∀ q : Nat, q ≠ a → H1[q]? = H[q]?) → W p l e R s m args below meth c H1 (locs ++ L) cells slots Q (F0 m (pc + 3) ls rest)) : W p l e R s m args below meth c H locs cells slots Q (F0 m pc ls (.int n :: .int dp :: .ref a :: .int sp :: .ref a0 :: rest)) := by
  have nn : ∀ z : Int32, ¬ z < 0 → z.toInt = (z.toNatClampNeg : Int) := by
    intro z hz
    have hz0 : (0 : Int) ≤ z.toInt := by
      have := Int32.not_lt.mp hz
      simpa using Int32.le_iff_toInt_le.mp this
    show z.toInt = ((z.toInt.toNat : Nat) : Int)
    omega
  intro T hT X
  obtain ⟨-, k0, hk0, cm0, hkk0⟩ := hA0 n0 (fun j => va_rf (f j))
  obtain ⟨-, k1, hk1, cm1, hkk1⟩ := hA1 n1 (fun j => va_rf (g j))
  obtain ⟨vm', X', step⟩ := X.arraycopy hexec hown hlink hnat hstat hini (src := a0) (dst := a) (cs := arrV c0 n0 (fun j => va_rf (f j))) (cd := arrV c1 n1 (fun j => va_rf (g j))) (srcPos := sp) (destPos := dp) (n := n) (by rw [hT]; exact hc0) (by rw [hT]; exact hc1)
    (fun _ h => by cases h) (fun _ h => by cases h) (fun h => by cases h) (fun h => by cases h) hk0 hk1 hkk0 hkk1 rfl h1 h2 h3
    (by rw [nn sp h1, nn n h3]; show ¬ _ > ((arrV c0 n0 (fun j => va_rf (f j))).slots.size : Int); rw [arrV_size]; omega)
    (by rw [nn dp h2, nn n h3]; show ¬ _ > ((arrV c1 n1 (fun j => va_rf (g j))).slots.size : Int); rw [arrV_size]; omega)
    (fun vm₁ hal i hi => by
      have e : (arrV c0 n0 (fun j => va_rf (f j))).slots.getD (sp.toNatClampNeg + i) .null = va_rf (f (sp.toNatClampNeg + i)) := by
        rw [Array.getD_eq_getD_getElem?, arrV_read _ _ (by omega)]
        rfl
      rw [e]
      cases hy : f (sp.toNatClampNeg + i) with
      | none => exact ⟨rfl, trivial⟩
      | some y =>
        obtain ⟨C, cellV, g1, g2, g3, hasg⟩ := hel i hi y hy
        obtain ⟨kA, comp, r1, r2, r3, -⟩ := hR
        cases hk1.symm.trans r1
        cases hkk1.symm.trans r2
        obtain ⟨kC, hkC, -⟩ := Vm.findClass_spec g3
        obtain ⟨kE, hkE, -⟩ := Vm.findClass_spec r3
        obtain ⟨kC', hkC', -⟩ := hal.2.2 _ _ hkC
        obtain ⟨kE', hkE', -⟩ := hal.2.2 _ _ hkE
        refine ⟨rfl, cellV, (show T.heap[y]? = some cellV by rw [hT]; exact g1), (fun q h => by rw [h] at g2; cases g2), ⟨kC', hkC'⟩, ?_, ?_⟩
        · exact ⟨kE', hkE'⟩
        · show vm₁.assignable _ _ = true
          rw [hal.assignable]
          exact hasg _ _ r3 g3)
    (g := F0 m pc ls (.int n :: .int dp :: .ref a :: .int sp :: .ref a0 :: rest)) rfl (by rw [hml]) (rest := rest) rfl (by rw [hb]; exact hdg) hframes (by show 2 * 0 + _ + _ ≤ _; omega)
  have e1 : copied (arrV c0 n0 (fun j => va_rf (f j))) (arrV c1 n1 (fun j => va_rf (g j))) sp dp n = arrV c1 n1 (fun j => va_rf (va_cpy f g sp.toNatClampNeg dp.toNatClampNeg n.toNatClampNeg j)) := va_copied (fun z => va_rf z) c0 c1 f g h4
  rw [e1] at X' step
  have hl : a < H.size := (Array.getElem?_eq_some_iff.mp hc1).1
  obtain ⟨t, a1, b1⟩ := kk (H.setIfInBounds a (arrV c1 n1 (fun j => va_rf (va_cpy f g sp.toNatClampNeg dp.toNatClampNeg n.toNatClampNeg j)))) _ (fun q hq => by obtain ⟨z, -, hz⟩ := List.mem_map.mp hq; rw [← hz]) (by simp [Array.getElem?_setIfInBounds, hl]) (by simp) (fun q hq => by simp [Array.getElem?_setIfInBounds, Ne.symm hq]) _ (by rw [← hT]; rfl) X'
  exact ⟨t, step t a1, b1⟩
end WCP
def icpy {α : Type} (f g : Int → α) (sp dp n : Int) : Int → α := fun k => if dp ≤ k ∧ k < dp + n then f (sp + (k - dp)) else g k
/-- what lies in a list: a plain object, or a cached Integer -/
def e_el (h : AH) (i : EId) : Prop := (∃ ci fs, h i = some (kO ci fs) ∧ ci < 100) ∨ ∃ k, k < 256 ∧ i = (9, 12, k)
theorem e_cast (ci : Nat) (r : vw_C) (h : e_cl[ci]? = some r) : Cond.castable r.1 "java/lang/Object" ∈ lw_tbl := by
  match ci, h with
  | 0, h => cases h; exact q1989
  | 1, h => cases h; exact q1995
  | 2, h => cases h; exact q1990
  | 3, h => cases h; exact q1994
  | 4, h => cases h; exact q1993
  | 5, h => cases h; exact q1992
  | 6, h => cases h; exact q1996
  | 7, h => cases h; exact q1997
  | 8, h => cases h; exact q1998
  | 9, h => cases h; exact q1999
  | 10, h => cases h; exact q2001
  | 11, h => cases h; exact q1991
  | 12, h => cases h; exact q2002
  | n + 13, h => simp at h
section EWQ
variable {M : EM} {d kc ks : Nat} {Q : AO → AH → Prop} {pc idx : Nat} {lv : List (Nat × AV)} {st rest : List AV} {h : AH}
variable {D : ED} {p : Program} {l : Launch} {e : Env} {R : Room} {s : State} {m : MethodId} {args : Array Value} {below : List Frame} {meth : Method} {c : Code} {Z : State → Prop} {A : Nat → Prop} {ad0 : EA} {h0 : AH} {H : Heap} {locs : List Loc} {cells slots : Nat} {ad : EA} {ls : Array Slot}
theorem e_elem {i : EId} (G : e_G M D p l s m args meth c ad0 A) (hX : e_X (fun _ => none) ad0 ad) (hR : e_R D ad h A H) (hS : va_S A s.heap H locs) (hi : e_el h i) : ∃ (C : String) (cellV : Cell), H[ad i]? = some cellV ∧ cellV.vm.isStatics = false ∧ s.vm.findClass C = some cellV.cls ∧ ∀ comp c0 : ClassId, s.vm.findClass "java/lang/Object" = some comp → s.vm.findClass C = some c0 → s.vm.assignable c0 comp = true := by
  rcases hi with ⟨ci, fs, hi, hc⟩ | ⟨k, hk, rfl⟩
  · obtain ⟨⟨r, hr, -⟩, -⟩ := hR.1 i _ hi
    unfold e_cx at hr
    rw [if_pos hc] at hr
    obtain ⟨cell, h1, h2, h3⟩ := e_recv hR G.2.2.1 hi hr
    exact ⟨r.1, cell, h1, h2, h3, vb_asgC (G.2.1.2.1 _ (List.mem_filter.mpr ⟨e_cast ci r hr, rfl⟩))⟩
  · obtain ⟨cell, h1, h2, h3, -⟩ := (G.2.2.2.1.1.1.1 k hk).kept hS.2.1
    exact ⟨_, cell, by rw [e_a9 hX]; exact h1, h2, h3, vb_asgC (G.2.1.2.1 _ (List.mem_filter.mpr ⟨q2000, rfl⟩))⟩
/-- a list of places of one cell -/
theorem e_SL {A : Nat → Prop} {H0 H H1 : Heap} {locs L : List Loc} {a : Nat} (hS : va_S A H0 H locs) (hz : H1.size = H.size) (oq : ∀ q : Nat, q ≠ a → H1[q]? = H[q]?) (hA : A a) (hL : ∀ q ∈ L, q.base = a) : va_S A H0 H1 (locs ++ L) :=
  ⟨by rw [hz]; exact hS.1, fun q g1 g2 => by rw [oq q (fun e => g2 (by rw [e]; exact hA))]; exact hS.2.1 q g1 g2, fun q hq => by
    rcases List.mem_append.mp hq with h | h
    · exact hS.2.2 q h
    · rw [hL q h]; exact hA⟩
theorem ew_ofHL {pc' : Nat} {st' : List AV} {i : EId} {c0 c1 : ACell} (hi : h i = some c0) (hok : (∀ v ∈ st, e_okv h v) → ∀ v ∈ st', e_okv h v) (hok1 : (∀ i c, h i = some c → e_okc h c) → (∀ v ∈ st, e_okv h v) → e_okc h c1)
    (hW : ∀ (D : ED) (p : Program) (l : Launch) (e : Env) (R : Room) (s : State) (m : MethodId) (args : Array Value) (below : List Frame) (meth : Method) (c : Code) (Z : State → Prop) (A : Nat → Prop) (H : Heap) (locs : List Loc) (cells slots : Nat) (ad0 ad : EA) (ls : Array Slot),
      e_G M D p l s m args meth c ad0 A → e_X (fun _ => none) ad0 ad → e_R D ad h A H → va_S A s.heap H locs → (∀ v ∈ st, e_okv h v) → ls.size = M.2.2.1 → (d + 1 ≤ R.frames ∧ 64 * (d + 1) ≤ R.locals) → (∀ (H1 : Heap) (L : List Loc), (∀ q ∈ L, q.base = ad i) → e_at D ad (ad i) H1 c1 → H1.size = H.size → (∀ q : Nat, q ≠ ad i → H1[q]? = H[q]?) → W p l e R s m args below meth c H1 (locs ++ L) cells slots Z (F0 m pc' ls (st'.map (e_v ad)))) → W p l e R s m args below meth c H locs cells slots Z (F0 m pc ls (st.map (e_v ad))))
    (k : EW M (d + 1) kc ks Q pc' lv st' (hup h i c1)) : EW M (d + 1) kc ks Q pc lv st h := by
  intro D p l e R s m args below meth c Z A ad0 h0 G E H locs cells slots ad ls I hst
  have hokc : ∀ i c, h i = some c → e_okc h c := fun i c hi => (I.1.1.1 i c hi).2.2.1
  refine hW D p l e R s m args below meth c Z A H locs cells slots ad0 ad ls G (fun i hi => I.1.2.1 i (Or.inr (hi.resolve_left fun q => q rfl))) I.1.1 I.1.2.2.2 hst I.2.1.2.1 ⟨I.2.2.2.2.1, I.2.2.2.2.2⟩ (fun H1 L hL hc z oq => ?_)
  refine k D p l e R s m args below meth c Z A ad0 h0 G E H1 _ cells slots ad ls ⟨⟨I.1.1.put hi hc (hok1 hokc hst) oq, I.1.2.1, fun j hj => hup_dom j (I.1.2.2.1 j hj), e_SL I.1.2.2.2 z oq (I.1.1.1 i _ hi).2.1 hL⟩, ⟨fun q hq => (I.2.1.1 q hq).mono hup_dom, I.2.1.2⟩, I.2.2⟩ (fun v hv => (hok hst v hv).mono hup_dom)
theorem e_cpyX {α : Type} {n1 : Nat} (mk : α → Value) {f g : Int → α} {sp dp n : Int} (h1 : 0 ≤ sp) (h2 : 0 ≤ dp) (h3 : 0 ≤ n) (cI : ClassId) : arrV cI n1 (fun j => mk (va_cpy (fun j : Nat => f j) (fun j : Nat => g j) sp.toNat dp.toNat n.toNat j)) = arrV cI n1 (fun j => mk (icpy f g sp dp n j)) := by
  refine arrV_ext fun j _ => ?_
  unfold va_cpy icpy
  by_cases e : dp.toNat ≤ j ∧ j < dp.toNat + n.toNat
  · rw [if_pos e, if_pos ⟨by omega, by omega⟩]
    have e1 : ((sp.toNat + (j - dp.toNat) : Nat) : Int) = sp + ((j : Int) - dp) := by omega
    show mk (f ((sp.toNat + (j - dp.toNat) : Nat) : Int)) = _
    rw [e1]
  · rw [if_neg e, if_neg (fun q => e ⟨by omega, by omega⟩)]
/-- arraycopy of ints -/
theorem ew_copyi {i0 i1 : EId} {n0 n1 : Nat} {f g : Int → Int} {sp dp n : Int} (hd : decode M.2.1 pc = .ok (.invokestatic idx, 3)) (w1 : Cond.methodLink M.1.cls idx arraycopyName ∈ lw_all) (hi0 : h i0 = some (kI 0 n0 f)) (hi1 : h i1 = some (kI 0 n1 g)) (b1 : 0 ≤ sp) (b2 : 0 ≤ dp) (b3 : 0 ≤ n) (b4 : sp + n ≤ n0) (b5 : dp + n ≤ n1) (h8 : (rest.map fun v => if e_is2 v then 2 else 1).sum ≤ 8)
    (k : EW M (d + 1) kc ks Q (pc + 3) lv rest (hup h i1 (kI 0 n1 (icpy f g sp dp n)))) : EW M (d + 1) kc ks Q pc lv (aI n :: aI dp :: aR (some i1) :: aI sp :: aR (some i0) :: rest) h := by
  refine ew_ofHL (c1 := kI 0 n1 (icpy f g sp dp n)) hi1 (fun hs => ok_t (ok_t (ok_t (ok_t (ok_t hs))))) (fun hh hs j hj => ?_) (fun D p l e R s m args below meth c Z A H locs cells slots ad0 ad ls G hX hR hS hs hl hr kk => ?_) k
  · unfold icpy
    split
    · next z =>
      have := hh _ _ hi0 (sp + (j - dp)).toNat (by omega)
      rw [e_nat (by omega)] at this
      exact this
    · exact hh _ _ hi1 j hj
  · obtain ⟨⟨t0, c0⟩, -⟩ := hR.1 i0 _ hi0
    obtain ⟨⟨t1, c1⟩, -⟩ := hR.1 i1 _ hi1
    have hin : inI n ∧ inI dp ∧ inI sp := ⟨ok_h hs, ok_h (ok_t hs), ok_h (ok_t (ok_t (ok_t hs)))⟩
    obtain ⟨x1, x2⟩ := e_ix hin.1 b3
    obtain ⟨y1, y2⟩ := e_ix hin.2.1 b2
    obtain ⟨z1, z2⟩ := e_ix hin.2.2 b1
    have hw : nativeFrameWords "java/lang/System" "arraycopy" 5 ≤ 20 := by decide
    refine W_copyi (ty := .int) (f := fun j : Nat => Int32.ofInt (f j)) (g := fun j : Nat => Int32.ofInt (g j)) (c0 := D.2 0) (c1 := D.2 0) (n0 := n0) (n1 := n1) (rest := rest.map (e_v ad)) G.1.1 G.1.2.1 (G.1.2.2.1.trans hl.symm) G.1.2.2.2.2.2.1 (G.2.1.1 _ w1) (G.2.1.1 _ q787) (G.2.1.1 _ q786) (G.2.1.1 _ q132) (G.2.2.1.2 0 (by omega)).1 (G.2.2.1.2 0 (by omega)).1 rfl c0 c1 z2 y2 x2 (by rw [z1, x1]; omega) (by rw [y1, x1]; omega) (fun _ _ => rfl) (by omega) (by have := e_cat8 ad h8; omega) hd (fun H1 L hL e1 z oq => ?_)
    refine kk H1 L hL ⟨t1, ?_⟩ z oq
    rw [e1, x1, y1, z1]
    exact congrArg some ((e_cpyX (fun z : Int32 => Value.int z) (f := fun j => Int32.ofInt (f j)) (g := fun j => Int32.ofInt (g j)) b1 b2 b3 _).trans (arrV_ext fun j _ => by unfold icpy; split <;> rfl))
/-- arraycopy of references -/
theorem ew_copyq {i0 i1 : EId} {n0 n1 : Nat} {f g : Int → Option EId} {sp dp n : Int} (hd : decode M.2.1 pc = .ok (.invokestatic idx, 3)) (w1 : Cond.methodLink M.1.cls idx arraycopyName ∈ lw_all) (hi0 : h i0 = some (kQ 0 n0 f)) (hi1 : h i1 = some (kQ 0 n1 g)) (b1 : 0 ≤ sp) (b2 : 0 ≤ dp) (b3 : 0 ≤ n) (b4 : sp + n ≤ n0) (b5 : dp + n ≤ n1) (h8 : (rest.map fun v => if e_is2 v then 2 else 1).sum ≤ 8)
    (hel : ∀ j : Int, sp ≤ j → j < sp + n → ∀ y, f j = some y → e_el h y)
    (k : EW M (d + 1) kc ks Q (pc + 3) lv rest (hup h i1 (kQ 0 n1 (icpy f g sp dp n)))) : EW M (d + 1) kc ks Q pc lv (aI n :: aI dp :: aR (some i1) :: aI sp :: aR (some i0) :: rest) h := by
  refine ew_ofHL (c1 := kQ 0 n1 (icpy f g sp dp n)) hi1 (fun hs => ok_t (ok_t (ok_t (ok_t (ok_t hs))))) (fun hh hs j hj => ?_) (fun D p l e R s m args below meth c Z A H locs cells slots ad0 ad ls G hX hR hS hs hl hr kk => ?_) k
  · unfold icpy
    split
    · next z =>
      have := hh _ _ hi0 (sp + (j - dp)).toNat (by omega)
      rw [e_nat (by omega)] at this
      exact this
    · exact hh _ _ hi1 j hj
  · obtain ⟨⟨t0, c0⟩, -⟩ := hR.1 i0 _ hi0
    obtain ⟨⟨t1, c1⟩, -⟩ := hR.1 i1 _ hi1
    have hin : inI n ∧ inI dp ∧ inI sp := ⟨ok_h hs, ok_h (ok_t hs), ok_h (ok_t (ok_t (ok_t hs)))⟩
    obtain ⟨x1, x2⟩ := e_ix hin.1 b3
    obtain ⟨y1, y2⟩ := e_ix hin.2.1 b2
    obtain ⟨z1, z2⟩ := e_ix hin.2.2 b1
    have hw : nativeFrameWords "java/lang/System" "arraycopy" 5 ≤ 20 := by decide
    have rf : ∀ o : Option EId, va_rf (o.map ad) = e_v ad (aR o) := fun o => by cases o <;> rfl
    refine W_copyq (E1 := "java/lang/Object") (f := fun j : Nat => (f j).map ad) (g := fun j : Nat => (g j).map ad) (c0 := D.2 4) (c1 := D.2 4) (n0 := n0) (n1 := n1) (rest := rest.map (e_v ad)) G.1.1 G.1.2.1 (G.1.2.2.1.trans hl.symm) G.1.2.2.2.2.2.1 (G.2.1.1 _ w1) (G.2.1.1 _ q787) (G.2.1.1 _ q786) (G.2.1.1 _ q132) (G.2.2.1.2 4 (by omega)).1 (G.2.2.1.2 4 (by omega)).1 (G.2.2.1.2 4 (by omega)).2 (by rw [c0]; exact congrArg some (arrV_ext fun j _ => (rf _).symm)) (by rw [c1]; exact congrArg some (arrV_ext fun j _ => (rf _).symm)) z2 y2 x2 (by rw [z1, x1]; omega) (by rw [y1, x1]; omega) (fun j hj y hy => ?_) (by omega) (by have := e_cat8 ad h8; omega) hd (fun H1 L hL e1 z oq => ?_)
    · rw [x1] at hj
      rw [z1] at hy
      cases hf : f ((sp.toNat + j : Nat) : Int) with
      | none => rw [hf] at hy; cases hy
      | some i =>
        rw [hf] at hy
        cases hy
        exact e_elem G hX hR hS (hel _ (by omega) (by omega) i hf)
    · refine kk H1 L hL ⟨t1, ?_⟩ z oq
      rw [e1, x1, y1, z1]
      exact congrArg some ((e_cpyX (fun o : Option Nat => va_rf o) (f := fun j => (f j).map ad) (g := fun j => (g j).map ad) b1 b2 b3 _).trans (arrV_ext fun j _ => by rw [← rf]; unfold icpy; split <;> rfl))
/-- aastore -/
theorem ew_aast {i y : EId} {n : Nat} {f : Int → Option EId} {x : Int} (hd : decode M.2.1 pc = .ok (.aastore, 1)) (hi : h i = some (kQ 0 n f)) (h0 : 0 ≤ x) (h1 : x < n) (hy : e_el h y) (kk : EW M (d + 1) kc ks Q (pc + 1) lv st (hup h i (kQ 0 n (iup f x (some y))))) : EW M (d + 1) kc ks Q pc lv (aR (some y) :: aI x :: aR (some i) :: st) h := by
  refine ew_ofHL (c1 := kQ 0 n (iup f x (some y))) hi (fun hs => ok_t (ok_t (ok_t hs))) (fun hh hs j hj => ?_) (fun D p l e R s m args below meth c Z A H locs cells slots ad0 ad ls G hX hR hS hs hl hr kk => ?_) kk
  · unfold iup
    split
    · exact ok_h hs
    · exact hh i _ hi j hj
  · obtain ⟨⟨ht, h2⟩, -⟩ := hR.1 i _ hi
    obtain ⟨x1, x2⟩ := e_ix (ok_h (ok_t hs)) h0
    obtain ⟨C, cellV, g1, g2, g3, hasg⟩ := e_elem G hX hR hS hy
    obtain ⟨kA, comp, k1, k2, k3, -⟩ := (G.2.2.1.2 4 (by omega)).2
    obtain ⟨kE, hkE, -⟩ := Vm.findClass_spec k3
    obtain ⟨kC, hkC, -⟩ := Vm.findClass_spec g3
    refine W.aast G.1.1 G.1.2.1 h2 (fun q h => by cases h) (fun h => by cases h) k1 k2 rfl hkE ⟨x2, by show _ < (arrV _ _ _).slots.size; rw [arrV_size, x1]; omega⟩ g1 (fun q h => by rw [h] at g2; cases g2) hkC (hasg _ _ k3 g3) rfl rfl hd fun H1 e1 z oq => ?_
    refine kk H1 [⟨ad i, _⟩] (fun q hq => by rw [List.mem_singleton.mp hq]) ⟨ht, ?_⟩ z oq
    rw [e1, x1, arrV_store, ← e_iup h0 (fun o : Option EId => e_v ad (aR o)) f (some y)]
    rfl
theorem ew_aastN {i : EId} {n : Nat} {f : Int → Option EId} {x : Int} (hd : decode M.2.1 pc = .ok (.aastore, 1)) (hi : h i = some (kQ 0 n f)) (h0 : 0 ≤ x) (h1 : x < n) (kk : EW M (d + 1) kc ks Q (pc + 1) lv st (hup h i (kQ 0 n (iup f x none)))) : EW M (d + 1) kc ks Q pc lv (aR none :: aI x :: aR (some i) :: st) h := by
  refine ew_ofHL (c1 := kQ 0 n (iup f x none)) hi (fun hs => ok_t (ok_t (ok_t hs))) (fun hh hs j hj => ?_) (fun D p l e R s m args below meth c Z A H locs cells slots ad0 ad ls G hX hR hS hs hl hr kk => ?_) kk
  · unfold iup
    split
    · trivial
    · exact hh i _ hi j hj
  · obtain ⟨⟨ht, h2⟩, -⟩ := hR.1 i _ hi
    obtain ⟨x1, x2⟩ := e_ix (ok_h (ok_t hs)) h0
    refine va_WaastN G.1.1 G.1.2.1 (C := "java/lang/Object") h2 (e_arr G.2.2.1 (t := 4) (by omega) n _) (fun q => by cases q) (fun q => by rw [arrV_size, x1] at q; rcases q with q | q; exact x2 q; omega) rfl rfl hd fun H1 e1 z oq => ?_
    refine kk H1 [⟨ad i, _⟩] (fun q hq => by rw [List.mem_singleton.mp hq]) ⟨ht, ?_⟩ z oq
    rw [e1, x1, arrV_store, ← e_iup h0 (fun o : Option EId => e_v ad (aR o)) f none]
    rfl
/-- the class object of Object[] -/
theorem ew_getC {i : EId} {n : Nat} {f : Int → Option EId} (hd : decode M.2.1 pc = .ok (.invokevirtual idx, 3)) (w1 : Cond.methodLink M.1.cls idx ⟨"java/lang/Object", "getClass", "()Ljava/lang/Class;"⟩ ∈ lw_all) (hi : h i = some (kQ 0 n f)) (h8 : (rest.map fun v => if e_is2 v then 2 else 1).sum ≤ 8) (k : EW M (d + 1) kc ks Q (pc + 3) lv (aR (some (9, 19, 0)) :: rest) h) : EW M (d + 1) kc ks Q pc lv (aR (some i) :: rest) h := by
  intro D p l e R s m args below meth c Z A ad0 h0 G E H locs cells slots ad ls I hst
  have hX : e_X (fun _ => none) ad0 ad := fun i hi => I.1.2.1 i (Or.inr (hi.resolve_left fun q => q rfl))
  obtain ⟨⟨ht, h2⟩, -⟩ := I.1.1.1 i _ hi
  obtain ⟨a1, a2, a3, a4⟩ := I.2.2
  have := e_cat8 ad h8
  have K := k D p l e R s m args below meth c Z A ad0 h0 G E H locs cells slots ad ls I (List.forall_mem_cons.mpr ⟨Or.inr rfl, ok_t hst⟩)
  exact va_getC (C := "[Ljava/lang/Object;") (mi := ad (9, 19, 0)) G.1.1 G.1.2.1 (G.1.2.2.1.trans I.2.1.2.1.symm) G.1.2.2.2.2.2.1 (G.2.1.1 _ w1) (va_Dc.use G.2.2.2.1.2.2.2.2.2.2.2) (G.2.1.1 _ q2007) (G.2.1.1 _ q761) (G.2.1.1 _ q778) (by rw [e_a9 hX]; exact G.2.2.2.1.2.2.2.2.2.2.1) ⟨_, h2, rfl, va_nmO (G.2.2.1.2 4 (by omega)).2 rfl⟩ (by omega) (by omega) hd K
theorem ew_ldcM (hd : decode M.2.1 pc = .ok (.ldc idx, 2)) (w1 : Cond.classLink M.1.cls idx "[Ljava/lang/Object;" ∈ lw_all) (k : EW M d kc ks Q (pc + 2) lv (aR (some (9, 19, 0)) :: st) h) : EW M d kc ks Q pc lv st h :=
  ew_of (st' := aR (some (9, 19, 0)) :: st) (fun lo hs => List.forall_mem_cons.mpr ⟨Or.inr rfl, hs⟩) (fun D p l e R s m args below meth c Z A H locs cells slots ad0 ad ls G hX hR hS hs hv hl k =>
    va_ldcM G.1.1 G.1.2.1 (C := "[Ljava/lang/Object;") (mi := ad (9, 19, 0)) G.1.2.2.2.2.2.1 (G.2.1.1 _ w1) (by rw [e_a9 hX]; exact G.2.2.2.1.2.2.2.2.2.2.1) hd k) k
end EWQ
