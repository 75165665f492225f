/-! THE LAYER OF ABSTRACT HEAPS: ids, values, cells; EW: the machine at a pc comes to an end -/
set_option maxRecDepth 100000
abbrev EId : Type := Nat × Nat × Nat
abbrev AV : Type := Int ⊕ (Int ⊕ Option EId)
abbrev aI (n : Int) : AV := Sum.inl n
abbrev aL (n : Int) : AV := Sum.inr (Sum.inl n)
abbrev aR (r : Option EId) : AV := Sum.inr (Sum.inr r)
abbrev ACell : Type := (Nat × Nat × (Int → Int)) ⊕ ((Nat × (Int → Int)) ⊕ ((Nat × Nat × (Int → Option EId)) ⊕ (Nat × (Nat → AV))))
abbrev kI (t n : Nat) (f : Int → Int) : ACell := Sum.inl (t, n, f)
abbrev kL (n : Nat) (f : Int → Int) : ACell := Sum.inr (Sum.inl (n, f))
abbrev kQ (t n : Nat) (f : Int → Option EId) : ACell := Sum.inr (Sum.inr (Sum.inl (t, n, f)))
abbrev kO (c : Nat) (f : Nat → AV) : ACell := Sum.inr (Sum.inr (Sum.inr (c, f)))
abbrev AH : Type := EId → Option ACell
abbrev EA : Type := EId → Nat
abbrev ED : Type := va_G × (Nat → ClassId)
abbrev AO : Type := Option AV ⊕ (String × EId)
/-- method, code, locals, answer, table -/
abbrev EM : Type := MethodName × ByteArray × Nat × Option FieldType × List (Nat × Nat × Nat × Nat)
def hup (h : AH) (i : EId) (c : ACell) : AH := fun j => if j = i then some c else h j
def iup {α : Type} (f : Int → α) (k : Int) (x : α) : Int → α := fun j => if j = k then x else f j
def fup (f : Nat → AV) (k : Nat) (x : AV) : Nat → AV := fun j => if j = k then x else f j
def inI (n : Int) : Prop := -2147483648 ≤ n ∧ n < 2147483648
def inL (n : Int) : Prop := -9223372036854775808 ≤ n ∧ n < 9223372036854775808
def e_ty : Nat → FieldType
  | 0 => .int
  | 1 => .boolean
  | 2 => .byte
  | 3 => .long
  | 4 => .object "java/lang/Object"
  | _ => .object "java/lang/String"
abbrev e_cl : List vw_C := [(RX1, TX1, 20), (RX7, TX7, 56), (RX2, TX2, 5), (RX3, TX3, 4), (RX4, TX4, 5), (RX6, TX6, 14), (RX8, TX8, 8), (RX9, TX9, 8), (RX10, TX10, 2), (RX11, TX11, 4), (RX12, TX12, 2), (RJ2, TJ2, 3), (RJ16, TJ16, 4)]
/-- with the two lambdas' classes (100, 101: their captured values) -/
def e_cx (c : Nat) : Option vw_C := if c < 100 then e_cl[c]? else if c = 100 then some ("", TX1, 2) else if c = 101 then some ("", TX1, 1) else none
def e_ok1 (r : vw_C) : Prop := (∀ w ∈ u_ws r.1 r.2.1 r.2.2, w ∈ lw_all) ∧ ∃ ty : Nat → FieldType, (∀ k, k < r.2.2 → parseFieldDescriptor (r.2.1 k).2.2.1 = some (ty k)) ∧ (∀ a, a < r.2.2 → ∀ b, b < r.2.2 → a ≠ b → (r.2.1 a).2.1 ≠ (r.2.1 b).2.1)
theorem e_cl_ok : ∀ (ci : Nat) (r : vw_C), e_cl[ci]? = some r → e_ok1 r
  | 0, r, h => by cases h; exact ⟨in_X1, tyX1, tyX1_ok, nmX1⟩
  | 1, r, h => by cases h; exact ⟨in_X7, tyX7, tyX7_ok, nmX7⟩
  | 2, r, h => by cases h; exact ⟨in_X2, tyX2, tyX2_ok, nmX2⟩
  | 3, r, h => by cases h; exact ⟨in_X3, tyX3, tyX3_ok, nmX3⟩
  | 4, r, h => by cases h; exact ⟨in_X4, tyX4, tyX4_ok, nmX4⟩
  | 5, r, h => by cases h; exact ⟨in_X6, tyX6, tyX6_ok, nmX6⟩
  | 6, r, h => by cases h; exact ⟨in_X8, tyX8, tyX8_ok, nmX8⟩
  | 7, r, h => by cases h; exact ⟨in_X9, tyX9, tyX9_ok, nmX9⟩
  | 8, r, h => by cases h; exact ⟨in_X10, tyX10, tyX10_ok, nmX10⟩
  | 9, r, h => by cases h; exact ⟨in_X11, tyX11, tyX11_ok, nmX11⟩
  | 10, r, h => by cases h; exact ⟨in_X12, tyX12, tyX12_ok, nmX12⟩
  | 11, r, h => by cases h; exact ⟨in_J2, tyJ2, tyJ2_ok, nmJ2⟩
  | 12, r, h => by cases h; exact ⟨in_J16, tyJ16, tyJ16_ok, nmJ16⟩
  | n + 13, r, h => by simp at h
theorem e_cx_of {c : Nat} {r : vw_C} (h : e_cl[c]? = some r) : e_cx c = some r := by
  have hc : c < 100 := by
    have := (List.getElem?_eq_some_iff.mp h).1
    exact Nat.lt_of_lt_of_le this (by decide)
  unfold e_cx
  rw [if_pos hc]
  exact h
def e_v (ad : EA) : AV → Value
  | Sum.inl n => .int (Int32.ofInt n)
  | Sum.inr (Sum.inl n) => .long (Int64.ofInt n)
  | Sum.inr (Sum.inr none) => .null
  | Sum.inr (Sum.inr (some i)) => .ref (ad i)
def e_okv (h : AH) : AV → Prop
  | Sum.inl n => inI n
  | Sum.inr (Sum.inl n) => inL n
  | Sum.inr (Sum.inr none) => True
  | Sum.inr (Sum.inr (some i)) => h i ≠ none ∨ i.1 = 9
def e_okc (h : AH) : ACell → Prop
  | Sum.inl (_, n, f) => ∀ j : Nat, j < n → inI (f j)
  | Sum.inr (Sum.inl (n, f)) => ∀ j : Nat, j < n → inL (f j)
  | Sum.inr (Sum.inr (Sum.inl (_, n, f))) => ∀ j : Nat, j < n → e_okv h (aR (f j))
  | Sum.inr (Sum.inr (Sum.inr (c, f))) => ∀ k r, e_cx c = some r → k < r.2.2 → e_okv h (f k)
def e_at (D : ED) (ad : EA) (a : Nat) (H : Heap) : ACell → Prop
  | Sum.inl (t, n, f) => t < 3 ∧ H[a]? = some (arrV (D.2 t) n (fun j => .int (Int32.ofInt (f j))))
  | Sum.inr (Sum.inl (n, f)) => H[a]? = some (arrV (D.2 3) n (fun j => .long (Int64.ofInt (f j))))
  | Sum.inr (Sum.inr (Sum.inl (t, n, f))) => t < 2 ∧ H[a]? = some (arrV (D.2 (4 + t)) n (fun j => e_v ad (aR (f j))))
  | Sum.inr (Sum.inr (Sum.inr (c, f))) => ∃ r : vw_C, e_cx c = some r ∧ t_OB a (D.1.1 c) r.2.2 (D.1.2 c) H (fun k => e_v ad (f k))
/-- the abstract heap stands in the heap: its cells apart, owned -/
def e_R (D : ED) (ad : EA) (h : AH) (A : Nat → Prop) (H : Heap) : Prop :=
  (∀ i c, h i = some c → e_at D ad (ad i) H c ∧ A (ad i) ∧ e_okc h c ∧ i.1 ≠ 9) ∧ ∀ i j, h i ≠ none → h j ≠ none → ad i = ad j → i = j
/-- addresses kept: those of the old heap, and the constants -/
def e_X (h0 : AH) (ad0 ad : EA) : Prop := ∀ i, (h0 i ≠ none ∨ i.1 = 9) → ad i = ad0 i
def e_K (D : ED) (s : State) : Prop := (∀ (c : Nat) (r : vw_C), e_cl[c]? = some r → u_Kn s r.1 r.2.1 r.2.2 (D.1.1 c) (D.1.2 c)) ∧ ∀ t, t < 6 → ArrOfT s (D.2 t) (e_ty t) ∧ va_RA s (D.2 t) (e_ty t)
theorem e_K.moved {D : ED} {u U : State} (hvm : u.vm.Alike U.vm) (h : e_K D u) : e_K D U := ⟨fun c r hc => u_Kn_moved hvm (h.1 c r hc), fun t ht => ⟨arrOfT_moved hvm (h.2 t ht).1, (h.2 t ht).2.moved hvm⟩⟩
theorem e_at.kept {D : ED} {ad : EA} {a : Nat} {H H1 : Heap} {c : ACell} (h : e_at D ad a H c) (hq : H1[a]? = H[a]?) : e_at D ad a H1 c := by
  match c, h with
  | Sum.inl (t, n, f), h => exact ⟨h.1, hq.trans h.2⟩
  | Sum.inr (Sum.inl (n, f)), h => exact hq.trans h
  | Sum.inr (Sum.inr (Sum.inl (t, n, f))), h => exact ⟨h.1, hq.trans h.2⟩
  | Sum.inr (Sum.inr (Sum.inr (c, f))), h =>
    obtain ⟨r, h1, h2⟩ := h
    exact ⟨r, h1, h2.kept hq⟩
theorem e_at.lt {D : ED} {ad : EA} {a : Nat} {H : Heap} {c : ACell} (h : e_at D ad a H c) : a < H.size := by
  match c, h with
  | Sum.inl (t, n, f), h => exact (Array.getElem?_eq_some_iff.mp h.2).1
  | Sum.inr (Sum.inl (n, f)), h => exact (Array.getElem?_eq_some_iff.mp h).1
  | Sum.inr (Sum.inr (Sum.inl (t, n, f))), h => exact (Array.getElem?_eq_some_iff.mp h.2).1
  | Sum.inr (Sum.inr (Sum.inr (c, f))), h =>
    obtain ⟨r, h1, cell, h2, -⟩ := h
    exact (Array.getElem?_eq_some_iff.mp h2).1
theorem e_v_eq {ad ad' : EA} {h : AH} {v : AV} (hv : e_okv h v) (hx : e_X h ad ad') : e_v ad' v = e_v ad v := by
  match v, hv with
  | Sum.inl n, _ => rfl
  | Sum.inr (Sum.inl n), _ => rfl
  | Sum.inr (Sum.inr none), _ => rfl
  | Sum.inr (Sum.inr (some i)), hv => show Value.ref (ad' i) = Value.ref (ad i); rw [hx i hv]
theorem e_okv.mono {h h' : AH} {v : AV} (hv : e_okv h v) (hd : ∀ i, h i ≠ none → h' i ≠ none) : e_okv h' v := by
  match v, hv with
  | Sum.inl n, hv => exact hv
  | Sum.inr (Sum.inl n), hv => exact hv
  | Sum.inr (Sum.inr none), _ => trivial
  | Sum.inr (Sum.inr (some i)), hv => exact hv.imp (hd i) id
theorem e_okc.mono {h h' : AH} {c : ACell} (hv : e_okc h c) (hd : ∀ i, h i ≠ none → h' i ≠ none) : e_okc h' c := by
  match c, hv with
  | Sum.inl (t, n, f), hv => exact hv
  | Sum.inr (Sum.inl (n, f)), hv => exact hv
  | Sum.inr (Sum.inr (Sum.inl (t, n, f))), hv => exact fun j hj => (hv j hj).mono hd
  | Sum.inr (Sum.inr (Sum.inr (c, f))), hv => exact fun k r hr hk => (hv k r hr hk).mono hd
theorem arrV_ext {cI : ClassId} {N : Nat} {f g : Nat → Value} (h : ∀ j, j < N → f j = g j) : arrV cI N f = arrV cI N g := by
  unfold arrV
  congr 1
  apply Array.ext
  · simp
  · intro j h1 h2
    simp only [Array.getElem_ofFn]
    exact h j (by simpa using h1)
theorem e_at.adr {D : ED} {ad ad' : EA} {h : AH} {a : Nat} {H : Heap} {c : ACell} (hc : e_at D ad a H c) (hok : e_okc h c) (hx : e_X h ad ad') : e_at D ad' a H c := by
  match c, hc, hok with
  | Sum.inl (t, n, f), hc, _ => exact hc
  | Sum.inr (Sum.inl (n, f)), hc, _ => exact hc
  | Sum.inr (Sum.inr (Sum.inl (t, n, f))), hc, hok => exact ⟨hc.1, hc.2.trans (by rw [arrV_ext fun j hj => (e_v_eq (hok j hj) hx).symm])⟩
  | Sum.inr (Sum.inr (Sum.inr (c, f))), hc, hok =>
    obtain ⟨r, h1, h2⟩ := hc
    exact ⟨r, h1, h2.to fun k hk => (e_v_eq (hok k r h1 hk) hx).symm⟩
theorem e_X.rf {h0 : AH} {ad : EA} : e_X h0 ad ad := fun _ _ => rfl
theorem e_X.trans {h0 h1 : AH} {a0 a1 a2 : EA} (h : e_X h0 a0 a1) (hd : ∀ i, h0 i ≠ none → h1 i ≠ none) (h' : e_X h1 a1 a2) : e_X h0 a0 a2 := fun i hi => (h' i (hi.imp (hd i) id)).trans (h i hi)
theorem hup_self (h : AH) (i : EId) (c : ACell) : hup h i c i = some c := if_pos rfl
theorem hup_ne {h : AH} {i j : EId} {c : ACell} (e : j ≠ i) : hup h i c j = h j := if_neg e
theorem hup_dom {h : AH} {i : EId} {c : ACell} : ∀ j, h j ≠ none → hup h i c j ≠ none := by
  intro j hj
  by_cases e : j = i
  · rw [e, hup_self]; exact fun q => by cases q
  · rw [hup_ne e]; exact hj
/-- a cell is written -/
theorem e_R.put {D : ED} {ad : EA} {h : AH} {A : Nat → Prop} {H H1 : Heap} {i : EId} {c0 c : ACell} (hR : e_R D ad h A H) (hi : h i = some c0) (hc : e_at D ad (ad i) H1 c) (hok : e_okc h c) (oq : ∀ q : Nat, q ≠ ad i → H1[q]? = H[q]?) : e_R D ad (hup h i c) A H1 := by
  have hin : h i ≠ none := by rw [hi]; exact fun q => by cases q
  have key : ∀ j, hup h i c j ≠ none → h j ≠ none := by
    intro j hj
    by_cases e : j = i
    · rw [e]; exact hin
    · rw [hup_ne e] at hj; exact hj
  refine ⟨fun j cj hj => ?_, fun j k hj hk e => hR.2 j k (key j hj) (key k hk) e⟩
  by_cases e : j = i
  · subst e
    rw [hup_self] at hj
    cases hj
    exact ⟨hc, (hR.1 _ _ hi).2.1, hok.mono hup_dom, (hR.1 _ _ hi).2.2.2⟩
  · rw [hup_ne e] at hj
    obtain ⟨h1, h2, h3, h4⟩ := hR.1 j cj hj
    exact ⟨h1.kept (oq _ fun z => e (hR.2 j i (by rw [hj]; exact fun q => by cases q) hin z)), h2, h3.mono hup_dom, h4⟩
/-- a cell is made, under a new name -/
theorem e_R.make {D : ED} {ad : EA} {h : AH} {A : Nat → Prop} {H H1 : Heap} {i : EId} {c : ACell} {a : Nat} (hR : e_R D ad h A H) (hi : h i = none) (h9 : i.1 ≠ 9) (ha : a = H.size) (hc : e_at D (fun j => if j = i then a else ad j) a H1 c) (hA : A a) (hok : e_okc h c) (oq : ∀ q : Nat, q < a → H1[q]? = H[q]?) :
    e_R D (fun j => if j = i then a else ad j) (hup h i c) A H1 ∧ e_X h ad (fun j => if j = i then a else ad j) := by
  have hx : e_X h ad (fun j => if j = i then a else ad j) := by
    intro j hj
    have e : j ≠ i := by
      intro e
      subst e
      rcases hj with hj | hj
      · exact hj hi
      · exact h9 hj
    exact if_neg e
  have lt : ∀ j, h j ≠ none → ad j < a := by
    intro j hj
    cases hjc : h j with
    | none => exact absurd hjc hj
    | some cj => rw [ha]; exact (hR.1 j cj hjc).1.lt
  refine ⟨⟨fun j cj hj => ?_, fun j k hj hk e => ?_⟩, hx⟩
  · by_cases e : j = i
    · subst e
      rw [hup_self] at hj
      cases hj
      rw [show (fun k => if k = j then a else ad k) j = a from if_pos rfl]
      exact ⟨hc, hA, hok.mono hup_dom, h9⟩
    · rw [hup_ne e] at hj
      obtain ⟨h1, h2, h3, h4⟩ := hR.1 j cj hj
      rw [show (fun k => if k = i then a else ad k) j = ad j from if_neg e]
      exact ⟨(h1.adr h3 hx).kept (oq _ (by rw [ha]; exact h1.lt)), h2, h3.mono hup_dom, h4⟩
  · by_cases e1 : j = i <;> by_cases e2 : k = i
    · rw [e1, e2]
    · rw [hup_ne e2] at hk
      have := lt k hk
      simp only [e1, if_true, e2, if_false] at e
      omega
    · rw [hup_ne e1] at hj
      have := lt j hj
      simp only [e2, if_true, e1, if_false] at e
      omega
    · rw [hup_ne e1] at hj
      rw [hup_ne e2] at hk
      simp only [e1, e2, if_false] at e
      exact hR.2 j k hj hk e
theorem e_R.mono {D : ED} {ad : EA} {h : AH} {A B : Nat → Prop} {H : Heap} (hR : e_R D ad h A H) (hAB : ∀ q, A q → B q) : e_R D ad h B H := ⟨fun i c hi => ⟨(hR.1 i c hi).1, hAB _ (hR.1 i c hi).2.1, (hR.1 i c hi).2.2⟩, hR.2⟩
