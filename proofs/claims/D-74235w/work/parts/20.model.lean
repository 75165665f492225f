/-! THE REFERENCE'S OBJECT: its state, its heap, its rules -/
set_option maxRecDepth 100000
/-- int fields by number, arrays by their field's number -/
abbrev MS : Type := (Nat → Int) × (Nat → Int → Int)
/-- 0 int, 1 int array, 2 long array, 3 boolean array, 4 boolean -/
def mK : Nat → Nat
  | 4 | 7 | 10 | 11 | 12 | 25 | 28 | 29 | 31 | 32 | 34 | 35 | 36 | 37 | 38 | 40 | 41 | 42 | 43 | 44 | 45 | 47 | 48 | 51 | 53 | 54 => 1
  | 49 | 50 => 2
  | 46 => 3
  | 52 => 4
  | _ => 0
def mL : Nat → Nat
  | 4 => 500
  | 7 => 16
  | 10 => 96
  | 11 => 384
  | 12 => 288
  | 25 => 48
  | 29 => 72
  | 31 | 32 => 13
  | 34 | 35 => 8
  | 46 => 4096
  | 49 | 50 => 576
  | _ => 24
def mF (s : MS) (k : Nat) : AV := match mK k with
  | 0 => aI (s.1 k)
  | 4 => aI (s.1 k)
  | _ => aR (some (0, 1, k))
def mC (s : MS) (k : Nat) : Option ACell := if k = 99 then some (kO 1 (mF s)) else match mK k with
  | 1 => some (kI 0 (mL k) (s.2 k))
  | 2 => some (kL (mL k) (s.2 k))
  | 3 => some (kI 1 (mL k) (s.2 k))
  | _ => none
def mh (s : MS) (g : AH) : AH := fun i => if i.1 = 0 ∧ i.2.1 = 1 then mC s i.2.2 else g i
def ms (s : MS) (k : Nat) (v : Int) : MS := (fun j => if j = k then v else s.1 j, s.2)
def ma (s : MS) (k : Nat) (x v : Int) : MS := (s.1, fun j => if j = k then iup (s.2 k) x v else s.2 j)
abbrev mT : EId := (0, 1, 99)
theorem mh_o (s : MS) (g : AH) : mh s g mT = some (kO 1 (mF s)) := rfl
theorem mK_99 {k n : Nat} (hk : mK k = n + 1) : k ≠ 99 := by
  intro e
  subst e
  cases hk
theorem mh_at (s : MS) (g : AH) (k : Nat) : mh s g (0, 1, k) = mC s k := rfl
theorem mh_a {s : MS} {g : AH} {k : Nat} (hk : mK k = 1) : mh s g (0, 1, k) = some (kI 0 (mL k) (s.2 k)) := by
  rw [mh_at, mC, if_neg (mK_99 hk), hk]
  rfl
theorem mh_l {s : MS} {g : AH} {k : Nat} (hk : mK k = 2) : mh s g (0, 1, k) = some (kL (mL k) (s.2 k)) := by
  rw [mh_at, mC, if_neg (mK_99 hk), hk]
  rfl
theorem mh_b {s : MS} {g : AH} {k : Nat} (hk : mK k = 3) : mh s g (0, 1, k) = some (kI 1 (mL k) (s.2 k)) := by
  rw [mh_at, mC, if_neg (mK_99 hk), hk]
  rfl
theorem mh_up {s s' : MS} {g : AH} {k : Nat} {c : ACell} (h1 : mC s' k = some c) (h2 : ∀ j, j ≠ k → mC s' j = mC s j) : hup (mh s g) (0, 1, k) c = mh s' g := by
  funext i
  obtain ⟨a, b, j⟩ := i
  unfold hup mh
  by_cases e : a = 0 ∧ b = 1
  · obtain ⟨rfl, rfl⟩ := e
    by_cases ej : j = k
    · subst ej
      rw [if_pos rfl, if_pos ⟨rfl, rfl⟩, h1]
    · rw [if_neg (fun q => ej (by injection q with _ q; injection q)), if_pos ⟨rfl, rfl⟩, if_pos ⟨rfl, rfl⟩, h2 j ej]
  · rw [if_neg (fun q => e (by injection q with q1 q2; injection q2 with q3 q4; exact ⟨q1, q3⟩)), if_neg e, if_neg e]
theorem mh_put {s : MS} {g : AH} {k : Nat} {v : Int} (hk : mK k = 0 ∨ mK k = 4) : hup (mh s g) mT (kO 1 (fup (mF s) k (aI v))) = mh (ms s k v) g := by
  refine mh_up ?_ ?_
  · show some (kO 1 (mF (ms s k v))) = _
    congr 2
    congr 3
    funext j
    unfold fup mF ms
    by_cases e : j = k
    · subst e
      rcases hk with hk | hk <;> simp [hk]
    · simp [e]
  · intro j hj
    unfold mC
    rw [if_neg hj, if_neg hj]
    rfl
theorem ma_C {s : MS} {k : Nat} {x v : Int} : ∀ j, j ≠ k → mC (ma s k x v) j = mC s j := by
  intro j hj
  unfold mC
  by_cases e : j = 99
  · rw [if_pos e, if_pos e]; rfl
  · rw [if_neg e, if_neg e]
    have e1 : (ma s k x v).2 j = s.2 j := if_neg hj
    rw [e1]
theorem ma_s {s : MS} {k : Nat} {x v : Int} : (ma s k x v).2 k = iup (s.2 k) x v := if_pos rfl
theorem mh_st {s : MS} {g : AH} {k : Nat} {x v : Int} (hk : mK k = 1) : hup (mh s g) (0, 1, k) (kI 0 (mL k) (iup (s.2 k) x v)) = mh (ma s k x v) g :=
  mh_up (by unfold mC; rw [if_neg (mK_99 hk), hk, ma_s]; rfl) ma_C
theorem mh_stl {s : MS} {g : AH} {k : Nat} {x v : Int} (hk : mK k = 2) : hup (mh s g) (0, 1, k) (kL (mL k) (iup (s.2 k) x v)) = mh (ma s k x v) g :=
  mh_up (by unfold mC; rw [if_neg (mK_99 hk), hk, ma_s]; rfl) ma_C
theorem mh_stb {s : MS} {g : AH} {k : Nat} {x v : Int} (hk : mK k = 3) : hup (mh s g) (0, 1, k) (kI 1 (mL k) (iup (s.2 k) x v)) = mh (ma s k x v) g :=
  mh_up (by unfold mC; rw [if_neg (mK_99 hk), hk, ma_s]; rfl) ma_C
def mQ (g : AH) (K : MS → Prop) : AO → AH → Prop := fun o h => ∃ s, o = Sum.inl none ∧ h = mh s g ∧ K s
def mQi (g : AH) (K : Int → MS → Prop) : AO → AH → Prop := fun o h => ∃ n s, o = Sum.inl (some (aI n)) ∧ h = mh s g ∧ K n s
def mQl (g : AH) (K : Int → MS → Prop) : AO → AH → Prop := fun o h => ∃ n s, o = Sum.inl (some (aL n)) ∧ h = mh s g ∧ K n s
theorem mQ_no {g : AH} {K : MS → Prop} {x : String × EId} {h : AH} (q : mQ g K (Sum.inr x) h) : False := by
  obtain ⟨s, e, -⟩ := q
  cases e
theorem mQi_no {g : AH} {K : Int → MS → Prop} {x : String × EId} {h : AH} (q : mQi g K (Sum.inr x) h) : False := by
  obtain ⟨n, s, e, -⟩ := q
  cases e
theorem mQl_no {g : AH} {K : Int → MS → Prop} {x : String × EId} {h : AH} (q : mQl g K (Sum.inr x) h) : False := by
  obtain ⟨n, s, e, -⟩ := q
  cases e
theorem jl_eq {a b : Int} : jlcmp a b = 0 ↔ a = b := by unfold jlcmp; split <;> (try split) <;> omega
theorem jl_lt {a b : Int} : jlcmp a b < 0 ↔ a < b := by unfold jlcmp; split <;> (try split) <;> omega
theorem jl_ge {a b : Int} : 0 ≤ jlcmp a b ↔ b ≤ a := by unfold jlcmp; split <;> (try split) <;> omega
theorem jl_gt {a b : Int} : 0 < jlcmp a b ↔ b < a := by unfold jlcmp; split <;> (try split) <;> omega
theorem jl_le {a b : Int} : jlcmp a b ≤ 0 ↔ a ≤ b := by unfold jlcmp; split <;> (try split) <;> omega
theorem e_nm {α : Type} {l : List α} : ∀ q ∈ ([] : List α), q ∈ l := fun _ h => absurd h List.not_mem_nil
theorem lm0 {α : Type} {a : α} {l : List α} : a ∈ a :: l := List.mem_cons_self
theorem lm1 {α : Type} {a b : α} {l : List α} : b ∈ a :: b :: l := List.mem_cons_of_mem _ lm0
theorem lm2 {α : Type} {a b c : α} {l : List α} : c ∈ a :: b :: c :: l := List.mem_cons_of_mem _ lm1
theorem lm3 {α : Type} {a b c d : α} {l : List α} : d ∈ a :: b :: c :: d :: l := List.mem_cons_of_mem _ lm2
theorem lm4 {α : Type} {a b c d e : α} {l : List α} : e ∈ a :: b :: c :: d :: e :: l := List.mem_cons_of_mem _ lm3
theorem lm5 {α : Type} {a b c d e f : α} {l : List α} : f ∈ a :: b :: c :: d :: e :: f :: l := List.mem_cons_of_mem _ lm4
theorem lm6 {α : Type} {a b c d e f g : α} {l : List α} : g ∈ a :: b :: c :: d :: e :: f :: g :: l := List.mem_cons_of_mem _ lm5
theorem lm7 {α : Type} {a b c d e f g h : α} {l : List α} : h ∈ a :: b :: c :: d :: e :: f :: g :: h :: l := List.mem_cons_of_mem _ lm6
theorem lm8 {α : Type} {a b c d e f g h i : α} {l : List α} : i ∈ a :: b :: c :: d :: e :: f :: g :: h :: i :: l := List.mem_cons_of_mem _ lm7
theorem lm9 {α : Type} {a b c d e f g h i j : α} {l : List α} : j ∈ a :: b :: c :: d :: e :: f :: g :: h :: i :: j :: l := List.mem_cons_of_mem _ lm8
theorem lm10 {α : Type} {a b c d e f g h i j k : α} {l : List α} : k ∈ a :: b :: c :: d :: e :: f :: g :: h :: i :: j :: k :: l := List.mem_cons_of_mem _ lm9
theorem lm11 {α : Type} {a b c d e f g h i j k m : α} {l : List α} : m ∈ a :: b :: c :: d :: e :: f :: g :: h :: i :: j :: k :: m :: l := List.mem_cons_of_mem _ lm10
theorem inI_of {n : Int} (h : (decide (-2147483648 ≤ n) && decide (n < 2147483648)) = true) : inI n := by
  rw [Bool.and_eq_true, decide_eq_true_eq, decide_eq_true_eq] at h
  exact h
theorem inL_of {n : Int} (h : (decide (-9223372036854775808 ≤ n) && decide (n < 9223372036854775808)) = true) : inL n := by
  rw [Bool.and_eq_true, decide_eq_true_eq, decide_eq_true_eq] at h
  exact h
theorem ew_tableK {M : EM} {d kc ks : Nat} {Q : AO → AH → Prop} {pc : Nat} {lv : List (Nat × AV)} {st : List AV} {h : AH} {x v dflt lo hi off : Int} {offs : Array Int} {len tgt : Nat} (hd : decode M.2.1 pc = .ok (.tableswitch dflt lo hi offs, len)) (hc : x = v) (hk : (decide (lo ≤ v) && decide (v ≤ hi)) = true) (ho : offs[(v - lo).toNat]? = some off) (ht : (pc : Int) + off = (tgt : Int)) (k : EW M d kc ks Q tgt lv st h) : EW M d kc ks Q pc lv (aI x :: st) h := by
  subst hc
  rw [Bool.and_eq_true, decide_eq_true_eq, decide_eq_true_eq] at hk
  exact ew_tableIn hd (by omega) (by omega) ho ht k
theorem e_fd1 {ci k : Nat} {o n ds : String} {fin : Bool} {r : vw_C} (h1 : e_cl[ci]? = some r) (h2 : k < r.2.2) (h3 : r.2.1 k = (o, n, ds, fin)) : e_fd [ci] k o n ds fin := fun c hc => by
  rw [List.mem_singleton.mp hc]
  exact ⟨r, h1, h2, h3⟩
section MW
variable {M : EM} {d : Nat} {Q : AO → AH → Prop} {pc idx k : Nat} {lv : List (Nat × AV)} {st : List AV} {s : MS} {g : AH} {o n ds : String} {fin : Bool}
theorem mw_gI (hd : decode M.2.1 pc = .ok (.getfield idx, 3)) (hl : e_fl M.1.cls idx o n ds) (hf : e_fd [1] k o n ds fin) (hk : mF s k = aI (s.1 k)) (kk : EW M d 0 0 Q (pc + 3) lv (aI (s.1 k) :: st) (mh s g)) : EW M d 0 0 Q pc lv (aR (some mT) :: st) (mh s g) :=
  ew_get hd hl hf (mh_o s g) lm0 (by rw [hk]; exact kk)
theorem mw_gA (hd : decode M.2.1 pc = .ok (.getfield idx, 3)) (hl : e_fl M.1.cls idx o n ds) (hf : e_fd [1] k o n ds fin) (hk : mF s k = aR (some (0, 1, k))) (kk : EW M d 0 0 Q (pc + 3) lv (aR (some (0, 1, k)) :: st) (mh s g)) : EW M d 0 0 Q pc lv (aR (some mT) :: st) (mh s g) :=
  ew_get hd hl hf (mh_o s g) lm0 (by rw [hk]; exact kk)
theorem mw_pI {ty : FieldType} {v : Int} (hd : decode M.2.1 pc = .ok (.putfield idx, 3)) (hl : e_fl M.1.cls idx o n ds) (hf : e_fd [1] k o n ds false) (hk : mK k = 0 ∨ mK k = 4) (hty : parseFieldDescriptor ds = some ty) (hv : e_fit ty (aI v)) (kk : ∀ s1, s1 = ms s k v → EW M d 0 0 Q (pc + 3) lv st (mh s1 g)) : EW M d 0 0 Q pc lv (aI v :: aR (some mT) :: st) (mh s g) :=
  ew_put hd hl hf (mh_o s g) lm0 hty hv (by rw [mh_put hk]; exact kk _ rfl)
theorem mw_iald {x : Int} (hd : decode M.2.1 pc = .ok (.iaload, 1)) (hk : mK k = 1) (h0 : 0 ≤ x) (h1 : x < (mL k : Int)) (kk : EW M d 0 0 Q (pc + 1) lv (aI (s.2 k x) :: st) (mh s g)) : EW M d 0 0 Q pc lv (aI x :: aR (some (0, 1, k)) :: st) (mh s g) :=
  ew_iald hd (mh_a hk) h0 h1 kk
theorem mw_lald {x : Int} (hd : decode M.2.1 pc = .ok (.laload, 1)) (hk : mK k = 2) (h0 : 0 ≤ x) (h1 : x < (mL k : Int)) (kk : EW M d 0 0 Q (pc + 1) lv (aL (s.2 k x) :: st) (mh s g)) : EW M d 0 0 Q pc lv (aI x :: aR (some (0, 1, k)) :: st) (mh s g) :=
  ew_lald hd (mh_l hk) h0 h1 kk
theorem mw_bald {x : Int} (hd : decode M.2.1 pc = .ok (.baload, 1)) (hk : mK k = 3) (h0 : 0 ≤ x) (h1 : x < (mL k : Int)) (kk : EW M d 0 0 Q (pc + 1) lv (aI (s.2 k x) :: st) (mh s g)) : EW M d 0 0 Q pc lv (aI x :: aR (some (0, 1, k)) :: st) (mh s g) :=
  ew_bald hd (mh_b hk) (Or.inl rfl) h0 h1 kk
theorem mw_iast {x v : Int} (hd : decode M.2.1 pc = .ok (.iastore, 1)) (hk : mK k = 1) (h0 : 0 ≤ x) (h1 : x < (mL k : Int)) (kk : ∀ s1, s1 = ma s k x v → EW M d 0 0 Q (pc + 1) lv st (mh s1 g)) : EW M d 0 0 Q pc lv (aI v :: aI x :: aR (some (0, 1, k)) :: st) (mh s g) :=
  ew_iast hd (mh_a hk) h0 h1 (by rw [mh_st hk]; exact kk _ rfl)
theorem mw_last {x v : Int} (hd : decode M.2.1 pc = .ok (.lastore, 1)) (hk : mK k = 2) (h0 : 0 ≤ x) (h1 : x < (mL k : Int)) (kk : ∀ s1, s1 = ma s k x v → EW M d 0 0 Q (pc + 1) lv st (mh s1 g)) : EW M d 0 0 Q pc lv (aL v :: aI x :: aR (some (0, 1, k)) :: st) (mh s g) :=
  ew_last hd (mh_l hk) h0 h1 (by rw [mh_stl hk]; exact kk _ rfl)
theorem mw_bast {x v : Int} (hd : decode M.2.1 pc = .ok (.bastore, 1)) (hk : mK k = 3) (hv : v = 0 ∨ v = 1) (h0 : 0 ≤ x) (h1 : x < (mL k : Int)) (kk : ∀ s1, s1 = ma s k x v → EW M d 0 0 Q (pc + 1) lv st (mh s1 g)) : EW M d 0 0 Q pc lv (aI v :: aI x :: aR (some (0, 1, k)) :: st) (mh s g) :=
  ew_bast hd (mh_b hk) (Or.inl ⟨rfl, hv⟩) h0 h1 (by rw [mh_stb hk]; exact kk _ rfl)
end MW
