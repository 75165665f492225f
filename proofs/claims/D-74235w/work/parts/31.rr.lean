/-! THE READER: its heap, its rules (gen/rrules.py) -/
set_option maxRecDepth 100000
abbrev rT : EId := (2, 0, 0)
/-- the reader's fields -/
def rF (V : XV) (r : MS) (k : Nat) : AV := match k with
  | 0 => aI (r.1 0)
  | 1 => aR (some (bI V 1 0))
  | 2 => aI (r.1 2)
  | 3 => aI (r.1 3)
  | 4 => aI (r.1 4)
  | 5 => aI (r.1 5)
  | 6 => aL (r.1 6)
  | 7 => aR (some xT)
  | _ => aI 0
def rC (V : XV) (r : MS) (i : EId) : Option ACell :=
  if i = rT then some (kO 6 (rF V r))
  else if i.1 = 10 + V 9 ∧ i.2.1 < 20 then bC V r i.2.1 i.2.2
  else none
def rh (V : XV) (r : MS) (g : AH) : AH := fun i => match rC V r i with
  | some c => some c
  | none => g i
theorem rxh_of {V : XV} {r : MS} {g : AH} {i : EId} {c : ACell} (h : rC V r i = some c) : rh V r g i = some c := by unfold rh; rw [h]
theorem rh_g {V : XV} {r : MS} {g : AH} {i : EId} (h : rC V r i = none) : rh V r g i = g i := by unfold rh; rw [h]
theorem rxC_b {V : XV} {r : MS} {reg k : Nat} (hr : reg < 20) : rC V r (bI V reg k) = bC V r reg k := by
  unfold rC
  rw [if_neg (fun q => by have := congrArg (fun i : EId => i.1) q; simp at this; omega), if_pos ⟨rfl, hr⟩]
theorem rh_T {V : XV} {r : MS} {g : AH} : rh V r g rT = some (kO 6 (rF V r)) := rxh_of (if_pos rfl)
section RW
variable {M : EM} {d kc ks : Nat} {Q : AO → AH → Prop} {pc idx j k : Nat} {lv : List (Nat × AV)} {st rest : List AV} {V : XV} {r : MS} {g : AH} {o n ds : String} {fin : Bool} {v : AV} {x y : Int} {cs : List Nat}

theorem rxw_book (hd : decode M.2.1 pc = .ok (.getfield idx, 3)) (hl : e_fl M.1.cls idx o n ds) (hf : e_fd [2] k o n ds fin) (kk : EW M d kc ks Q (pc + 3) lv (aR (some (bI V 2 k)) :: st) (rh V r g)) : EW M d kc ks Q pc lv (aR (some (bI V 1 0)) :: st) (rh V r g) :=
  ew_get hd hl hf (rxh_of (rxC_b (by omega))) lm0 kk
/-! lists -/
def rok (r : MS) (j : Nat) : Prop := r.1 (30 + j) ≤ (xcap j (r.1 (50 + j)).toNat : Int) ∧ (r.1 (60 + j)).toNat ≤ (r.1 (50 + j)).toNat ∧ xcap j (r.1 (50 + j)).toNat ≤ 5000
theorem rxh_l (hj : j < 5) : rh V r g (bI V 2 j) = some (kO 11 (al (bI V (3 + j) (r.1 (50 + j)).toNat) (r.1 (30 + j)) (r.1 (70 + j)))) := rxh_of ((rxC_b (by omega)).trans (by unfold bC; rw [if_pos hj]; rfl))
theorem rxh_e (hj : j < 5) (h : rok r j) : rh V r g (bI V (3 + j) (r.1 (50 + j)).toNat) = some (kQ 0 (xcap j (r.1 (50 + j)).toNat) (xec V r j (r.1 (50 + j)).toNat)) := by
  refine rxh_of ((rxC_b (by omega)).trans ?_)
  have h2 := h.2.1
  rcases (show j = 0 ∨ j = 1 ∨ j = 2 ∨ j = 3 ∨ j = 4 by omega) with rfl | rfl | rfl | rfl | rfl <;> exact if_pos ⟨h2, Nat.le_refl _⟩
theorem rxec_in (h0 : 0 ≤ x) (h1 : x < r.1 (30 + j)) : xec V r j (r.1 (50 + j)).toNat x = some (xel V r j x) := by
  unfold xec
  rw [if_pos ⟨h0, by rw [if_pos rfl]; exact h1⟩]

theorem rlw_size {cnt : Nat} (hd : decode M.2.1 pc = .ok (.invokeinterface idx cnt, 5)) (hj : j < 5) (w1 : Cond.methodLink M.1.cls idx ⟨"java/util/List", "size", "()I"⟩ ∈ lw_all) (h8 : (rest.map fun v => if e_is2 v then 2 else 1).sum ≤ 8) (kk : EW M (d + 1) kc ks Q (pc + 5) lv (aI (r.1 (30 + j)) :: rest) (rh V r g)) : EW M (d + 1) kc ks Q pc lv (aR (some (bI V 2 j)) :: rest) (rh V r g) := by
  refine ew_callF (x := ⟨"java/util/List", "size", "()I"⟩) (as := []) (ci := 11) rfl hd me_J2_size rfl rfl (rxh_l hj) rfl w1 q668 q670 lm0 h8 (Nat.zero_le _) (Nat.zero_le _) (A_size (rxh_l hj)) (fun o h' hq _ => ?_) (fun E i h' q _ => by cases q.1)
  obtain ⟨E1, rfl⟩ := hq
  cases E1
  exact kk
theorem rlw_get {cnt : Nat} (hd : decode M.2.1 pc = .ok (.invokeinterface idx cnt, 5)) (hj : j < 5) (w1 : Cond.methodLink M.1.cls idx ⟨"java/util/List", "get", "(I)Ljava/lang/Object;"⟩ ∈ lw_all) (h8 : (rest.map fun v => if e_is2 v then 2 else 1).sum ≤ 8) (h0 : 0 ≤ x ∧ x < r.1 (30 + j)) (h2 : rok r j) (kk : EW M (d + 3) kc ks Q (pc + 5) lv (aR (some (xel V r j x)) :: rest) (rh V r g)) : EW M (d + 3) kc ks Q pc lv (aI x :: aR (some (bI V 2 j)) :: rest) (rh V r g) := by
  refine ew_callF (x := ⟨"java/util/List", "get", "(I)Ljava/lang/Object;"⟩) (d := d + 2) (as := [aI x]) (ci := 11) rfl hd me_J2_get rfl rfl (rxh_l hj) rfl w1 q691 q693 lm1 h8 (Nat.zero_le _) (Nat.zero_le _) (A_get (d := d) (rxh_l hj) (rxh_e hj h2) h0.1 h0.2 h2.1) (fun o h' hq _ => ?_) (fun E i h' q _ => by cases q.1)
  obtain ⟨E1, rfl⟩ := hq
  cases E1
  rw [rxec_in h0.1 h0.2]
  exact kk
/-! elements -/
theorem rxh_f {f : Int} (h0 : 0 ≤ f ∧ f < r.1 40) : rh V r g (bI V 10 f.toNat) = some (kO 8 (xfF r f.toNat)) := rxh_of ((rxC_b (by omega)).trans (if_pos (by omega)))
theorem rxh_m {f : Int} (h0 : 0 ≤ f ∧ f < r.1 41) : rh V r g (bI V 11 f.toNat) = some (kO 9 (xfT V r f.toNat)) := rxh_of ((rxC_b (by omega)).trans (if_pos (by omega)))
theorem rxh_sm {f : Int} (h0 : 0 ≤ f ∧ f < r.1 42) : rh V r g (bI V 12 f.toNat) = some (kO 10 (xfS r f.toNat)) := rxh_of ((rxC_b (by omega)).trans (if_pos (by omega)))
theorem rxh_df {f : Int} (h0 : 0 ≤ f ∧ f < r.1 43) : rh V r g (bI V 13 f.toNat) = some (kO 10 (xfD r f.toNat)) := rxh_of ((rxC_b (by omega)).trans (if_pos (by omega)))
theorem rxh_p {f : Int} (h0 : 0 ≤ f ∧ f < r.1 41) : rh V r g (bI V 14 f.toNat) = some (kI 0 (r.2 34 f).toNat (r.2 (100 + f.toNat))) := rxh_of ((rxC_b (by omega)).trans (by
  have e : bC V r 14 f.toNat = some (kI 0 (r.2 34 ((f.toNat : Nat) : Int)).toNat (r.2 (100 + f.toNat))) := if_pos (by omega)
  rw [e, e_nat h0.1]))
theorem rpw_alen {f : Int} (hd : decode M.2.1 pc = .ok (.arraylength, 1)) (h0 : 0 ≤ f ∧ f < r.1 41) (h1 : 0 ≤ r.2 34 f ∧ r.2 34 f < 2147483648) (kk : EW M d kc ks Q (pc + 1) lv (aI (r.2 34 f) :: st) (rh V r g)) : EW M d kc ks Q pc lv (aR (some (bI V 14 f.toNat)) :: st) (rh V r g) := by
  refine ew_alen hd (rxh_p h0) (Or.inl ⟨_, _, rfl⟩) (by omega) ?_
  rw [e_nat h1.1]
  exact kk
theorem rpw_iald {f : Int} (hd : decode M.2.1 pc = .ok (.iaload, 1)) (h0 : 0 ≤ f ∧ f < r.1 41) (h1 : 0 ≤ x ∧ x < r.2 34 f) (kk : EW M d kc ks Q (pc + 1) lv (aI (r.2 (100 + f.toNat) x) :: st) (rh V r g)) : EW M d kc ks Q pc lv (aI x :: aR (some (bI V 14 f.toNat)) :: st) (rh V r g) :=
  ew_iald hd (rxh_p h0) h1.1 (by omega) kk

theorem rgf_0 {f : Int} (hd : decode M.2.1 pc = .ok (.getfield idx, 3)) (hl : e_fl M.1.cls idx o n ds) (hf : e_fd [8] 0 o n ds fin) (h0 : 0 ≤ f ∧ f < r.1 40) (kk : EW M d kc ks Q (pc + 3) lv (aL (r.2 30 f) :: st) (rh V r g)) : EW M d kc ks Q pc lv (aR (some (bI V 10 f.toNat)) :: st) (rh V r g) := by
  have e := e_nat h0.1
  refine ew_get hd hl hf (rxh_f h0) lm0 ?_
  show EW M d kc ks Q (pc + 3) lv (aL (r.2 30 ((f.toNat : Nat) : Int)) :: st) (rh V r g)
  rw [e]
  exact kk
theorem rgf_1 {f : Int} (hd : decode M.2.1 pc = .ok (.getfield idx, 3)) (hl : e_fl M.1.cls idx o n ds) (hf : e_fd [8] 1 o n ds fin) (h0 : 0 ≤ f ∧ f < r.1 40) (kk : EW M d kc ks Q (pc + 3) lv (aI (r.2 31 f) :: st) (rh V r g)) : EW M d kc ks Q pc lv (aR (some (bI V 10 f.toNat)) :: st) (rh V r g) := by
  have e := e_nat h0.1
  refine ew_get hd hl hf (rxh_f h0) lm0 ?_
  show EW M d kc ks Q (pc + 3) lv (aI (r.2 31 ((f.toNat : Nat) : Int)) :: st) (rh V r g)
  rw [e]
  exact kk
theorem rcf_cast {f : Int} (hd : decode M.2.1 pc = .ok (.checkcast idx, 3)) (w1 : Cond.classLink M.1.cls idx RX10 ∈ lw_all) (h0 : 0 ≤ f ∧ f < r.1 40) (kk : EW M d kc ks Q (pc + 3) lv (aR (some (bI V 10 f.toNat)) :: st) (rh V r g)) : EW M d kc ks Q pc lv (aR (some (bI V 10 f.toNat)) :: st) (rh V r g) :=
  ew_cast hd (r := (RX10, TX10, 2)) rfl w1 (rxh_f h0) kk
theorem rgm_0 {f : Int} (hd : decode M.2.1 pc = .ok (.getfield idx, 3)) (hl : e_fl M.1.cls idx o n ds) (hf : e_fd [9] 0 o n ds fin) (h0 : 0 ≤ f ∧ f < r.1 41) (kk : EW M d kc ks Q (pc + 3) lv (aL (r.2 32 f) :: st) (rh V r g)) : EW M d kc ks Q pc lv (aR (some (bI V 11 f.toNat)) :: st) (rh V r g) := by
  have e := e_nat h0.1
  refine ew_get hd hl hf (rxh_m h0) lm0 ?_
  show EW M d kc ks Q (pc + 3) lv (aL (r.2 32 ((f.toNat : Nat) : Int)) :: st) (rh V r g)
  rw [e]
  exact kk
theorem rgm_1 {f : Int} (hd : decode M.2.1 pc = .ok (.getfield idx, 3)) (hl : e_fl M.1.cls idx o n ds) (hf : e_fd [9] 1 o n ds fin) (h0 : 0 ≤ f ∧ f < r.1 41) (kk : EW M d kc ks Q (pc + 3) lv (aR (some (bI V 10 (r.2 33 f).toNat)) :: st) (rh V r g)) : EW M d kc ks Q pc lv (aR (some (bI V 11 f.toNat)) :: st) (rh V r g) := by
  have e := e_nat h0.1
  refine ew_get hd hl hf (rxh_m h0) lm0 ?_
  show EW M d kc ks Q (pc + 3) lv (aR (some (bI V 10 (r.2 33 ((f.toNat : Nat) : Int)).toNat)) :: st) (rh V r g)
  rw [e]
  exact kk
theorem rgm_2 {f : Int} (hd : decode M.2.1 pc = .ok (.getfield idx, 3)) (hl : e_fl M.1.cls idx o n ds) (hf : e_fd [9] 2 o n ds fin) (h0 : 0 ≤ f ∧ f < r.1 41) (kk : EW M d kc ks Q (pc + 3) lv (aI (r.2 33 f) :: st) (rh V r g)) : EW M d kc ks Q pc lv (aR (some (bI V 11 f.toNat)) :: st) (rh V r g) := by
  have e := e_nat h0.1
  refine ew_get hd hl hf (rxh_m h0) lm0 ?_
  show EW M d kc ks Q (pc + 3) lv (aI (r.2 33 ((f.toNat : Nat) : Int)) :: st) (rh V r g)
  rw [e]
  exact kk
theorem rgm_3 {f : Int} (hd : decode M.2.1 pc = .ok (.getfield idx, 3)) (hl : e_fl M.1.cls idx o n ds) (hf : e_fd [9] 3 o n ds fin) (h0 : 0 ≤ f ∧ f < r.1 41) (kk : EW M d kc ks Q (pc + 3) lv (aR (some (bI V 14 f.toNat)) :: st) (rh V r g)) : EW M d kc ks Q pc lv (aR (some (bI V 11 f.toNat)) :: st) (rh V r g) := by
  have e := e_nat h0.1
  refine ew_get hd hl hf (rxh_m h0) lm0 ?_
  show EW M d kc ks Q (pc + 3) lv (aR (some (bI V 14 f.toNat)) :: st) (rh V r g)
  
  exact kk
theorem rcm_cast {f : Int} (hd : decode M.2.1 pc = .ok (.checkcast idx, 3)) (w1 : Cond.classLink M.1.cls idx RX11 ∈ lw_all) (h0 : 0 ≤ f ∧ f < r.1 41) (kk : EW M d kc ks Q (pc + 3) lv (aR (some (bI V 11 f.toNat)) :: st) (rh V r g)) : EW M d kc ks Q pc lv (aR (some (bI V 11 f.toNat)) :: st) (rh V r g) :=
  ew_cast hd (r := (RX11, TX11, 4)) rfl w1 (rxh_m h0) kk
theorem rgs_0 {f : Int} (hd : decode M.2.1 pc = .ok (.getfield idx, 3)) (hl : e_fl M.1.cls idx o n ds) (hf : e_fd [10] 0 o n ds fin) (h0 : 0 ≤ f ∧ f < r.1 42) (kk : EW M d kc ks Q (pc + 3) lv (aI (r.2 40 f) :: st) (rh V r g)) : EW M d kc ks Q pc lv (aR (some (bI V 12 f.toNat)) :: st) (rh V r g) := by
  have e := e_nat h0.1
  refine ew_get hd hl hf (rxh_sm h0) lm0 ?_
  show EW M d kc ks Q (pc + 3) lv (aI (r.2 40 ((f.toNat : Nat) : Int)) :: st) (rh V r g)
  rw [e]
  exact kk
theorem rgs_1 {f : Int} (hd : decode M.2.1 pc = .ok (.getfield idx, 3)) (hl : e_fl M.1.cls idx o n ds) (hf : e_fd [10] 1 o n ds fin) (h0 : 0 ≤ f ∧ f < r.1 42) (kk : EW M d kc ks Q (pc + 3) lv (aI (r.2 41 f) :: st) (rh V r g)) : EW M d kc ks Q pc lv (aR (some (bI V 12 f.toNat)) :: st) (rh V r g) := by
  have e := e_nat h0.1
  refine ew_get hd hl hf (rxh_sm h0) lm0 ?_
  show EW M d kc ks Q (pc + 3) lv (aI (r.2 41 ((f.toNat : Nat) : Int)) :: st) (rh V r g)
  rw [e]
  exact kk
theorem rcs_cast {f : Int} (hd : decode M.2.1 pc = .ok (.checkcast idx, 3)) (w1 : Cond.classLink M.1.cls idx RX12 ∈ lw_all) (h0 : 0 ≤ f ∧ f < r.1 42) (kk : EW M d kc ks Q (pc + 3) lv (aR (some (bI V 12 f.toNat)) :: st) (rh V r g)) : EW M d kc ks Q pc lv (aR (some (bI V 12 f.toNat)) :: st) (rh V r g) :=
  ew_cast hd (r := (RX12, TX12, 2)) rfl w1 (rxh_sm h0) kk
theorem rgd_0 {f : Int} (hd : decode M.2.1 pc = .ok (.getfield idx, 3)) (hl : e_fl M.1.cls idx o n ds) (hf : e_fd [10] 0 o n ds fin) (h0 : 0 ≤ f ∧ f < r.1 43) (kk : EW M d kc ks Q (pc + 3) lv (aI (r.2 42 f) :: st) (rh V r g)) : EW M d kc ks Q pc lv (aR (some (bI V 13 f.toNat)) :: st) (rh V r g) := by
  have e := e_nat h0.1
  refine ew_get hd hl hf (rxh_df h0) lm0 ?_
  show EW M d kc ks Q (pc + 3) lv (aI (r.2 42 ((f.toNat : Nat) : Int)) :: st) (rh V r g)
  rw [e]
  exact kk
theorem rgd_1 {f : Int} (hd : decode M.2.1 pc = .ok (.getfield idx, 3)) (hl : e_fl M.1.cls idx o n ds) (hf : e_fd [10] 1 o n ds fin) (h0 : 0 ≤ f ∧ f < r.1 43) (kk : EW M d kc ks Q (pc + 3) lv (aI (r.2 43 f) :: st) (rh V r g)) : EW M d kc ks Q pc lv (aR (some (bI V 13 f.toNat)) :: st) (rh V r g) := by
  have e := e_nat h0.1
  refine ew_get hd hl hf (rxh_df h0) lm0 ?_
  show EW M d kc ks Q (pc + 3) lv (aI (r.2 43 ((f.toNat : Nat) : Int)) :: st) (rh V r g)
  rw [e]
  exact kk
theorem rcd_cast {f : Int} (hd : decode M.2.1 pc = .ok (.checkcast idx, 3)) (w1 : Cond.classLink M.1.cls idx RX12 ∈ lw_all) (h0 : 0 ≤ f ∧ f < r.1 43) (kk : EW M d kc ks Q (pc + 3) lv (aR (some (bI V 13 f.toNat)) :: st) (rh V r g)) : EW M d kc ks Q pc lv (aR (some (bI V 13 f.toNat)) :: st) (rh V r g) :=
  ew_cast hd (r := (RX12, TX12, 2)) rfl w1 (rxh_df h0) kk

end RW
