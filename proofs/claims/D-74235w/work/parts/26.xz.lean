/-! THE SYSTEM's METHODS: calls on sheets; small rules for the program gen/gxx.py -/
set_option maxRecDepth 100000
theorem e_P5 {j : Nat} (h : j = 2 ∨ j = 3) : j < 5 := by omega
theorem e_P4 {j : Nat} (h : j = 2 ∨ j = 3) : j < 4 := by omega
theorem row_100 {k : Nat} (h : k = 0 ∨ k = 5 ∨ k = 6) : k < 100 := by omega
theorem sC_rowN {V : XV} {r : MS} {k : Nat} (h : k = 0 ∨ k = 5 ∨ k = 6) : sC V r 4 k = some (kI 0 24 (r.2 k)) := by
  rcases h with rfl | rfl | rfl <;> rfl
theorem sC_row0 {V : XV} {r : MS} {j k : Nat} (h : k = 0) : sC V r j k = some (kI 0 24 (r.2 k)) := by subst h; rfl
theorem xCx_L {V : XV} {r : MS} {k : Nat} (h : k = 17 ∨ k = 19) : xCx V r k = some (kL 576 (r.2 k)) := by
  rcases h with rfl | rfl <;> rfl
theorem xCx_30 {k : Nat} (h : k = 17 ∨ k = 19) : k < 30 := by omega
theorem scl_some {j : Nat} : ∃ r : vw_C, e_cl[scl j]? = some r := by
  unfold scl
  split
  · exact ⟨_, rfl⟩
  · split
    · exact ⟨_, rfl⟩
    · exact ⟨_, rfl⟩
theorem yselG {j : Nat} (hj : j < 5) {P : String → Prop} (h3 : P RX3) (h4 : P RX4) (h5 : P RX6) : ∀ r : vw_C, e_cl[scl j]? = some r → P r.1 := by
  intro r h
  rcases (show j = 0 ∨ j = 1 ∨ j = 2 ∨ j = 3 ∨ j = 4 by omega) with rfl | rfl | rfl | rfl | rfl <;> cases h <;> assumption
theorem yselP {j : Nat} (hj : j = 2 ∨ j = 3) {P : String → Prop} (h4 : P RX4) : ∀ r : vw_C, e_cl[scl j]? = some r → P r.1 := by
  intro r h
  rcases hj with rfl | rfl <;> cases h <;> assumption
theorem ysel3_0 {P : String → Prop} (h : P RX3) : ∀ r : vw_C, e_cl[scl 0]? = some r → P r.1 := fun r e => by cases e; exact h
theorem ysel3_1 {P : String → Prop} (h : P RX3) : ∀ r : vw_C, e_cl[scl 1]? = some r → P r.1 := fun r e => by cases e; exact h
theorem ysel4_2 {P : String → Prop} (h : P RX4) : ∀ r : vw_C, e_cl[scl 2]? = some r → P r.1 := fun r e => by cases e; exact h
theorem ysel4_3 {P : String → Prop} (h : P RX4) : ∀ r : vw_C, e_cl[scl 3]? = some r → P r.1 := fun r e => by cases e; exact h
theorem ysel5_4 {P : String → Prop} (h : P RX6) : ∀ r : vw_C, e_cl[scl 4]? = some r → P r.1 := fun r e => by cases e; exact h
section EWY
variable {M M' : EM} {d kc ks mc ms : Nat} {Q Q' : AO → AH → Prop} {pc : Nat} {lv : List (Nat × AV)} {rest : List AV} {V : XV} {s : XS} {g : AH} {j : Nat}
theorem ew_callY {idx n : Nat} {as st : List AV} {x : MethodName} {owner : String} (hst0 : as.reverse ++ aR (some (sI V j 99)) :: rest = st) (hd : decode M.2.1 pc = .ok (.invokevirtual idx, 3)) (hm : e_mth M' n) (hn : as.length = n) (hj : j < 5) (hxd : x.desc = M'.1.desc)
    (w1 : Cond.methodLink M.1.cls idx x ∈ lw_all) (w2 : Cond.sameMethod x.cls owner x.name x.desc ∈ lw_all) (w3 : ∀ r : vw_C, e_cl[scl j]? = some r → Cond.selects r.1 x M'.1 ∈ lw_all) (w4 : Cond.instanceMethod M'.1 ∈ lw_all) (w5 : Cond.declares ⟨owner, x.name, x.desc⟩ ∈ lw_tbl ∨ (Cond.instanceMethod ⟨owner, x.name, x.desc⟩ ∈ lw_all ∧ ∃ b0 m0 r0, Cond.code ⟨owner, x.name, x.desc⟩ b0 m0 r0 ∈ lw_all))
    (ho : owner ≠ "java/lang/invoke/MethodHandle" ∧ owner ≠ "java/lang/invoke/VarHandle") (h8 : (rest.map fun v => if e_is2 v then 2 else 1).sum ≤ 8) (hmc : mc ≤ kc) (hms : ms ≤ ks)
    (hS : Sp M' d mc ms (aR (some (sI V j 99)) :: as) (xh V s g) Q')
    (kr : ∀ o h', Q' (Sum.inl o) h' → (∀ i, xh V s g i ≠ none → h' i ≠ none) → EW M (d + 1) (kc - mc) (ks - ms) Q (pc + 3) lv (o.toList ++ rest) h')
    (kx : ∀ E i h', Q' (Sum.inr (E, i)) h' → (∀ i, xh V s g i ≠ none → h' i ≠ none) → EX M (d + 1) (kc - mc) (ks - ms) Q pc lv h' E i) :
    EW M (d + 1) kc ks Q pc lv st (xh V s g) := by
  obtain ⟨r, hr⟩ := scl_some (j := j)
  exact ew_callU hst0 hd hm hn hr (xh_y hj) hxd w1 w2 (w3 r hr) w4 w5 ho h8 hmc hms hS kr kx
theorem ew_callYP {idx n n2 : Nat} {as st : List AV} (hst0 : as.reverse ++ aR (some (sI V j 99)) :: rest = st) (hd : decode M.2.1 pc = .ok (.invokevirtual idx, 3)) (hm : e_mth M' n) (hn : as.length = n) (hj : j < 5)
    (w1 : Cond.methodLink M.1.cls idx M'.1 ∈ lw_all) (w2 : Cond.instanceMethod M'.1 ∈ lw_all) (w3 : Cond.instantiable M'.1.cls n2 ∈ lw_all) (w4 : Cond.privateMethod M'.1 ∈ lw_tbl) (h8 : (rest.map fun v => if e_is2 v then 2 else 1).sum ≤ 8) (hmc : mc ≤ kc) (hms : ms ≤ ks)
    (hS : Sp M' d mc ms (aR (some (sI V j 99)) :: as) (xh V s g) Q')
    (kr : ∀ o h', Q' (Sum.inl o) h' → (∀ i, xh V s g i ≠ none → h' i ≠ none) → EW M (d + 1) (kc - mc) (ks - ms) Q (pc + 3) lv (o.toList ++ rest) h')
    (kx : ∀ E i h', Q' (Sum.inr (E, i)) h' → (∀ i, xh V s g i ≠ none → h' i ≠ none) → EX M (d + 1) (kc - mc) (ks - ms) Q pc lv h' E i) :
    EW M (d + 1) kc ks Q pc lv st (xh V s g) := by
  obtain ⟨r, hr⟩ := scl_some (j := j)
  exact ew_callP hst0 hd hm hn hr (xh_y hj) w1 w2 w3 w4 h8 hmc hms hS kr kx
end EWY
section LWG
variable {M : EM} {d kc ks : Nat} {Q : AO → AH → Prop} {pc idx cnt : Nat} {lv : List (Nat × AV)} {rest : List AV} {V : XV} {s : XS} {g : AH} {x : Int}
theorem lw_g0 (hd : decode M.2.1 pc = .ok (.invokeinterface idx cnt, 5)) (w1 : Cond.methodLink M.1.cls idx ⟨"java/util/List", "get", "(I)Ljava/lang/Object;"⟩ ∈ lw_all) (h8 : (rest.map fun v => if e_is2 v then 2 else 1).sum ≤ 8) (h0 : 0 ≤ x ∧ x < s.1.1 30) (h2 : xok s 0) (kk : EW M (d + 3) kc ks Q (pc + 5) lv (aR (some (bI V 10 x.toNat)) :: rest) (xh V s g)) : EW M (d + 3) kc ks Q pc lv (aI x :: aR (some (bI V 2 0)) :: rest) (xh V s g) := lw_get hd (by omega) w1 h8 h0 h2 kk
theorem lw_g1 (hd : decode M.2.1 pc = .ok (.invokeinterface idx cnt, 5)) (w1 : Cond.methodLink M.1.cls idx ⟨"java/util/List", "get", "(I)Ljava/lang/Object;"⟩ ∈ lw_all) (h8 : (rest.map fun v => if e_is2 v then 2 else 1).sum ≤ 8) (h0 : 0 ≤ x ∧ x < s.1.1 31) (h2 : xok s 1) (kk : EW M (d + 3) kc ks Q (pc + 5) lv (aR (some (bI V 11 x.toNat)) :: rest) (xh V s g)) : EW M (d + 3) kc ks Q pc lv (aI x :: aR (some (bI V 2 1)) :: rest) (xh V s g) := lw_get hd (by omega) w1 h8 h0 h2 kk
theorem lw_g2 (hd : decode M.2.1 pc = .ok (.invokeinterface idx cnt, 5)) (w1 : Cond.methodLink M.1.cls idx ⟨"java/util/List", "get", "(I)Ljava/lang/Object;"⟩ ∈ lw_all) (h8 : (rest.map fun v => if e_is2 v then 2 else 1).sum ≤ 8) (h0 : 0 ≤ x ∧ x < s.1.1 32) (h2 : xok s 2) (kk : EW M (d + 3) kc ks Q (pc + 5) lv (aR (some (bI V 12 x.toNat)) :: rest) (xh V s g)) : EW M (d + 3) kc ks Q pc lv (aI x :: aR (some (bI V 2 2)) :: rest) (xh V s g) := lw_get hd (by omega) w1 h8 h0 h2 kk
theorem lw_g3 (hd : decode M.2.1 pc = .ok (.invokeinterface idx cnt, 5)) (w1 : Cond.methodLink M.1.cls idx ⟨"java/util/List", "get", "(I)Ljava/lang/Object;"⟩ ∈ lw_all) (h8 : (rest.map fun v => if e_is2 v then 2 else 1).sum ≤ 8) (h0 : 0 ≤ x ∧ x < s.1.1 33) (h2 : xok s 3) (kk : EW M (d + 3) kc ks Q (pc + 5) lv (aR (some (bI V 13 x.toNat)) :: rest) (xh V s g)) : EW M (d + 3) kc ks Q pc lv (aI x :: aR (some (bI V 2 3)) :: rest) (xh V s g) := lw_get hd (by omega) w1 h8 h0 h2 kk
end LWG
