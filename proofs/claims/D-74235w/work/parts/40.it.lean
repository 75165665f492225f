/-! ITERATORS over the system's lists (gen/iter.py) -/
set_option maxRecDepth 100000
def itc (V : XV) (j : Nat) (c m : Int) : ACell := kO 12 (itf c (c - 1) m (some (bI V 2 j)))
section IW
variable {M : EM} {d kc ks : Nat} {Q : AO → AH → Prop} {pc idx cnt j : Nat} {lv : List (Nat × AV)} {rest : List AV} {V : XV} {s : XS} {g : AH} {I : EId} {c m : Int}
theorem iw_new (hd : decode M.2.1 pc = .ok (.invokeinterface idx cnt, 5)) (hj : j < 5) (w1 : Cond.methodLink M.1.cls idx ⟨"java/util/List", "iterator", "()Ljava/util/Iterator;"⟩ ∈ lw_all) (hI : I.1 = 1) (hg : g I = none) (h8 : (rest.map fun v => if e_is2 v then 2 else 1).sum ≤ 8) (b1 : 1 ≤ kc) (b2 : 4 ≤ ks) (k : EW M (d + 3) (kc - 1) (ks - 4) Q (pc + 5) lv (aR (some I) :: rest) (xh V s (hup g I (itc V j 0 (s.1.1 (70 + j)))))) : EW M (d + 3) kc ks Q pc lv (aR (some (bI V 2 j)) :: rest) (xh V s g) := by
  refine ew_callF (x := ⟨"java/util/List", "iterator", "()Ljava/util/Iterator;"⟩) (d := d + 2) (as := []) (ci := 11) rfl hd me_J2_iterator rfl rfl (xh_l hj) rfl w1 q877 q879 lm3 h8 b1 b2 (A_iter (d := d) (xh_l hj) ((xh_g (xC_1 hI)).trans hg) (by rw [hI]; decide)) (fun o h' hq _ => ?_) (fun E i h' q _ => by cases q.1)
  obtain ⟨E1, rfl⟩ := hq
  cases E1
  rw [xh_upg (xC_1 hI)]
  exact k
theorem iw_has (hd : decode M.2.1 pc = .ok (.invokeinterface idx cnt, 5)) (hj : j < 5) (w1 : Cond.methodLink M.1.cls idx ⟨"java/util/Iterator", "hasNext", "()Z"⟩ ∈ lw_all) (hI : I.1 = 1) (hg : g I = some (itc V j c m)) (hm : s.1.1 (70 + j) = m) (h8 : (rest.map fun v => if e_is2 v then 2 else 1).sum ≤ 8) (k : EW M (d + 1) kc ks Q (pc + 5) lv (aI (if c = s.1.1 (30 + j) then 0 else 1) :: rest) (xh V s g)) : EW M (d + 1) kc ks Q pc lv (aR (some I) :: rest) (xh V s g) := by
  subst hm
  refine ew_callF (x := ⟨"java/util/Iterator", "hasNext", "()Z"⟩) (d := d) (as := []) (ci := 12) rfl hd me_J16_hasNext rfl rfl ((xh_g (xC_1 hI)).trans hg) rfl w1 q906 q908 lm5 h8 (Nat.zero_le _) (Nat.zero_le _) (A_hasNext (d := d) ((xh_g (xC_1 hI)).trans hg) (xh_l hj)) (fun o h' hq _ => ?_) (fun E i h' q _ => by cases q.1)
  obtain ⟨E1, rfl⟩ := hq
  cases E1
  exact k
theorem iw_next (hd : decode M.2.1 pc = .ok (.invokeinterface idx cnt, 5)) (hj : j < 5) (w1 : Cond.methodLink M.1.cls idx ⟨"java/util/Iterator", "next", "()Ljava/lang/Object;"⟩ ∈ lw_all) (hI : I.1 = 1) (hg : g I = some (itc V j c m)) (hm : s.1.1 (70 + j) = m) (h0 : 0 ≤ c ∧ c < s.1.1 (30 + j)) (hok : xok s j) (h8 : (rest.map fun v => if e_is2 v then 2 else 1).sum ≤ 8) (k : EW M (d + 2) kc ks Q (pc + 5) lv (aR (some (xel V s.1 j c)) :: rest) (xh V s (hup g I (itc V j (c + 1) m)))) : EW M (d + 2) kc ks Q pc lv (aR (some I) :: rest) (xh V s g) := by
  subst hm
  refine ew_callF (x := ⟨"java/util/Iterator", "next", "()Ljava/lang/Object;"⟩) (d := d + 1) (as := []) (ci := 12) rfl hd me_J16_next rfl rfl ((xh_g (xC_1 hI)).trans hg) rfl w1 q915 q917 lm6 h8 (Nat.zero_le _) (Nat.zero_le _) (A_next (d := d) ((xh_g (xC_1 hI)).trans hg) (xh_l hj) (xh_e hj hok) h0.1 h0.2 hok.1 hok.2.2) (fun o h' hq _ => ?_) (fun E i h' q _ => by cases q.1)
  obtain ⟨E1, rfl⟩ := hq
  cases E1
  rw [xec_in h0.1 h0.2, xh_upg (xC_1 hI), show itf (c + 1) c (s.1.1 (70 + j)) (some (bI V 2 j)) = itf (c + 1) (c + 1 - 1) (s.1.1 (70 + j)) (some (bI V 2 j)) by rw [show c + 1 - 1 = c by omega]]
  exact k
end IW
