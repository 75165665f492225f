/-! String.length, charAt for the reference -/
set_option maxRecDepth 100000
def C_length (i : Nat) (K : Int → Prop) : Prop := i < 5 ∧ C_J3_length i K
def C_charAt (i : Nat) (k : Int) (K : Int → Prop) : Prop := i < 5 ∧ C_J3_charAt i k K
section SW
variable {M : EM} {d kc ks : Nat} {Q : AO → AH → Prop} {pc idx i : Nat} {lv : List (Nat × AV)} {st : List AV} {h : AH} {K : Int → Prop}
theorem sw_length (hd : decode M.2.1 pc = .ok (.invokevirtual idx, 3)) (w1 : Cond.methodLink M.1.cls idx ⟨"java/lang/String", "length", "()I"⟩ ∈ lw_all) (h8 : (st.map fun v => if e_is2 v then 2 else 1).sum ≤ 8) (H : C_length i K) (k : ∀ r, K r → EW M (d + 6) kc ks Q (pc + 3) lv (aI r :: st) h) : EW M (d + 6) kc ks Q pc lv (aR (some (9, 13, i)) :: st) h := by
  obtain ⟨hx, H⟩ := H
  refine ew_callVk hx (d := d + 5) (as := []) rfl hd me_J3_length rfl rfl w1 q480 q481 h8 (Nat.zero_le _) (Nat.zero_le _) (S_J3_length (d := d + 4) H) (fun o h' hq _ => ?_) (fun E i h' q _ => (cQ_no q).elim)
  obtain ⟨r, E1, rfl, H⟩ := hq
  cases E1
  exact k r H
theorem sw_charAt {x : Int} (hd : decode M.2.1 pc = .ok (.invokevirtual idx, 3)) (w1 : Cond.methodLink M.1.cls idx ⟨"java/lang/String", "charAt", "(I)C"⟩ ∈ lw_all) (h8 : (st.map fun v => if e_is2 v then 2 else 1).sum ≤ 8) (H : C_charAt i x K) (k : ∀ r, K r → EW M (d + 6) kc ks Q (pc + 3) lv (aI r :: st) h) : EW M (d + 6) kc ks Q pc lv (aI x :: aR (some (9, 13, i)) :: st) h := by
  obtain ⟨hx, H⟩ := H
  refine ew_callVk hx (d := d + 5) (as := [aI x]) rfl hd me_J3_charAt rfl rfl w1 q567 q568 h8 (Nat.zero_le _) (Nat.zero_le _) (S_J3_charAt (d := d + 2) H) (fun o h' hq _ => ?_) (fun E i h' q _ => (cQ_no q).elim)
  obtain ⟨r, E1, rfl, H⟩ := hq
  cases E1
  exact k r H
end SW
