/-! THE READER: its fields, the tape -/
set_option maxRecDepth 100000
def rki : Nat → Bool
  | 2 => true
  | 3 => true
  | 4 => true
  | 5 => true
  | _ => false
theorem rki_or {k : Nat} (h : rki k = true) : k = 2 ∨ k = 3 ∨ k = 4 ∨ k = 5 := by
  unfold rki at h
  split at h <;> first | omega | cases h
theorem rF_ms {V : XV} {r : MS} {k : Nat} {x : Int} (hk : rki k = true) : fup (rF V r) k (aI x) = rF V (ms r k x) := by
  funext i
  unfold fup
  split
  · next e =>
    subst e
    rcases rki_or hk with rfl | rfl | rfl | rfl <;> rfl
  · next e =>
    unfold rF
    split <;> first | rfl | (rw [ms_n e])
theorem rF_ms6 {V : XV} {r : MS} {x : Int} : fup (rF V r) 6 (aL x) = rF V (ms r 6 x) := by
  funext i
  unfold fup
  split
  · next e => subst e; rfl
  · next e =>
    unfold rF
    split <;> first | rfl | (rw [ms_n e]) | exact absurd rfl e
theorem rh_up {V : XV} {r r' : MS} {g : AH} {i : EId} {c : ACell} (h1 : rC V r' i = some c) (h2 : ∀ j, j ≠ i → rC V r' j = rC V r j) : hup (rh V r g) i c = rh V r' g := by
  funext j
  by_cases e : j = i
  · subst e
    rw [hup_self, rxh_of h1]
  · rw [hup_ne e]
    unfold rh
    rw [h2 j e]
theorem rh_ms {V : XV} {r : MS} {g : AH} {k : Nat} {x : Int} (hk : k < 30) : hup (rh V r g) rT (kO 6 (rF V (ms r k x))) = rh V (ms r k x) g := by
  refine rh_up (if_pos rfl) fun j hj => ?_
  unfold rC
  rw [if_neg hj, if_neg hj, bC_ms hk]
/-- the tape, beside the reader -/
def rtp (tp : Int → Int) (g : AH) : Prop := ∃ fx, g xT = some (kO 0 fx) ∧ fx 2 = aR (some (0, 2, 2)) ∧ g (0, 2, 2) = some (kI 2 500 tp)
theorem rC_0 {V : XV} {r : MS} {i : EId} (h : i.1 = 0) : rC V r i = none := by
  unfold rC
  rw [if_neg (fun q => by rw [q] at h; exact absurd h (by decide)), if_neg (fun q => by omega)]
section RDW
variable {M : EM} {d kc ks : Nat} {Q : AO → AH → Prop} {pc idx k : Nat} {lv : List (Nat × AV)} {st : List AV} {V : XV} {r : MS} {g : AH} {o n ds : String} {fin : Bool} {v : AV} {x : Int} {tp : Int → Int}
theorem rd_get (hd : decode M.2.1 pc = .ok (.getfield idx, 3)) (hl : e_fl M.1.cls idx o n ds) (hf : e_fd [6] k o n ds fin) (hk : rF V r k = v) (kk : EW M d kc ks Q (pc + 3) lv (v :: st) (rh V r g)) : EW M d kc ks Q pc lv (aR (some rT) :: st) (rh V r g) :=
  ew_get hd hl hf rh_T lm0 (by rw [hk]; exact kk)
theorem rd_put (hd : decode M.2.1 pc = .ok (.putfield idx, 3)) (hl : e_fl M.1.cls idx o n ds) (hf : e_fd [6] k o n ds false) (hk : rki k = true) (hty : parseFieldDescriptor ds = some .int) (kk : ∀ r1, r1 = ms r k x → EW M d kc ks Q (pc + 3) lv st (rh V r1 g)) : EW M d kc ks Q pc lv (aI x :: aR (some rT) :: st) (rh V r g) := by
  refine ew_put hd hl hf rh_T lm0 hty trivial ?_
  rw [rF_ms hk, rh_ms (by rcases rki_or hk with rfl | rfl | rfl | rfl <;> decide)]
  exact kk _ rfl
theorem rd_putL (hd : decode M.2.1 pc = .ok (.putfield idx, 3)) (hl : e_fl M.1.cls idx o n ds) (hf : e_fd [6] 6 o n ds false) (hty : parseFieldDescriptor ds = some .long) (kk : ∀ r1, r1 = ms r 6 x → EW M d kc ks Q (pc + 3) lv st (rh V r1 g)) : EW M d kc ks Q pc lv (aL x :: aR (some rT) :: st) (rh V r g) := by
  refine ew_put hd hl hf rh_T lm0 hty trivial ?_
  rw [rF_ms6, rh_ms (by decide)]
  exact kk _ rfl
theorem rd_tape (hd : decode M.2.1 pc = .ok (.getfield idx, 3)) (hl : e_fl M.1.cls idx o n ds) (hf : e_fd [0] 2 o n ds fin) (hT : rtp tp g) (kk : EW M d kc ks Q (pc + 3) lv (aR (some (0, 2, 2)) :: st) (rh V r g)) : EW M d kc ks Q pc lv (aR (some xT) :: st) (rh V r g) := by
  obtain ⟨fx, h1, h2, h3⟩ := hT
  exact ew_get hd hl hf ((rh_g (rC_0 rfl)).trans h1) lm0 (by rw [h2]; exact kk)
theorem rd_bald (hd : decode M.2.1 pc = .ok (.baload, 1)) (hT : rtp tp g) (h0 : 0 ≤ x) (h1 : x < 500) (kk : EW M d kc ks Q (pc + 1) lv (aI (tp x) :: st) (rh V r g)) : EW M d kc ks Q pc lv (aI x :: aR (some (0, 2, 2)) :: st) (rh V r g) := by
  obtain ⟨fx, _, _, h3⟩ := hT
  exact ew_bald hd ((rh_g (rC_0 rfl)).trans h3) (Or.inr rfl) h0 h1 kk
end RDW
