/-! THE SYSTEM's OBJECTS: rules (gen/xrules.py) -/
set_option maxRecDepth 100000
theorem xf_0 : e_fd [0] 0 "ReasonCloser" "trouble" "I" false := e_fd1 (r := (RX1, TX1, 20)) rfl (by decide) rfl
theorem xf_1 : e_fd [0] 1 "ReasonCloser" "where" "I" false := e_fd1 (r := (RX1, TX1, 20)) rfl (by decide) rfl
theorem xf_2 : e_fd [0] 2 "ReasonCloser" "tape" "[B" true := e_fd1 (r := (RX1, TX1, 20)) rfl (by decide) rfl
theorem xf_3 : e_fd [0] 3 "ReasonCloser" "taped" "I" false := e_fd1 (r := (RX1, TX1, 20)) rfl (by decide) rfl
theorem xf_4 : e_fd [0] 4 "ReasonCloser" "fault" "I" false := e_fd1 (r := (RX1, TX1, 20)) rfl (by decide) rfl
theorem xf_5 : e_fd [0] 5 "ReasonCloser" "book" "LReasonCloser$Book;" false := e_fd1 (r := (RX1, TX1, 20)) rfl (by decide) rfl
theorem xf_6 : e_fd [0] 6 "ReasonCloser" "now" "LReasonCloser$Reasons;" false := e_fd1 (r := (RX1, TX1, 20)) rfl (by decide) rfl
theorem xf_7 : e_fd [0] 7 "ReasonCloser" "bare" "LReasonCloser$Closed;" false := e_fd1 (r := (RX1, TX1, 20)) rfl (by decide) rfl
theorem xf_8 : e_fd [0] 8 "ReasonCloser" "paper" "LReasonCloser$Closed;" false := e_fd1 (r := (RX1, TX1, 20)) rfl (by decide) rfl
theorem xf_9 : e_fd [0] 9 "ReasonCloser" "actKind" "[I" true := e_fd1 (r := (RX1, TX1, 20)) rfl (by decide) rfl
theorem xf_10 : e_fd [0] 10 "ReasonCloser" "actTrail" "[I" true := e_fd1 (r := (RX1, TX1, 20)) rfl (by decide) rfl
theorem xf_11 : e_fd [0] 11 "ReasonCloser" "actJoins" "[I" true := e_fd1 (r := (RX1, TX1, 20)) rfl (by decide) rfl
theorem xf_12 : e_fd [0] 12 "ReasonCloser" "acts" "I" false := e_fd1 (r := (RX1, TX1, 20)) rfl (by decide) rfl
theorem xf_13 : e_fd [0] 13 "ReasonCloser" "depths" "[I" true := e_fd1 (r := (RX1, TX1, 20)) rfl (by decide) rfl
theorem xf_14 : e_fd [0] 14 "ReasonCloser" "isBy" "[Z" true := e_fd1 (r := (RX1, TX1, 20)) rfl (by decide) rfl
theorem xf_15 : e_fd [0] 15 "ReasonCloser" "lower" "LReasonCloser$Groups;" true := e_fd1 (r := (RX1, TX1, 20)) rfl (by decide) rfl
theorem xf_16 : e_fd [0] 16 "ReasonCloser" "upper" "LReasonCloser$Groups;" true := e_fd1 (r := (RX1, TX1, 20)) rfl (by decide) rfl
theorem xf_17 : e_fd [0] 17 "ReasonCloser" "cost" "[J" true := e_fd1 (r := (RX1, TX1, 20)) rfl (by decide) rfl
theorem xf_18 : e_fd [0] 18 "ReasonCloser" "edge" "[J" true := e_fd1 (r := (RX1, TX1, 20)) rfl (by decide) rfl
theorem xf_19 : e_fd [0] 19 "ReasonCloser" "far" "[J" true := e_fd1 (r := (RX1, TX1, 20)) rfl (by decide) rfl
theorem bf_0 : e_fd [2] 0 "ReasonCloser$Book" "functions" "Ljava/util/List;" true := e_fd1 (r := (RX2, TX2, 5)) rfl (by decide) rfl
theorem bf_1 : e_fd [2] 1 "ReasonCloser$Book" "terms" "Ljava/util/List;" true := e_fd1 (r := (RX2, TX2, 5)) rfl (by decide) rfl
theorem bf_2 : e_fd [2] 2 "ReasonCloser$Book" "sames" "Ljava/util/List;" true := e_fd1 (r := (RX2, TX2, 5)) rfl (by decide) rfl
theorem bf_3 : e_fd [2] 3 "ReasonCloser$Book" "diffs" "Ljava/util/List;" true := e_fd1 (r := (RX2, TX2, 5)) rfl (by decide) rfl
theorem bf_4 : e_fd [2] 4 "ReasonCloser$Book" "order" "Ljava/util/List;" true := e_fd1 (r := (RX2, TX2, 5)) rfl (by decide) rfl
theorem ff_0 : e_fd [8] 0 "ReasonCloser$Function" "name" "J" true := e_fd1 (r := (RX10, TX10, 2)) rfl (by decide) rfl
theorem ff_1 : e_fd [8] 1 "ReasonCloser$Function" "takes" "I" true := e_fd1 (r := (RX10, TX10, 2)) rfl (by decide) rfl
theorem tf2_0 : e_fd [9] 0 "ReasonCloser$Term" "name" "J" true := e_fd1 (r := (RX11, TX11, 4)) rfl (by decide) rfl
theorem tf2_1 : e_fd [9] 1 "ReasonCloser$Term" "of" "LReasonCloser$Function;" true := e_fd1 (r := (RX11, TX11, 4)) rfl (by decide) rfl
theorem tf2_2 : e_fd [9] 2 "ReasonCloser$Term" "function" "I" true := e_fd1 (r := (RX11, TX11, 4)) rfl (by decide) rfl
theorem tf2_3 : e_fd [9] 3 "ReasonCloser$Term" "parts" "[I" true := e_fd1 (r := (RX11, TX11, 4)) rfl (by decide) rfl
theorem sf_0 : e_fd [10] 0 "ReasonCloser$Fact" "first" "I" true := e_fd1 (r := (RX12, TX12, 2)) rfl (by decide) rfl
theorem sf_1 : e_fd [10] 1 "ReasonCloser$Fact" "second" "I" true := e_fd1 (r := (RX12, TX12, 2)) rfl (by decide) rfl
theorem rf_0 : e_fd [6] 0 "ReasonCloser$Reader" "size" "I" true := e_fd1 (r := (RX8, TX8, 8)) rfl (by decide) rfl
theorem rf_1 : e_fd [6] 1 "ReasonCloser$Reader" "told" "LReasonCloser$Book;" true := e_fd1 (r := (RX8, TX8, 8)) rfl (by decide) rfl
theorem rf_2 : e_fd [6] 2 "ReasonCloser$Reader" "to" "I" false := e_fd1 (r := (RX8, TX8, 8)) rfl (by decide) rfl
theorem rf_3 : e_fd [6] 3 "ReasonCloser$Reader" "from" "I" false := e_fd1 (r := (RX8, TX8, 8)) rfl (by decide) rfl
theorem rf_4 : e_fd [6] 4 "ReasonCloser$Reader" "sort" "I" false := e_fd1 (r := (RX8, TX8, 8)) rfl (by decide) rfl
theorem rf_5 : e_fd [6] 5 "ReasonCloser$Reader" "value" "I" false := e_fd1 (r := (RX8, TX8, 8)) rfl (by decide) rfl
theorem rf_6 : e_fd [6] 6 "ReasonCloser$Reader" "word" "J" false := e_fd1 (r := (RX8, TX8, 8)) rfl (by decide) rfl
theorem rf_7 : e_fd [6] 7 "ReasonCloser$Reader" "this$0" "LReasonCloser;" true := e_fd1 (r := (RX8, TX8, 8)) rfl (by decide) rfl
theorem vf_0 : e_fd [7] 0 "java/lang/Throwable" "cause" "Ljava/lang/Throwable;" false := e_fd1 (r := (RX9, TX9, 8)) rfl (by decide) rfl
theorem vf_1 : e_fd [7] 1 "java/lang/Throwable" "stackTrace" "[Ljava/lang/StackTraceElement;" false := e_fd1 (r := (RX9, TX9, 8)) rfl (by decide) rfl
theorem vf_2 : e_fd [7] 2 "java/lang/Throwable" "suppressedExceptions" "Ljava/util/List;" false := e_fd1 (r := (RX9, TX9, 8)) rfl (by decide) rfl
theorem vf_3 : e_fd [7] 3 "java/lang/Throwable" "detailMessage" "Ljava/lang/String;" false := e_fd1 (r := (RX9, TX9, 8)) rfl (by decide) rfl
theorem vf_4 : e_fd [7] 4 "java/lang/Throwable" "backtrace" "Ljava/lang/Object;" false := e_fd1 (r := (RX9, TX9, 8)) rfl (by decide) rfl
theorem vf_5 : e_fd [7] 5 "java/lang/Throwable" "depth" "I" false := e_fd1 (r := (RX9, TX9, 8)) rfl (by decide) rfl
theorem vf_6 : e_fd [7] 6 "ReasonCloser$Fault" "kind" "I" true := e_fd1 (r := (RX9, TX9, 8)) rfl (by decide) rfl
theorem vf_7 : e_fd [7] 7 "ReasonCloser$Fault" "place" "I" true := e_fd1 (r := (RX9, TX9, 8)) rfl (by decide) rfl
theorem yf_0 : e_fd [3, 4, 5] 0 "ReasonCloser$Groups" "lead" "[I" true := fun ci hc => by
  simp only [List.mem_cons, List.not_mem_nil, or_false] at hc
  rcases hc with rfl | rfl | rfl
  · exact ⟨_, rfl, by decide, rfl⟩
  · exact ⟨_, rfl, by decide, rfl⟩
  · exact ⟨_, rfl, by decide, rfl⟩
theorem yf_1 : e_fd [3, 4, 5] 1 "ReasonCloser$Groups" "many" "I" false := fun ci hc => by
  simp only [List.mem_cons, List.not_mem_nil, or_false] at hc
  rcases hc with rfl | rfl | rfl
  · exact ⟨_, rfl, by decide, rfl⟩
  · exact ⟨_, rfl, by decide, rfl⟩
  · exact ⟨_, rfl, by decide, rfl⟩
theorem yf_2 : e_fd [3, 4, 5] 2 "ReasonCloser$Groups" "trail" "[I" false := fun ci hc => by
  simp only [List.mem_cons, List.not_mem_nil, or_false] at hc
  rcases hc with rfl | rfl | rfl
  · exact ⟨_, rfl, by decide, rfl⟩
  · exact ⟨_, rfl, by decide, rfl⟩
  · exact ⟨_, rfl, by decide, rfl⟩
theorem yf_3 : e_fd [3, 4, 5] 3 "ReasonCloser$Groups" "trailed" "I" false := fun ci hc => by
  simp only [List.mem_cons, List.not_mem_nil, or_false] at hc
  rcases hc with rfl | rfl | rfl
  · exact ⟨_, rfl, by decide, rfl⟩
  · exact ⟨_, rfl, by decide, rfl⟩
  · exact ⟨_, rfl, by decide, rfl⟩
theorem yf_4 : e_fd [4, 5] 4 "ReasonCloser$Closed" "terms" "Ljava/util/List;" true := fun ci hc => by
  simp only [List.mem_cons, List.not_mem_nil, or_false] at hc
  rcases hc with rfl | rfl
  · exact ⟨_, rfl, by decide, rfl⟩
  · exact ⟨_, rfl, by decide, rfl⟩
theorem yf_5 : e_fd [5] 5 "ReasonCloser$Forest" "up" "[I" true := e_fd1 (r := (RX6, TX6, 14)) rfl (by decide) rfl
theorem yf_6 : e_fd [5] 6 "ReasonCloser$Forest" "by" "[I" true := e_fd1 (r := (RX6, TX6, 14)) rfl (by decide) rfl
theorem yf_7 : e_fd [5] 7 "ReasonCloser$Forest" "first" "[I" true := e_fd1 (r := (RX6, TX6, 14)) rfl (by decide) rfl
theorem yf_8 : e_fd [5] 8 "ReasonCloser$Forest" "second" "[I" true := e_fd1 (r := (RX6, TX6, 14)) rfl (by decide) rfl
theorem yf_9 : e_fd [5] 9 "ReasonCloser$Forest" "cause" "[I" true := e_fd1 (r := (RX6, TX6, 14)) rfl (by decide) rfl
theorem yf_10 : e_fd [5] 10 "ReasonCloser$Forest" "joinMany" "I" false := e_fd1 (r := (RX6, TX6, 14)) rfl (by decide) rfl
theorem yf_11 : e_fd [5] 11 "ReasonCloser$Reasons" "isAbove" "[Z" true := e_fd1 (r := (RX6, TX6, 14)) rfl (by decide) rfl
theorem yf_12 : e_fd [5] 12 "ReasonCloser$Reasons" "isDone" "[Z" true := e_fd1 (r := (RX6, TX6, 14)) rfl (by decide) rfl
theorem yf_13 : e_fd [5] 13 "ReasonCloser$Reasons" "set" "I" false := e_fd1 (r := (RX6, TX6, 14)) rfl (by decide) rfl
theorem scl_G {j : Nat} : scl j ∈ [3, 4, 5] := by
  unfold scl
  split
  · exact lm0
  · split
    · exact lm1
    · exact lm2
theorem scl_P {j : Nat} (h : j = 2 ∨ j = 3) : scl j ∈ [4, 5] := by
  rcases h with rfl | rfl <;> exact lm0
theorem scl_N : scl 4 ∈ [4, 5] := lm1
theorem scl_N5 : scl 4 ∈ [5] := lm0
abbrev xs (s : XS) (k : Nat) (v : Int) : XS := (ms s.1 k v, s.2)
abbrev xa (s : XS) (k : Nat) (x v : Int) : XS := (ma s.1 k x v, s.2)
abbrev ys (s : XS) (j k : Nat) (v : Int) : XS := (s.1, fun i => if i = j then ms (s.2 j) k v else s.2 i)
abbrev ya (s : XS) (j k : Nat) (x v : Int) : XS := (s.1, fun i => if i = j then ma (s.2 j) k x v else s.2 i)
theorem ms_1 {r : MS} {k : Nat} {v : Int} : (ms r k v).1 k = v := if_pos rfl
theorem ms_n {r : MS} {k k' : Nat} {v : Int} (h : k' ≠ k) : (ms r k v).1 k' = r.1 k' := if_neg h
theorem ma_1 {r : MS} {k : Nat} {x v : Int} : (ma r k x v).2 k = iup (r.2 k) x v := if_pos rfl
theorem ma_n {r : MS} {k k' : Nat} {x v : Int} (h : k' ≠ k) : (ma r k x v).2 k' = r.2 k' := if_neg h
theorem bC_cong {V : XV} {r r' : MS} (h1 : ∀ k, 30 ≤ k → r'.1 k = r.1 k) (h2 : ∀ k, 30 ≤ k → r'.2 k = r.2 k) : bC V r' = bC V r := by
  have e1 : ∀ j q, xec V r' j q = xec V r j q := by
    intro j q
    unfold xec xel
    rw [h1 (50 + j) (by omega), h1 (30 + j) (by omega), h2 44 (by omega)]
  have e2 : ∀ j, xL V r' j = xL V r j := by
    intro j
    unfold xL
    rw [h1 (50 + j) (by omega), h1 (30 + j) (by omega), h1 (70 + j) (by omega)]
  have e3 : ∀ k, xfF r' k = xfF r k := by
    intro k; unfold xfF; rw [h2 30 (by omega), h2 31 (by omega)]
  have e4 : ∀ k, xfT V r' k = xfT V r k := by
    intro k; unfold xfT; rw [h2 32 (by omega), h2 33 (by omega)]
  have e5 : ∀ k, xfS r' k = xfS r k := by
    intro k; unfold xfS; rw [h2 40 (by omega), h2 41 (by omega)]
  have e6 : ∀ k, xfD r' k = xfD r k := by
    intro k; unfold xfD; rw [h2 42 (by omega), h2 43 (by omega)]
  funext reg k
  unfold bC
  simp only [e1, e2, e3, e4, e5, e6, h1 40 (by omega), h1 41 (by omega), h1 42 (by omega), h1 43 (by omega), h1 50 (by omega), h1 51 (by omega), h1 52 (by omega), h1 53 (by omega), h1 54 (by omega), h1 60 (by omega), h1 61 (by omega), h1 62 (by omega), h1 63 (by omega), h1 64 (by omega), h2 34 (by omega), h2 (100 + k) (by omega)]
theorem bC_ms {V : XV} {r : MS} {k : Nat} {v : Int} (hk : k < 30) : bC V (ms r k v) = bC V r := bC_cong (fun k' h => ms_n (by omega)) (fun _ _ => rfl)
theorem bC_ma {V : XV} {r : MS} {k : Nat} {x v : Int} (hk : k < 30) : bC V (ma r k x v) = bC V r := bC_cong (fun _ _ => rfl) (fun k' h => ma_n (by omega))
def xki : Nat → Bool
  | 0 => true
  | 1 => true
  | 3 => true
  | 4 => true
  | 12 => true
  | _ => false
theorem xki_or {k : Nat} (h : xki k = true) : k = 0 ∨ k = 1 ∨ k = 3 ∨ k = 4 ∨ k = 12 := by
  unfold xki at h
  split at h <;> first | omega | cases h
theorem xF_ms {V : XV} {r : MS} {k : Nat} {v : Int} (hk : xki k = true) : fup (xF V r) k (aI v) = xF V (ms r k v) := by
  funext i
  unfold fup
  split
  · next e =>
    subst e
    rcases xki_or hk with rfl | rfl | rfl | rfl | rfl <;> rfl
  · next e =>
    unfold xF
    split <;> first | rfl | (rw [ms_n e])
theorem xCx_ms {V : XV} {r : MS} {k k' : Nat} {v : Int} (h : k' ≠ 99) : xCx V (ms r k v) k' = xCx V r k' := by
  unfold xCx
  split <;> first | rfl | exact absurd rfl h
theorem xCx_ma {V : XV} {r : MS} {k k' : Nat} {x v : Int} (h : k' ≠ k) : xCx V (ma r k x v) k' = xCx V r k' := by
  unfold xCx
  split <;> first | rfl | rw [ma_n h]
def yki : Nat → Bool
  | 1 => true
  | 3 => true
  | 10 => true
  | 13 => true
  | _ => false
theorem yki_or {k : Nat} (h : yki k = true) : k = 1 ∨ k = 3 ∨ k = 10 ∨ k = 13 := by
  unfold yki at h
  split at h <;> first | omega | cases h
theorem sC_ms {V : XV} {r : MS} {j k k' : Nat} {v : Int} (h : k' ≠ 99) : sC V (ms r k v) j k' = sC V r j k' := by
  unfold sC
  split <;> first | rfl | exact absurd rfl h
theorem sC_ma {V : XV} {r : MS} {j k k' : Nat} {x v : Int} (h : k' ≠ k) : sC V (ma r k x v) j k' = sC V r j k' := by
  unfold sC
  split <;> first | rfl | rw [ma_n h]
theorem tC_ms {r : MS} {j k q : Nat} {v : Int} (h : k ≠ 20) : tC (ms r k v) j q = tC r j q := by
  unfold tC
  rw [ms_n (Ne.symm h)]
  rfl
theorem tC_ma {r : MS} {j k q : Nat} {x v : Int} (h : 100 + q ≠ k) : tC (ma r k x v) j q = tC r j q := by
  unfold tC
  rw [ma_n h]
  rfl

section XW
variable {M : EM} {d kc ks : Nat} {Q : AO → AH → Prop} {pc idx j k : Nat} {lv : List (Nat × AV)} {st rest : List AV} {V : XV} {s : XS} {g : AH} {o n ds : String} {fin : Bool} {v : AV} {x y : Int} {cs : List Nat}
theorem xh_x : xh V s g xT = some (kO 0 (xF V s.1)) := xh_of xC_x
theorem xh_y (hj : j < 5) : xh V s g (sI V j 99) = some (kO (scl j) (sF V (s.2 j) j)) := xh_of (xC_s hj)
theorem xw_get (hd : decode M.2.1 pc = .ok (.getfield idx, 3)) (hl : e_fl M.1.cls idx o n ds) (hf : e_fd [0] k o n ds fin) (hk : xF V s.1 k = v) (kk : EW M d kc ks Q (pc + 3) lv (v :: st) (xh V s g)) : EW M d kc ks Q pc lv (aR (some xT) :: st) (xh V s g) :=
  ew_get hd hl hf xh_x lm0 (by rw [hk]; exact kk)
theorem xw_put (hd : decode M.2.1 pc = .ok (.putfield idx, 3)) (hl : e_fl M.1.cls idx o n ds) (hf : e_fd [0] k o n ds false) (hk : xki k = true) (hty : parseFieldDescriptor ds = some .int) (kk : ∀ s1, s1 = xs s k x → EW M d kc ks Q (pc + 3) lv st (xh V s1 g)) : EW M d kc ks Q pc lv (aI x :: aR (some xT) :: st) (xh V s g) := by
  refine ew_put hd hl hf xh_x lm0 hty trivial ?_
  rw [xF_ms hk, xh_upx (r := ms s.1 k x) rfl (fun k' h => xCx_ms h) (bC_ms (by rcases xki_or hk with rfl | rfl | rfl | rfl | rfl <;> decide))]
  exact kk _ rfl
theorem xw_iald {N : Nat} (hd : decode M.2.1 pc = .ok (.iaload, 1)) (hc : xCx V s.1 k = some (kI 0 N (s.1.2 k))) (h0 : 0 ≤ x) (h1 : x < N) (kk : EW M d kc ks Q (pc + 1) lv (aI (s.1.2 k x) :: st) (xh V s g)) : EW M d kc ks Q pc lv (aI x :: aR (some (0, 2, k)) :: st) (xh V s g) :=
  ew_iald hd (xh_of (xC_x.trans hc)) h0 h1 kk
theorem xw_lald {N : Nat} (hd : decode M.2.1 pc = .ok (.laload, 1)) (hc : xCx V s.1 k = some (kL N (s.1.2 k))) (h0 : 0 ≤ x) (h1 : x < N) (kk : EW M d kc ks Q (pc + 1) lv (aL (s.1.2 k x) :: st) (xh V s g)) : EW M d kc ks Q pc lv (aI x :: aR (some (0, 2, k)) :: st) (xh V s g) :=
  ew_lald hd (xh_of (xC_x.trans hc)) h0 h1 kk
theorem xw_bald {N t : Nat} (hd : decode M.2.1 pc = .ok (.baload, 1)) (hc : xCx V s.1 k = some (kI t N (s.1.2 k))) (ht : t = 1 ∨ t = 2) (h0 : 0 ≤ x) (h1 : x < N) (kk : EW M d kc ks Q (pc + 1) lv (aI (s.1.2 k x) :: st) (xh V s g)) : EW M d kc ks Q pc lv (aI x :: aR (some (0, 2, k)) :: st) (xh V s g) :=
  ew_bald hd (xh_of (xC_x.trans hc)) ht h0 h1 kk
theorem xw_iast {N : Nat} (hd : decode M.2.1 pc = .ok (.iastore, 1)) (hk : k < 30) (hc : xCx V s.1 k = some (kI 0 N (s.1.2 k))) (hc2 : xCx V (ma s.1 k x y) k = some (kI 0 N ((ma s.1 k x y).2 k))) (h0 : 0 ≤ x) (h1 : x < N) (kk : ∀ s1, s1 = xa s k x y → EW M d kc ks Q (pc + 1) lv st (xh V s1 g)) : EW M d kc ks Q pc lv (aI y :: aI x :: aR (some (0, 2, k)) :: st) (xh V s g) := by
  refine ew_iast hd (xh_of (xC_x.trans hc)) h0 h1 ?_
  rw [xh_upx (r := ma s.1 k x y) (by rw [hc2, ma_1]) (fun k' h => xCx_ma h) (bC_ma hk)]
  exact kk _ rfl
theorem xw_last {N : Nat} (hd : decode M.2.1 pc = .ok (.lastore, 1)) (hk : k < 30) (hc : xCx V s.1 k = some (kL N (s.1.2 k))) (hc2 : xCx V (ma s.1 k x y) k = some (kL N ((ma s.1 k x y).2 k))) (h0 : 0 ≤ x) (h1 : x < N) (kk : ∀ s1, s1 = xa s k x y → EW M d kc ks Q (pc + 1) lv st (xh V s1 g)) : EW M d kc ks Q pc lv (aL y :: aI x :: aR (some (0, 2, k)) :: st) (xh V s g) := by
  refine ew_last hd (xh_of (xC_x.trans hc)) h0 h1 ?_
  rw [xh_upx (r := ma s.1 k x y) (by rw [hc2, ma_1]) (fun k' h => xCx_ma h) (bC_ma hk)]
  exact kk _ rfl
theorem xw_bast {N t : Nat} (hd : decode M.2.1 pc = .ok (.bastore, 1)) (hk : k < 30) (hc : xCx V s.1 k = some (kI t N (s.1.2 k))) (hc2 : xCx V (ma s.1 k x y) k = some (kI t N ((ma s.1 k x y).2 k))) (ht : (t = 1 ∧ (y = 0 ∨ y = 1)) ∨ (t = 2 ∧ (Int32.ofInt y).toInt8.toInt32 = Int32.ofInt y)) (h0 : 0 ≤ x) (h1 : x < N) (kk : ∀ s1, s1 = xa s k x y → EW M d kc ks Q (pc + 1) lv st (xh V s1 g)) : EW M d kc ks Q pc lv (aI y :: aI x :: aR (some (0, 2, k)) :: st) (xh V s g) := by
  refine ew_bast hd (xh_of (xC_x.trans hc)) ht h0 h1 ?_
  rw [xh_upx (r := ma s.1 k x y) (by rw [hc2, ma_1]) (fun k' h => xCx_ma h) (bC_ma hk)]
  exact kk _ rfl
theorem xw_book (hd : decode M.2.1 pc = .ok (.getfield idx, 3)) (hl : e_fl M.1.cls idx o n ds) (hf : e_fd [2] k o n ds fin) (kk : EW M d kc ks Q (pc + 3) lv (aR (some (bI V 2 k)) :: st) (xh V s g)) : EW M d kc ks Q pc lv (aR (some (bI V 1 0)) :: st) (xh V s g) :=
  ew_get hd hl hf (xh_of (xC_b (by omega))) lm0 kk
/-! sheets -/
theorem yw_get (hd : decode M.2.1 pc = .ok (.getfield idx, 3)) (hj : j < 5) (hl : e_fl M.1.cls idx o n ds) (hf : e_fd cs k o n ds fin) (hc : scl j ∈ cs) (hk : sF V (s.2 j) j k = v) (kk : EW M d kc ks Q (pc + 3) lv (v :: st) (xh V s g)) : EW M d kc ks Q pc lv (aR (some (sI V j 99)) :: st) (xh V s g) :=
  ew_get hd hl hf (xh_y hj) hc (by rw [hk]; exact kk)
theorem sF_ms {r : MS} (hk : yki k = true) : fup (sF V r j) k (aI x) = sF V (ms r k x) j := by
  funext i
  unfold fup
  split
  · next e =>
    subst e
    rcases yki_or hk with rfl | rfl | rfl | rfl <;> rfl
  · next e =>
    have h20 : (ms r k x).1 20 = r.1 20 := ms_n (by rcases yki_or hk with rfl | rfl | rfl | rfl <;> decide)
    unfold sF
    split <;> first | rfl | rw [ms_n e] | rw [h20]
theorem yw_put (hd : decode M.2.1 pc = .ok (.putfield idx, 3)) (hj : j < 5) (hl : e_fl M.1.cls idx o n ds) (hf : e_fd cs k o n ds false) (hc : scl j ∈ cs) (hk : yki k = true) (hty : parseFieldDescriptor ds = some .int) (kk : ∀ s1, s1 = ys s j k x → EW M d kc ks Q (pc + 3) lv st (xh V s1 g)) : EW M d kc ks Q pc lv (aI x :: aR (some (sI V j 99)) :: st) (xh V s g) := by
  refine ew_put hd hl hf (xh_y hj) hc hty trivial ?_
  rw [sF_ms hk, xh_ups (r := ms (s.2 j) k x) hj rfl (fun k' h => sC_ms h) (fun k' => tC_ms (by rcases yki_or hk with rfl | rfl | rfl | rfl <;> decide))]
  exact kk _ rfl
theorem yw_iald {N : Nat} (hd : decode M.2.1 pc = .ok (.iaload, 1)) (hj : j < 5) (hc : sC V (s.2 j) j k = some (kI 0 N ((s.2 j).2 k))) (h0 : 0 ≤ x) (h1 : x < N) (kk : EW M d kc ks Q (pc + 1) lv (aI ((s.2 j).2 k x) :: st) (xh V s g)) : EW M d kc ks Q pc lv (aI x :: aR (some (sI V j k)) :: st) (xh V s g) :=
  ew_iald hd (xh_of ((xC_s hj).trans hc)) h0 h1 kk
theorem yw_bald {N : Nat} (hd : decode M.2.1 pc = .ok (.baload, 1)) (hj : j < 5) (hc : sC V (s.2 j) j k = some (kI 1 N ((s.2 j).2 k))) (h0 : 0 ≤ x) (h1 : x < N) (kk : EW M d kc ks Q (pc + 1) lv (aI ((s.2 j).2 k x) :: st) (xh V s g)) : EW M d kc ks Q pc lv (aI x :: aR (some (sI V j k)) :: st) (xh V s g) :=
  ew_bald hd (xh_of ((xC_s hj).trans hc)) (Or.inl rfl) h0 h1 kk
theorem yw_iast {N : Nat} (hd : decode M.2.1 pc = .ok (.iastore, 1)) (hj : j < 5) (hk : k < 100) (hc : sC V (s.2 j) j k = some (kI 0 N ((s.2 j).2 k))) (hc2 : sC V (ma (s.2 j) k x y) j k = some (kI 0 N ((ma (s.2 j) k x y).2 k))) (h0 : 0 ≤ x) (h1 : x < N) (kk : ∀ s1, s1 = ya s j k x y → EW M d kc ks Q (pc + 1) lv st (xh V s1 g)) : EW M d kc ks Q pc lv (aI y :: aI x :: aR (some (sI V j k)) :: st) (xh V s g) := by
  refine ew_iast hd (xh_of ((xC_s hj).trans hc)) h0 h1 ?_
  rw [xh_ups (r := ma (s.2 j) k x y) hj (by rw [hc2, ma_1]) (fun k' h => sC_ma h) (fun k' => tC_ma (by omega))]
  exact kk _ rfl
theorem yw_bast {N : Nat} (hd : decode M.2.1 pc = .ok (.bastore, 1)) (hj : j < 5) (hk : k < 100) (hc : sC V (s.2 j) j k = some (kI 1 N ((s.2 j).2 k))) (hc2 : sC V (ma (s.2 j) k x y) j k = some (kI 1 N ((ma (s.2 j) k x y).2 k))) (hy : y = 0 ∨ y = 1) (h0 : 0 ≤ x) (h1 : x < N) (kk : ∀ s1, s1 = ya s j k x y → EW M d kc ks Q (pc + 1) lv st (xh V s1 g)) : EW M d kc ks Q pc lv (aI y :: aI x :: aR (some (sI V j k)) :: st) (xh V s g) := by
  refine ew_bast hd (xh_of ((xC_s hj).trans hc)) (Or.inl ⟨rfl, hy⟩) h0 h1 ?_
  rw [xh_ups (r := ma (s.2 j) k x y) hj (by rw [hc2, ma_1]) (fun k' h => sC_ma h) (fun k' => tC_ma (by omega))]
  exact kk _ rfl
/-! the trail of sheet 4 -/
def xq (s : XS) : Nat := ((s.2 4).1 20).toNat
theorem xh_t : xh V s g (tI V 4 (xq s)) = some (kI 0 (xtl (xq s)) ((s.2 4).2 (100 + xq s))) := xh_of ((xC_t (by omega)).trans (by unfold tC xq; rw [if_pos rfl, if_pos (Nat.le_refl _)]))
theorem xh_t0 (hj : j < 4) : xh V s g (tI V j ((s.2 j).1 20).toNat) = some (kI 0 0 (fun _ => 0)) := xh_of ((xC_t (by omega)).trans (by unfold tC; rw [if_neg (by omega), if_pos rfl]))
theorem tw_alen (hd : decode M.2.1 pc = .ok (.arraylength, 1)) (h1 : (xtl (xq s) : Int) < 2147483648) (kk : EW M d kc ks Q (pc + 1) lv (aI (xtl (xq s)) :: st) (xh V s g)) : EW M d kc ks Q pc lv (aR (some (tI V 4 (xq s))) :: st) (xh V s g) :=
  ew_alen hd xh_t (Or.inl ⟨_, _, rfl⟩) h1 kk
theorem tw_alen0 (hd : decode M.2.1 pc = .ok (.arraylength, 1)) (hj : j < 4) (kk : EW M d kc ks Q (pc + 1) lv (aI 0 :: st) (xh V s g)) : EW M d kc ks Q pc lv (aR (some (tI V j ((s.2 j).1 20).toNat)) :: st) (xh V s g) :=
  ew_alen (n := 0) hd (xh_t0 hj) (Or.inl ⟨_, _, rfl⟩) (by decide) kk
theorem tw_iald (hd : decode M.2.1 pc = .ok (.iaload, 1)) (h0 : 0 ≤ x) (h1 : x < (xtl (xq s) : Int)) (kk : EW M d kc ks Q (pc + 1) lv (aI ((s.2 4).2 (100 + xq s) x) :: st) (xh V s g)) : EW M d kc ks Q pc lv (aI x :: aR (some (tI V 4 (xq s))) :: st) (xh V s g) :=
  ew_iald hd xh_t h0 h1 kk
theorem tw_iast (hd : decode M.2.1 pc = .ok (.iastore, 1)) (h0 : 0 ≤ x) (h1 : x < (xtl (xq s) : Int)) (kk : ∀ s1, s1 = ya s 4 (100 + xq s) x y → EW M d kc ks Q (pc + 1) lv st (xh V s1 g)) : EW M d kc ks Q pc lv (aI y :: aI x :: aR (some (tI V 4 (xq s))) :: st) (xh V s g) := by
  refine ew_iast hd xh_t h0 h1 ?_
  rw [xh_upt (r := ma (s.2 4) (100 + xq s) x y) (by omega) ((if_pos rfl).trans ((if_pos (Nat.le_refl (xq s))).trans (by rw [ma_1]))) (fun k' h => tC_ma (by omega)) (fun k' => ?_)]
  · exact kk _ rfl
  · unfold sC
    split <;> first | rfl | (rw [ma_n (by omega)])
/-! lists -/
def xok (s : XS) (j : Nat) : Prop := s.1.1 (30 + j) ≤ (xcap j (s.1.1 (50 + j)).toNat : Int) ∧ (s.1.1 (60 + j)).toNat ≤ (s.1.1 (50 + j)).toNat ∧ xcap j (s.1.1 (50 + j)).toNat ≤ 5000
theorem xh_l (hj : j < 5) : xh V s g (bI V 2 j) = some (kO 11 (al (bI V (3 + j) (s.1.1 (50 + j)).toNat) (s.1.1 (30 + j)) (s.1.1 (70 + j)))) := xh_of ((xC_b (by omega)).trans (by unfold bC; rw [if_pos hj]; rfl))
theorem xh_e (hj : j < 5) (h : xok s j) : xh V s g (bI V (3 + j) (s.1.1 (50 + j)).toNat) = some (kQ 0 (xcap j (s.1.1 (50 + j)).toNat) (xec V s.1 j (s.1.1 (50 + j)).toNat)) := by
  refine xh_of ((xC_b (by omega)).trans ?_)
  have h2 := h.2.1
  rcases (show j = 0 ∨ j = 1 ∨ j = 2 ∨ j = 3 ∨ j = 4 by omega) with rfl | rfl | rfl | rfl | rfl <;> exact if_pos ⟨h2, Nat.le_refl _⟩
theorem xec_in (h0 : 0 ≤ x) (h1 : x < s.1.1 (30 + j)) : xec V s.1 j (s.1.1 (50 + j)).toNat x = some (xel V s.1 j x) := by
  unfold xec
  rw [if_pos ⟨h0, by rw [if_pos rfl]; exact h1⟩]

theorem lw_size {cnt : Nat} (hd : decode M.2.1 pc = .ok (.invokeinterface idx cnt, 5)) (hj : j < 5) (w1 : Cond.methodLink M.1.cls idx ⟨"java/util/List", "size", "()I"⟩ ∈ lw_all) (h8 : (rest.map fun v => if e_is2 v then 2 else 1).sum ≤ 8) (kk : EW M (d + 1) kc ks Q (pc + 5) lv (aI (s.1.1 (30 + j)) :: rest) (xh V s g)) : EW M (d + 1) kc ks Q pc lv (aR (some (bI V 2 j)) :: rest) (xh V s g) := by
  refine ew_callF (x := ⟨"java/util/List", "size", "()I"⟩) (as := []) (ci := 11) rfl hd me_J2_size rfl rfl (xh_l hj) rfl w1 q668 q670 lm0 h8 (Nat.zero_le _) (Nat.zero_le _) (A_size (xh_l hj)) (fun o h' hq _ => ?_) (fun E i h' q _ => by cases q.1)
  obtain ⟨E1, rfl⟩ := hq
  cases E1
  exact kk
theorem lw_get {cnt : Nat} (hd : decode M.2.1 pc = .ok (.invokeinterface idx cnt, 5)) (hj : j < 5) (w1 : Cond.methodLink M.1.cls idx ⟨"java/util/List", "get", "(I)Ljava/lang/Object;"⟩ ∈ lw_all) (h8 : (rest.map fun v => if e_is2 v then 2 else 1).sum ≤ 8) (h0 : 0 ≤ x ∧ x < s.1.1 (30 + j)) (h2 : xok s j) (kk : EW M (d + 3) kc ks Q (pc + 5) lv (aR (some (xel V s.1 j x)) :: rest) (xh V s g)) : EW M (d + 3) kc ks Q pc lv (aI x :: aR (some (bI V 2 j)) :: rest) (xh V s g) := by
  refine ew_callF (x := ⟨"java/util/List", "get", "(I)Ljava/lang/Object;"⟩) (d := d + 2) (as := [aI x]) (ci := 11) rfl hd me_J2_get rfl rfl (xh_l hj) rfl w1 q691 q693 lm1 h8 (Nat.zero_le _) (Nat.zero_le _) (A_get (d := d) (xh_l hj) (xh_e hj h2) h0.1 h0.2 h2.1) (fun o h' hq _ => ?_) (fun E i h' q _ => by cases q.1)
  obtain ⟨E1, rfl⟩ := hq
  cases E1
  rw [xec_in h0.1 h0.2]
  exact kk
/-! elements -/
theorem xh_f {f : Int} (h0 : 0 ≤ f ∧ f < s.1.1 40) : xh V s g (bI V 10 f.toNat) = some (kO 8 (xfF s.1 f.toNat)) := xh_of ((xC_b (by omega)).trans (if_pos (by omega)))
theorem xh_m {f : Int} (h0 : 0 ≤ f ∧ f < s.1.1 41) : xh V s g (bI V 11 f.toNat) = some (kO 9 (xfT V s.1 f.toNat)) := xh_of ((xC_b (by omega)).trans (if_pos (by omega)))
theorem xh_sm {f : Int} (h0 : 0 ≤ f ∧ f < s.1.1 42) : xh V s g (bI V 12 f.toNat) = some (kO 10 (xfS s.1 f.toNat)) := xh_of ((xC_b (by omega)).trans (if_pos (by omega)))
theorem xh_df {f : Int} (h0 : 0 ≤ f ∧ f < s.1.1 43) : xh V s g (bI V 13 f.toNat) = some (kO 10 (xfD s.1 f.toNat)) := xh_of ((xC_b (by omega)).trans (if_pos (by omega)))
theorem xh_p {f : Int} (h0 : 0 ≤ f ∧ f < s.1.1 41) : xh V s g (bI V 14 f.toNat) = some (kI 0 (s.1.2 34 f).toNat (s.1.2 (100 + f.toNat))) := xh_of ((xC_b (by omega)).trans (by
  have e : bC V s.1 14 f.toNat = some (kI 0 (s.1.2 34 ((f.toNat : Nat) : Int)).toNat (s.1.2 (100 + f.toNat))) := if_pos (by omega)
  rw [e, e_nat h0.1]))
theorem pw_alen {f : Int} (hd : decode M.2.1 pc = .ok (.arraylength, 1)) (h0 : 0 ≤ f ∧ f < s.1.1 41) (h1 : 0 ≤ s.1.2 34 f ∧ s.1.2 34 f < 2147483648) (kk : EW M d kc ks Q (pc + 1) lv (aI (s.1.2 34 f) :: st) (xh V s g)) : EW M d kc ks Q pc lv (aR (some (bI V 14 f.toNat)) :: st) (xh V s g) := by
  refine ew_alen hd (xh_p h0) (Or.inl ⟨_, _, rfl⟩) (by omega) ?_
  rw [e_nat h1.1]
  exact kk
theorem pw_iald {f : Int} (hd : decode M.2.1 pc = .ok (.iaload, 1)) (h0 : 0 ≤ f ∧ f < s.1.1 41) (h1 : 0 ≤ x ∧ x < s.1.2 34 f) (kk : EW M d kc ks Q (pc + 1) lv (aI (s.1.2 (100 + f.toNat) x) :: st) (xh V s g)) : EW M d kc ks Q pc lv (aI x :: aR (some (bI V 14 f.toNat)) :: st) (xh V s g) :=
  ew_iald hd (xh_p h0) h1.1 (by omega) kk

theorem gf_0 {f : Int} (hd : decode M.2.1 pc = .ok (.getfield idx, 3)) (hl : e_fl M.1.cls idx o n ds) (hf : e_fd [8] 0 o n ds fin) (h0 : 0 ≤ f ∧ f < s.1.1 40) (kk : EW M d kc ks Q (pc + 3) lv (aL (s.1.2 30 f) :: st) (xh V s g)) : EW M d kc ks Q pc lv (aR (some (bI V 10 f.toNat)) :: st) (xh V s g) := by
  have e := e_nat h0.1
  refine ew_get hd hl hf (xh_f h0) lm0 ?_
  show EW M d kc ks Q (pc + 3) lv (aL (s.1.2 30 ((f.toNat : Nat) : Int)) :: st) (xh V s g)
  rw [e]
  exact kk
theorem gf_1 {f : Int} (hd : decode M.2.1 pc = .ok (.getfield idx, 3)) (hl : e_fl M.1.cls idx o n ds) (hf : e_fd [8] 1 o n ds fin) (h0 : 0 ≤ f ∧ f < s.1.1 40) (kk : EW M d kc ks Q (pc + 3) lv (aI (s.1.2 31 f) :: st) (xh V s g)) : EW M d kc ks Q pc lv (aR (some (bI V 10 f.toNat)) :: st) (xh V s g) := by
  have e := e_nat h0.1
  refine ew_get hd hl hf (xh_f h0) lm0 ?_
  show EW M d kc ks Q (pc + 3) lv (aI (s.1.2 31 ((f.toNat : Nat) : Int)) :: st) (xh V s g)
  rw [e]
  exact kk
theorem cf_cast {f : Int} (hd : decode M.2.1 pc = .ok (.checkcast idx, 3)) (w1 : Cond.classLink M.1.cls idx RX10 ∈ lw_all) (h0 : 0 ≤ f ∧ f < s.1.1 40) (kk : EW M d kc ks Q (pc + 3) lv (aR (some (bI V 10 f.toNat)) :: st) (xh V s g)) : EW M d kc ks Q pc lv (aR (some (bI V 10 f.toNat)) :: st) (xh V s g) :=
  ew_cast hd (r := (RX10, TX10, 2)) rfl w1 (xh_f h0) kk
theorem gm_0 {f : Int} (hd : decode M.2.1 pc = .ok (.getfield idx, 3)) (hl : e_fl M.1.cls idx o n ds) (hf : e_fd [9] 0 o n ds fin) (h0 : 0 ≤ f ∧ f < s.1.1 41) (kk : EW M d kc ks Q (pc + 3) lv (aL (s.1.2 32 f) :: st) (xh V s g)) : EW M d kc ks Q pc lv (aR (some (bI V 11 f.toNat)) :: st) (xh V s g) := by
  have e := e_nat h0.1
  refine ew_get hd hl hf (xh_m h0) lm0 ?_
  show EW M d kc ks Q (pc + 3) lv (aL (s.1.2 32 ((f.toNat : Nat) : Int)) :: st) (xh V s g)
  rw [e]
  exact kk
theorem gm_1 {f : Int} (hd : decode M.2.1 pc = .ok (.getfield idx, 3)) (hl : e_fl M.1.cls idx o n ds) (hf : e_fd [9] 1 o n ds fin) (h0 : 0 ≤ f ∧ f < s.1.1 41) (kk : EW M d kc ks Q (pc + 3) lv (aR (some (bI V 10 (s.1.2 33 f).toNat)) :: st) (xh V s g)) : EW M d kc ks Q pc lv (aR (some (bI V 11 f.toNat)) :: st) (xh V s g) := by
  have e := e_nat h0.1
  refine ew_get hd hl hf (xh_m h0) lm0 ?_
  show EW M d kc ks Q (pc + 3) lv (aR (some (bI V 10 (s.1.2 33 ((f.toNat : Nat) : Int)).toNat)) :: st) (xh V s g)
  rw [e]
  exact kk
theorem gm_2 {f : Int} (hd : decode M.2.1 pc = .ok (.getfield idx, 3)) (hl : e_fl M.1.cls idx o n ds) (hf : e_fd [9] 2 o n ds fin) (h0 : 0 ≤ f ∧ f < s.1.1 41) (kk : EW M d kc ks Q (pc + 3) lv (aI (s.1.2 33 f) :: st) (xh V s g)) : EW M d kc ks Q pc lv (aR (some (bI V 11 f.toNat)) :: st) (xh V s g) := by
  have e := e_nat h0.1
  refine ew_get hd hl hf (xh_m h0) lm0 ?_
  show EW M d kc ks Q (pc + 3) lv (aI (s.1.2 33 ((f.toNat : Nat) : Int)) :: st) (xh V s g)
  rw [e]
  exact kk
theorem gm_3 {f : Int} (hd : decode M.2.1 pc = .ok (.getfield idx, 3)) (hl : e_fl M.1.cls idx o n ds) (hf : e_fd [9] 3 o n ds fin) (h0 : 0 ≤ f ∧ f < s.1.1 41) (kk : EW M d kc ks Q (pc + 3) lv (aR (some (bI V 14 f.toNat)) :: st) (xh V s g)) : EW M d kc ks Q pc lv (aR (some (bI V 11 f.toNat)) :: st) (xh V s g) := by
  have e := e_nat h0.1
  refine ew_get hd hl hf (xh_m h0) lm0 ?_
  show EW M d kc ks Q (pc + 3) lv (aR (some (bI V 14 f.toNat)) :: st) (xh V s g)
  
  exact kk
theorem cm_cast {f : Int} (hd : decode M.2.1 pc = .ok (.checkcast idx, 3)) (w1 : Cond.classLink M.1.cls idx RX11 ∈ lw_all) (h0 : 0 ≤ f ∧ f < s.1.1 41) (kk : EW M d kc ks Q (pc + 3) lv (aR (some (bI V 11 f.toNat)) :: st) (xh V s g)) : EW M d kc ks Q pc lv (aR (some (bI V 11 f.toNat)) :: st) (xh V s g) :=
  ew_cast hd (r := (RX11, TX11, 4)) rfl w1 (xh_m h0) kk
theorem gs_0 {f : Int} (hd : decode M.2.1 pc = .ok (.getfield idx, 3)) (hl : e_fl M.1.cls idx o n ds) (hf : e_fd [10] 0 o n ds fin) (h0 : 0 ≤ f ∧ f < s.1.1 42) (kk : EW M d kc ks Q (pc + 3) lv (aI (s.1.2 40 f) :: st) (xh V s g)) : EW M d kc ks Q pc lv (aR (some (bI V 12 f.toNat)) :: st) (xh V s g) := by
  have e := e_nat h0.1
  refine ew_get hd hl hf (xh_sm h0) lm0 ?_
  show EW M d kc ks Q (pc + 3) lv (aI (s.1.2 40 ((f.toNat : Nat) : Int)) :: st) (xh V s g)
  rw [e]
  exact kk
theorem gs_1 {f : Int} (hd : decode M.2.1 pc = .ok (.getfield idx, 3)) (hl : e_fl M.1.cls idx o n ds) (hf : e_fd [10] 1 o n ds fin) (h0 : 0 ≤ f ∧ f < s.1.1 42) (kk : EW M d kc ks Q (pc + 3) lv (aI (s.1.2 41 f) :: st) (xh V s g)) : EW M d kc ks Q pc lv (aR (some (bI V 12 f.toNat)) :: st) (xh V s g) := by
  have e := e_nat h0.1
  refine ew_get hd hl hf (xh_sm h0) lm0 ?_
  show EW M d kc ks Q (pc + 3) lv (aI (s.1.2 41 ((f.toNat : Nat) : Int)) :: st) (xh V s g)
  rw [e]
  exact kk
theorem cs_cast {f : Int} (hd : decode M.2.1 pc = .ok (.checkcast idx, 3)) (w1 : Cond.classLink M.1.cls idx RX12 ∈ lw_all) (h0 : 0 ≤ f ∧ f < s.1.1 42) (kk : EW M d kc ks Q (pc + 3) lv (aR (some (bI V 12 f.toNat)) :: st) (xh V s g)) : EW M d kc ks Q pc lv (aR (some (bI V 12 f.toNat)) :: st) (xh V s g) :=
  ew_cast hd (r := (RX12, TX12, 2)) rfl w1 (xh_sm h0) kk
theorem gd_0 {f : Int} (hd : decode M.2.1 pc = .ok (.getfield idx, 3)) (hl : e_fl M.1.cls idx o n ds) (hf : e_fd [10] 0 o n ds fin) (h0 : 0 ≤ f ∧ f < s.1.1 43) (kk : EW M d kc ks Q (pc + 3) lv (aI (s.1.2 42 f) :: st) (xh V s g)) : EW M d kc ks Q pc lv (aR (some (bI V 13 f.toNat)) :: st) (xh V s g) := by
  have e := e_nat h0.1
  refine ew_get hd hl hf (xh_df h0) lm0 ?_
  show EW M d kc ks Q (pc + 3) lv (aI (s.1.2 42 ((f.toNat : Nat) : Int)) :: st) (xh V s g)
  rw [e]
  exact kk
theorem gd_1 {f : Int} (hd : decode M.2.1 pc = .ok (.getfield idx, 3)) (hl : e_fl M.1.cls idx o n ds) (hf : e_fd [10] 1 o n ds fin) (h0 : 0 ≤ f ∧ f < s.1.1 43) (kk : EW M d kc ks Q (pc + 3) lv (aI (s.1.2 43 f) :: st) (xh V s g)) : EW M d kc ks Q pc lv (aR (some (bI V 13 f.toNat)) :: st) (xh V s g) := by
  have e := e_nat h0.1
  refine ew_get hd hl hf (xh_df h0) lm0 ?_
  show EW M d kc ks Q (pc + 3) lv (aI (s.1.2 43 ((f.toNat : Nat) : Int)) :: st) (xh V s g)
  rw [e]
  exact kk
theorem cd_cast {f : Int} (hd : decode M.2.1 pc = .ok (.checkcast idx, 3)) (w1 : Cond.classLink M.1.cls idx RX12 ∈ lw_all) (h0 : 0 ≤ f ∧ f < s.1.1 43) (kk : EW M d kc ks Q (pc + 3) lv (aR (some (bI V 13 f.toNat)) :: st) (xh V s g)) : EW M d kc ks Q pc lv (aR (some (bI V 13 f.toNat)) :: st) (xh V s g) :=
  ew_cast hd (r := (RX12, TX12, 2)) rfl w1 (xh_df h0) kk
end XW
