/-! THE BOOK GROWS: constructors, rules (gen/book2.py) -/
set_option maxRecDepth 100000
abbrev mm_X10_init : EM := (yX10_init, cX10_init, 4, (Option.none : Option Jvm.ClassFile.FieldType), [])
theorem me_X10_init : e_mth mm_X10_init 2 := ⟨rfl, q714, q129, by decide +kernel, by decide⟩

abbrev mm_X11_init : EM := (yX11_init, cX11_init, 6, (Option.none : Option Jvm.ClassFile.FieldType), [])
theorem me_X11_init : e_mth mm_X11_init 4 := ⟨rfl, q816, q133, by decide +kernel, by decide⟩

abbrev mm_X11_init_2 : EM := (yX11_init_2, cX11_init_2, 4, (Option.none : Option Jvm.ClassFile.FieldType), [])
theorem me_X11_init_2 : e_mth mm_X11_init_2 3 := ⟨rfl, q1357, q133, by decide +kernel, by decide⟩

section GSN
variable {M : EM} {d kc ks : Nat} {Q : AO → AH → Prop} {pc : Nat} {lv : List (Nat × AV)} {st : List AV} {h : AH}
/-- a nest mate's static -/
theorem ew_getsN {idx : Nat} {o n ds host : String} {v : AV} (hd : decode M.2.1 pc = .ok (.getstatic idx, 3)) (hz : (o, n, ds, v) ∈ e_stats) (w1 : Cond.fieldLinkNest M.1.cls idx o n ds host ∈ lw_tbl) (k : EW M d kc ks Q (pc + 3) lv (v :: st) h) : EW M d kc ks Q pc lv st h := by
  have hv9 : ∀ q ∈ e_stats, (∀ h : AH, e_okv h q.2.2.2) ∧ ∀ ad0 ad : EA, e_X (fun _ => none) ad0 ad → e_v ad q.2.2.2 = e_v ad0 q.2.2.2 := by
    intro q hq
    simp only [List.mem_cons, List.not_mem_nil, or_false] at hq
    rcases hq with rfl | rfl | rfl | rfl
    · exact ⟨fun _ => Or.inr rfl, fun ad0 ad hX => congrArg Value.ref (hX _ (Or.inr rfl))⟩
    · exact ⟨fun _ => (⟨by omega, by omega⟩ : inI 127), fun ad0 ad hX => rfl⟩
    · exact ⟨fun _ => (⟨by omega, by omega⟩ : inI 1), fun ad0 ad hX => rfl⟩
    · exact ⟨fun _ => Or.inr rfl, fun ad0 ad hX => congrArg Value.ref (hX _ (Or.inr rfl))⟩
  refine ew_of (fun lo hs => ok1 ((hv9 _ hz).1 h) hs) (fun D p l e R s m args below meth c Z A H locs cells slots ad0 ad ls G hX hR hS hs hv hl k => ?_) k
  refine va_getsN G.1.1 G.1.2.1 (v := e_v ad v) ?_ hS G.1.2.2.2.2.2.1 (G.2.1.2.1.use w1 rfl) (fun x hx => hx) hd k
  rw [(hv9 _ hz).2 ad0 ad hX]
  exact G.2.2.2.1.2.2.2.1 _ hz
end GSN
/-- a made int array is the answer -/
def rQp (V : XV) (g : AH) (i : EId) (n : Nat) (K : (Int → Int) → MS → Prop) (KX : Int → Int → Prop) : AO → AH → Prop := fun o h => (∃ f r, o = Sum.inl (some (aR (some i))) ∧ h = rh V r (hup g i (kI 0 n f)) ∧ K f r) ∨ rX V g KX o h
theorem rQp_n {V : XV} {g : AH} {i : EId} {n : Nat} {K : (Int → Int) → MS → Prop} {KX : Int → Int → Prop} {o : Option AV} {h : AH} (q : rQp V g i n K KX (Sum.inl o) h) : ∃ f r, (Sum.inl o : AO) = Sum.inl (some (aR (some i))) ∧ h = rh V r (hup g i (kI 0 n f)) ∧ K f r := q.resolve_right fun q => rX_n q
theorem rQp_x {V : XV} {g : AH} {i : EId} {n : Nat} {K : (Int → Int) → MS → Prop} {KX : Int → Int → Prop} {x : String × EId} {h : AH} (q : rQp V g i n K KX (Sum.inr x) h) : rX V g KX (Sum.inr x) h := q.resolve_left fun q => by obtain ⟨f, r, e, -⟩ := q; cases e
theorem A_fun {d : Nat} {h : AH} {i : EId} {fs : Nat → AV} {a b : Int} (hi : h i = some (kO 8 fs)) : Sp mm_X10_init (d + 1) 0 0 [aR (some i), aL a, aI b] h (fun o h' => o = Sum.inl none ∧ h' = hup h i (kO 8 (fup (fup fs 0 (aL a)) 1 (aI b)))) := by
  refine ew_sp rfl (Nat.le_of_ble_eq_true rfl) ?_
  refine ew_aload_n dX10_init_0 rfl lm0 ?_
  refine ew_objInit (d := d) dX10_init_1 q715 q147 q148 (Nat.le_of_ble_eq_true rfl) ?_
  refine ew_aload_n dX10_init_4 rfl lm0 ?_
  refine ew_lload_n dX10_init_5 rfl lm1 ?_
  refine ew_putF dX10_init_6 q716 ff_0 rfl hi lm0 (ty := .long) (by decide +kernel) trivial ?_
  refine ew_aload_n dX10_init_9 rfl lm0 ?_
  refine ew_iload_n dX10_init_10 rfl lm2 ?_
  refine ew_putF dX10_init_11 q718 ff_1 rfl (hup_self _ _ _) lm0 (ty := .int) (by decide +kernel) trivial ?_
  rw [hup_hup]
  exact ew_ret (o := none) rfl ⟨rfl, rfl⟩ ⟨rfl, dX10_init_14⟩
theorem A_term {d : Nat} {h : AH} {i f p : EId} {fs : Nat → AV} {a b : Int} (hi : h i = some (kO 9 fs)) : Sp mm_X11_init (d + 1) 0 0 [aR (some i), aL a, aR (some f), aI b, aR (some p)] h (fun o h' => o = Sum.inl none ∧ h' = hup h i (kO 9 (fup (fup (fup (fup fs 0 (aL a)) 1 (aR (some f))) 2 (aI b)) 3 (aR (some p))))) := by
  refine ew_sp rfl (Nat.le_of_ble_eq_true rfl) ?_
  refine ew_aload_n dX11_init_0 rfl lm0 ?_
  refine ew_objInit (d := d) dX11_init_1 q817 q147 q148 (Nat.le_of_ble_eq_true rfl) ?_
  refine ew_aload_n dX11_init_4 rfl lm0 ?_
  refine ew_lload_n dX11_init_5 rfl lm1 ?_
  refine ew_putF dX11_init_6 q818 tf2_0 rfl hi lm0 (ty := .long) (by decide +kernel) trivial ?_
  refine ew_aload_n dX11_init_9 rfl lm0 ?_
  refine ew_aload_n dX11_init_10 rfl lm2 ?_
  refine ew_putF dX11_init_11 q820 tf2_1 rfl (hup_self _ _ _) lm0 (ty := .object "ReasonCloser$Function") (by decide +kernel) e_fitR ?_
  rw [hup_hup]
  refine ew_aload_n dX11_init_14 rfl lm0 ?_
  refine ew_iload dX11_init_15 lm3 ?_
  refine ew_putF dX11_init_17 q821 tf2_2 rfl (hup_self _ _ _) lm0 (ty := .int) (by decide +kernel) trivial ?_
  rw [hup_hup]
  refine ew_aload_n dX11_init_20 rfl lm0 ?_
  refine ew_aload dX11_init_21 lm4 ?_
  refine ew_putF dX11_init_23 q824 tf2_3 rfl (hup_self _ _ _) lm0 (ty := .array .int) (by decide +kernel) e_fitA ?_
  rw [hup_hup]
  exact ew_ret (o := none) rfl ⟨rfl, rfl⟩ ⟨rfl, dX11_init_26⟩
theorem A_term2 {d : Nat} {h : AH} {i f p : EId} {fs : Nat → AV} {b : Int} (hi : h i = some (kO 9 fs)) : Sp mm_X11_init_2 (d + 2) 0 0 [aR (some i), aR (some f), aI b, aR (some p)] h (fun o h' => o = Sum.inl none ∧ h' = hup h i (kO 9 (fup (fup (fup (fup fs 0 (aL 0)) 1 (aR (some f))) 2 (aI b)) 3 (aR (some p))))) := by
  refine ew_sp rfl (Nat.le_of_ble_eq_true rfl) ?_
  refine ew_aload_n dX11_init_2_0 rfl lm0 ?_
  refine ew_lconst (v := 0) dX11_init_2_1 (inL_of rfl) (by decide) ?_
  refine ew_aload_n dX11_init_2_2 rfl lm1 ?_
  refine ew_iload_n dX11_init_2_3 rfl lm2 ?_
  refine ew_aload_n dX11_init_2_4 rfl lm3 ?_
  refine ew_callI (d := d + 1) (as := [aL 0, aR (some f), aI b, aR (some p)]) rfl dX11_init_2_5 me_X11_init rfl rfl rfl (Or.inl q1358) q815 (Nat.le_of_ble_eq_true rfl) (Nat.zero_le _) (Nat.zero_le _) (A_term (d := d) hi) (fun o h' hq _ => ?_) (fun E i h' q _ => by cases q.1)
  obtain ⟨E1, rfl⟩ := hq
  cases E1
  exact ew_ret (o := none) rfl ⟨rfl, rfl⟩ ⟨rfl, dX11_init_2_8⟩
/-- none of the book's names -/
def rfr (V : XV) (g : AH) : Prop := ∀ reg k, reg < 20 → g (bI V reg k) = none
theorem xfree.rfr {V : XV} {g : AH} (h : xfree V g) : rfr V g := fun reg k hr => h _ (Or.inr (Or.inl ⟨rfl, hr⟩))
/-- what a list must be for an add -/
def bkc (j : Nat) (r : MS) : Prop := (0 ≤ r.1 (30 + j) ∧ 0 ≤ r.1 (50 + j)) ∧ rok r j ∧ 0 < xcap j (r.1 (50 + j)).toNat ∧ (-1000000 ≤ r.1 (70 + j) ∧ r.1 (70 + j) ≤ 1000000)
/-- its objects are all there -/
def bkm (j : Nat) (r : MS) : Prop := r.1 (40 + j) = r.1 (30 + j)
def bkv (r : MS) : Prop := rinc r ∧ ∀ x : Int, 0 ≤ x → x < r.1 34 → -128 ≤ r.2 44 x ∧ r.2 44 x < 128
abbrev vF8 (a b : Int) : ACell := kO 8 (fup (fup vFn 0 (aL a)) 1 (aI b))
abbrev vF9 (V : XV) (a f : Int) (p : EId) : ACell := kO 9 (fup (fup (fup (fup vTm 0 (aL a)) 1 (aR (some (bI V 10 f.toNat)))) 2 (aI f)) 3 (aR (some p)))
abbrev vF10 (a b : Int) : ACell := kO 10 (fup (fup (fun _ => aI 0) 0 (aI a)) 1 (aI b))
theorem rtp_hup {tp : Int → Int} {g : AH} {i : EId} {c : ACell} (hi : i.1 ≠ 0) (h : rtp tp g) : rtp tp (hup g i c) := by
  obtain ⟨fx, h1, h2, h3⟩ := h
  refine ⟨fx, ?_, h2, ?_⟩
  · rw [hup_ne (fun e => hi (by rw [← e]))]; exact h1
  · rw [hup_ne (fun e => hi (by rw [← e]))]; exact h3
theorem rtp_b {V : XV} {tp : Int → Int} {g : AH} {reg k : Nat} {c : ACell} (h : rtp tp g) : rtp tp (hup g (bI V reg k) c) := rtp_hup (by show 10 + V 9 ≠ 0; omega) h
theorem fI_b {V : XV} {g : AH} {reg k : Nat} {c : ACell} (h : g fI = none) : hup g (bI V reg k) c fI = none := by
  rw [hup_ne (fun e => by have := congrArg (fun i : EId => i.1) e; simp at this; omega)]
  exact h
theorem rX_b {V : XV} {g : AH} {reg k : Nat} {c : ACell} {KX : Int → Int → Prop} {o : AO} {h : AH} (hr : reg < 20) (q : rX V (hup g (bI V reg k) c) KX o h) : rX V g KX o h :=
  rX_mono (fun i hi _ => hup_ne fun e => hi (by rw [e]; exact Or.inr (Or.inr ⟨rfl, hr⟩))) q
section BL
variable {M : EM} {d kc ks : Nat} {Q : AO → AH → Prop} {pc idx cnt : Nat} {lv : List (Nat × AV)} {st rest : List AV} {V : XV} {hb : MS → AH → AH} {r : MS} {g G : AH} {j m : Nat} {y : EId} {a b n tk : Int} {p : Int → Int}
theorem bk_at {reg : Nat} {c : ACell} (hbk : bkH V hb) (hr : reg < 20) (h0 : bC V r reg m = none) (hG : G (bI V reg m) = some c) : hb r G (bI V reg m) = some c := by
  rw [hbk.1 _ _ _ _ hr, h0, hG]
  rfl
theorem bk_fr {reg : Nat} (hbk : bkH V hb) (hr : reg < 20) (h0 : bC V r reg m = none) (hG : G (bI V reg m) = none) : hb r G (bI V reg m) = none := by
  rw [hbk.1 _ _ _ _ hr, h0, hG]
  rfl
theorem bk_el {reg ci : Nat} {fs : Nat → AV} (hbk : bkH V hb) (hr : reg < 20) (h0 : bC V r reg m = some (kO ci fs)) (hc : ci < 100) : e_el (hb r G) (bI V reg m) := Or.inl ⟨ci, fs, by rw [hbk.1 _ _ _ _ hr, h0]; rfl, hc⟩
theorem bk_new8 (hbk : bkH V hb) (hd : decode M.2.1 pc = .ok (.new idx, 3)) (w1 : Cond.classLink M.1.cls idx RX10 ∈ lw_all) (h0 : bC V r 10 m = none) (hG : G (bI V 10 m) = none) (b1 : 1 ≤ kc) (b2 : 2 ≤ ks) (k : EW M d (kc - 1) (ks - 2) Q (pc + 3) lv (aR (some (bI V 10 m)) :: st) (hb r (hup G (bI V 10 m) (kO 8 vFn)))) : EW M d kc ks Q pc lv st (hb r G) := by
  refine ew_newB (i := bI V 10 m) (ci := 8) (n := 2) (fs := vFn) (r := (RX10, TX10, 2)) hd rfl rfl w1 q711 q129 (fun k hk => ?_) (bk_fr hbk (by decide) h0 hG) (by show 10 + V 9 ≠ 9; omega) b1 b2 ?_
  · rcases (show k = 0 ∨ k = 1 by omega) with rfl | rfl
    · exact ⟨.long, by decide +kernel, rfl⟩
    · exact ⟨.int, by decide +kernel, rfl⟩
  · rw [bk_hup hbk (by decide) h0]
    exact k
theorem bk_new9 (hbk : bkH V hb) (hd : decode M.2.1 pc = .ok (.new idx, 3)) (w1 : Cond.classLink M.1.cls idx RX11 ∈ lw_all) (h0 : bC V r 11 m = none) (hG : G (bI V 11 m) = none) (b1 : 1 ≤ kc) (b2 : 4 ≤ ks) (k : EW M d (kc - 1) (ks - 4) Q (pc + 3) lv (aR (some (bI V 11 m)) :: st) (hb r (hup G (bI V 11 m) (kO 9 vTm)))) : EW M d kc ks Q pc lv st (hb r G) := by
  refine ew_newB (i := bI V 11 m) (ci := 9) (n := 4) (fs := vTm) (r := (RX11, TX11, 4)) hd rfl rfl w1 q803 q133 (fun k hk => ?_) (bk_fr hbk (by decide) h0 hG) (by show 10 + V 9 ≠ 9; omega) b1 b2 ?_
  · rcases (show k = 0 ∨ k = 1 ∨ k = 2 ∨ k = 3 by omega) with rfl | rfl | rfl | rfl
    · exact ⟨.long, by decide +kernel, rfl⟩
    · exact ⟨.object "ReasonCloser$Function", by decide +kernel, rfl⟩
    · exact ⟨.int, by decide +kernel, rfl⟩
    · exact ⟨.array .int, by decide +kernel, rfl⟩
  · rw [bk_hup hbk (by decide) h0]
    exact k
theorem bk_new10 (hbk : bkH V hb) (hj : j = 12 ∨ j = 13) (hd : decode M.2.1 pc = .ok (.new idx, 3)) (w1 : Cond.classLink M.1.cls idx RX12 ∈ lw_all) (h0 : bC V r j m = none) (hG : G (bI V j m) = none) (b1 : 1 ≤ kc) (b2 : 2 ≤ ks) (k : EW M d (kc - 1) (ks - 2) Q (pc + 3) lv (aR (some (bI V j m)) :: st) (hb r (hup G (bI V j m) (kO 10 (fun _ => aI 0))))) : EW M d kc ks Q pc lv st (hb r G) := by
  refine ew_newB (i := bI V j m) (ci := 10) (n := 2) (fs := fun _ => aI 0) (r := (RX12, TX12, 2)) hd rfl rfl w1 q859 q137 (fun k hk => ?_) (bk_fr hbk (by omega) h0 hG) (by show 10 + V 9 ≠ 9; omega) b1 b2 ?_
  · rcases (show k = 0 ∨ k = 1 by omega) with rfl | rfl
    · exact ⟨.int, by decide +kernel, rfl⟩
    · exact ⟨.int, by decide +kernel, rfl⟩
  · rw [bk_hup hbk (by omega) h0]
    exact k
theorem bk_newP (hbk : bkH V hb) (hd : decode M.2.1 pc = .ok (.newarray .int, 2)) (h0 : bC V r 14 m = none) (hG : G (bI V 14 m) = none) (hn : 0 ≤ n ∧ n ≤ 10000) (b1 : 1 ≤ kc) (b2 : n.toNat ≤ ks) (k : EW M d (kc - 1) (ks - n.toNat) Q (pc + 2) lv (aR (some (bI V 14 m)) :: st) (hb r (hup G (bI V 14 m) (kI 0 n.toNat (fun _ => 0))))) : EW M d kc ks Q pc lv (aI n :: st) (hb r G) := by
  refine ew_newIB (t := 0) (N := n.toNat) (i := bI V 14 m) hd rfl (by decide) q302 (by omega) (by omega) (bk_fr hbk (by decide) h0 hG) (by show 10 + V 9 ≠ 9; omega) b1 b2 ?_
  rw [bk_hup hbk (by decide) h0]
  exact k
theorem bk_i8 (hbk : bkH V hb) (hd : decode M.2.1 pc = .ok (.invokespecial idx, 3)) (w1 : Cond.methodLink M.1.cls idx yX10_init ∈ lw_all) (h0 : bC V r 10 m = none) (hG : G (bI V 10 m) = some (kO 8 vFn)) (h8 : (rest.map fun v => if e_is2 v then 2 else 1).sum ≤ 8) (k : EW M (d + 2) kc ks Q (pc + 3) lv rest (hb r (hup G (bI V 10 m) (vF8 a b)))) : EW M (d + 2) kc ks Q pc lv (aI b :: aL a :: aR (some (bI V 10 m)) :: rest) (hb r G) := by
  refine ew_callI (d := d + 1) (as := [aL a, aI b]) rfl hd me_X10_init rfl rfl rfl (Or.inl w1) q713 h8 (Nat.zero_le _) (Nat.zero_le _) (A_fun (d := d) (bk_at hbk (by decide) h0 hG)) (fun o h' hq _ => ?_) (fun E i h' q _ => by cases q.1)
  obtain ⟨E1, rfl⟩ := hq
  cases E1
  rw [bk_hup hbk (by decide) h0]
  exact k
theorem bk_i9 (hbk : bkH V hb) (hd : decode M.2.1 pc = .ok (.invokespecial idx, 3)) (w1 : Cond.methodLink M.1.cls idx yX11_init ∈ lw_all) (h0 : bC V r 11 m = none) (hG : G (bI V 11 m) = some (kO 9 vTm)) (h8 : (rest.map fun v => if e_is2 v then 2 else 1).sum ≤ 8) (k : EW M (d + 2) kc ks Q (pc + 3) lv rest (hb r (hup G (bI V 11 m) (vF9 V a b y)))) : EW M (d + 2) kc ks Q pc lv (aR (some y) :: aI b :: aR (some (bI V 10 b.toNat)) :: aL a :: aR (some (bI V 11 m)) :: rest) (hb r G) := by
  refine ew_callI (d := d + 1) (as := [aL a, aR (some (bI V 10 b.toNat)), aI b, aR (some y)]) rfl hd me_X11_init rfl rfl rfl (Or.inl w1) q815 h8 (Nat.zero_le _) (Nat.zero_le _) (A_term (d := d) (bk_at hbk (by decide) h0 hG)) (fun o h' hq _ => ?_) (fun E i h' q _ => by cases q.1)
  obtain ⟨E1, rfl⟩ := hq
  cases E1
  rw [bk_hup hbk (by decide) h0]
  exact k
theorem bk_i9b (hbk : bkH V hb) (hd : decode M.2.1 pc = .ok (.invokespecial idx, 3)) (w1 : Cond.methodLink M.1.cls idx yX11_init_2 ∈ lw_all) (h0 : bC V r 11 m = none) (hG : G (bI V 11 m) = some (kO 9 vTm)) (h8 : (rest.map fun v => if e_is2 v then 2 else 1).sum ≤ 8) (k : EW M (d + 3) kc ks Q (pc + 3) lv rest (hb r (hup G (bI V 11 m) (vF9 V 0 b y)))) : EW M (d + 3) kc ks Q pc lv (aR (some y) :: aI b :: aR (some (bI V 10 b.toNat)) :: aR (some (bI V 11 m)) :: rest) (hb r G) := by
  refine ew_callI (d := d + 2) (as := [aR (some (bI V 10 b.toNat)), aI b, aR (some y)]) rfl hd me_X11_init_2 rfl rfl rfl (Or.inl w1) q1356 h8 (Nat.zero_le _) (Nat.zero_le _) (A_term2 (d := d) (bk_at hbk (by decide) h0 hG)) (fun o h' hq _ => ?_) (fun E i h' q _ => by cases q.1)
  obtain ⟨E1, rfl⟩ := hq
  cases E1
  rw [bk_hup hbk (by decide) h0]
  exact k
theorem bk_i10 (hbk : bkH V hb) (hj : j < 20) (hd : decode M.2.1 pc = .ok (.invokespecial idx, 3)) (w1 : Cond.methodLink M.1.cls idx yX12_init ∈ lw_all) (h0 : bC V r j m = none) (hG : G (bI V j m) = some (kO 10 (fun _ => aI 0))) (h8 : (rest.map fun v => if e_is2 v then 2 else 1).sum ≤ 8) (k : EW M (d + 2) kc ks Q (pc + 3) lv rest (hb r (hup G (bI V j m) (vF10 a b)))) : EW M (d + 2) kc ks Q pc lv (aI b :: aI a :: aR (some (bI V j m)) :: rest) (hb r G) := by
  refine ew_callI (d := d + 1) (as := [aI a, aI b]) rfl hd me_X12_init rfl rfl rfl (Or.inl w1) q861 h8 (Nat.zero_le _) (Nat.zero_le _) (A_fact (d := d) (bk_at hbk hj h0 hG)) (fun o h' hq _ => ?_) (fun E i h' q _ => by cases q.1)
  obtain ⟨E1, rfl⟩ := hq
  cases E1
  rw [bk_hup hbk hj h0]
  exact k
theorem bk_add0 (hbk : bkH V hb) (hd : decode M.2.1 pc = .ok (.invokeinterface idx cnt, 5)) (w1 : Cond.methodLink M.1.cls idx ⟨"java/util/List", "add", "(Ljava/lang/Object;)Z"⟩ ∈ lw_all) (hc : bkc 0 r) (hm : bkm 0 r) (hr : rfr V g) (h8 : (rest.map fun v => if e_is2 v then 2 else 1).sum ≤ 8) (b1 : 1 ≤ kc) (b2 : al_N (xcap 0 (r.1 50).toNat) ≤ ks) (k : ∀ s1, s1 = yf0 r a b → EW M (d + 7) (kc - 1) (ks - al_N (xcap 0 (r.1 50).toNat)) Q (pc + 5) lv (aI 1 :: rest) (hb s1 g)) : EW M (d + 7) kc ks Q pc lv (aR (some (bI V 10 (r.1 30).toNat)) :: aR (some (bI V 2 0)) :: rest) (hb r (hup g (bI V 10 (r.1 30).toNat) (vF8 a b))) :=
  bk_add (j := 0) hbk (by decide) hd w1 hc.1.1 hc.1.2 hc.2.1 hc.2.2.1 hc.2.2.2 bstep_0 (bO_f0 hc.1.1 hm) (hr _ _ (by decide)) (fun x h0 h1 => show e_el (hb r _) (bI V 10 x.toNat) from bk_el hbk (by decide) (show bC V r 10 x.toNat = some (kO 8 (xfF r x.toNat)) from if_pos (by have : r.1 40 = r.1 30 := hm; have h1' : x < r.1 30 := h1; omega)) (by decide)) (Or.inl ⟨_, _, bk_at hbk (by decide) (bn_0 (by have : r.1 40 = r.1 30 := hm; omega)) (hup_self _ _ _), by decide⟩) h8 b1 b2 (k _ rfl)
theorem bk_add1 (hbk : bkH V hb) (hd : decode M.2.1 pc = .ok (.invokeinterface idx cnt, 5)) (w1 : Cond.methodLink M.1.cls idx ⟨"java/util/List", "add", "(Ljava/lang/Object;)Z"⟩ ∈ lw_all) (hc : bkc 1 r) (hm : bkm 1 r) (hr : rfr V g) (h8 : (rest.map fun v => if e_is2 v then 2 else 1).sum ≤ 8) (b1 : 1 ≤ kc) (b2 : al_N (xcap 1 (r.1 51).toNat) ≤ ks) (k : ∀ s1, s1 = yf1 r a b n p → EW M (d + 7) (kc - 1) (ks - al_N (xcap 1 (r.1 51).toNat)) Q (pc + 5) lv (aI 1 :: rest) (hb s1 g)) : EW M (d + 7) kc ks Q pc lv (aR (some (bI V 11 (r.1 31).toNat)) :: aR (some (bI V 2 1)) :: rest) (hb r (hup (hup g (bI V 14 (r.1 31).toNat) (kI 0 n.toNat p)) (bI V 11 (r.1 31).toNat) (vF9 V a b (bI V 14 (r.1 31).toNat)))) :=
  bk_add (j := 1) hbk (by decide) hd w1 hc.1.1 hc.1.2 hc.2.1 hc.2.2.1 hc.2.2.2 bstep_1 (bO_f1 hc.1.1 hm) (hr _ _ (by decide)) (fun x h0 h1 => show e_el (hb r _) (bI V 11 x.toNat) from bk_el hbk (by decide) (show bC V r 11 x.toNat = some (kO 9 (xfT V r x.toNat)) from if_pos (by have : r.1 41 = r.1 31 := hm; have h1' : x < r.1 31 := h1; omega)) (by decide)) (Or.inl ⟨_, _, bk_at hbk (by decide) (bn_1 (by have : r.1 41 = r.1 31 := hm; omega)) (hup_self _ _ _), by decide⟩) h8 b1 b2 (k _ rfl)
theorem bk_add2 (hbk : bkH V hb) (hd : decode M.2.1 pc = .ok (.invokeinterface idx cnt, 5)) (w1 : Cond.methodLink M.1.cls idx ⟨"java/util/List", "add", "(Ljava/lang/Object;)Z"⟩ ∈ lw_all) (hc : bkc 2 r) (hm : bkm 2 r) (hr : rfr V g) (h8 : (rest.map fun v => if e_is2 v then 2 else 1).sum ≤ 8) (b1 : 1 ≤ kc) (b2 : al_N (xcap 2 (r.1 52).toNat) ≤ ks) (k : ∀ s1, s1 = yf2 r a b → EW M (d + 7) (kc - 1) (ks - al_N (xcap 2 (r.1 52).toNat)) Q (pc + 5) lv (aI 1 :: rest) (hb s1 g)) : EW M (d + 7) kc ks Q pc lv (aR (some (bI V 12 (r.1 32).toNat)) :: aR (some (bI V 2 2)) :: rest) (hb r (hup g (bI V 12 (r.1 32).toNat) (vF10 a b))) :=
  bk_add (j := 2) hbk (by decide) hd w1 hc.1.1 hc.1.2 hc.2.1 hc.2.2.1 hc.2.2.2 bstep_2 (bO_f2 hc.1.1 hm hc.1.2) (hr _ _ (by decide)) (fun x h0 h1 => show e_el (hb r _) (bI V 12 x.toNat) from bk_el hbk (by decide) (show bC V r 12 x.toNat = some (kO 10 (xfS r x.toNat)) from if_pos (by have : r.1 42 = r.1 32 := hm; have h1' : x < r.1 32 := h1; omega)) (by decide)) (Or.inl ⟨_, _, bk_at hbk (by decide) (bC_none (j := 2) (by decide) (by have : r.1 42 = r.1 32 := hm; show (r.1 42).toNat ≤ _; omega)) (hup_self _ _ _), by decide⟩) h8 b1 b2 (k _ rfl)
theorem bk_add3 (hbk : bkH V hb) (hd : decode M.2.1 pc = .ok (.invokeinterface idx cnt, 5)) (w1 : Cond.methodLink M.1.cls idx ⟨"java/util/List", "add", "(Ljava/lang/Object;)Z"⟩ ∈ lw_all) (hc : bkc 3 r) (hm : bkm 3 r) (hr : rfr V g) (h8 : (rest.map fun v => if e_is2 v then 2 else 1).sum ≤ 8) (b1 : 1 ≤ kc) (b2 : al_N (xcap 3 (r.1 53).toNat) ≤ ks) (k : ∀ s1, s1 = yf3 r a b → EW M (d + 7) (kc - 1) (ks - al_N (xcap 3 (r.1 53).toNat)) Q (pc + 5) lv (aI 1 :: rest) (hb s1 g)) : EW M (d + 7) kc ks Q pc lv (aR (some (bI V 13 (r.1 33).toNat)) :: aR (some (bI V 2 3)) :: rest) (hb r (hup g (bI V 13 (r.1 33).toNat) (vF10 a b))) :=
  bk_add (j := 3) hbk (by decide) hd w1 hc.1.1 hc.1.2 hc.2.1 hc.2.2.1 hc.2.2.2 bstep_3 (bO_f3 hc.1.1 hm hc.1.2) (hr _ _ (by decide)) (fun x h0 h1 => show e_el (hb r _) (bI V 13 x.toNat) from bk_el hbk (by decide) (show bC V r 13 x.toNat = some (kO 10 (xfD r x.toNat)) from if_pos (by have : r.1 43 = r.1 33 := hm; have h1' : x < r.1 33 := h1; omega)) (by decide)) (Or.inl ⟨_, _, bk_at hbk (by decide) (bC_none (j := 3) (by decide) (by have : r.1 43 = r.1 33 := hm; show (r.1 43).toNat ≤ _; omega)) (hup_self _ _ _), by decide⟩) h8 b1 b2 (k _ rfl)
theorem bk_add4 (hbk : bkH V hb) (hd : decode M.2.1 pc = .ok (.invokeinterface idx cnt, 5)) (w1 : Cond.methodLink M.1.cls idx ⟨"java/util/List", "add", "(Ljava/lang/Object;)Z"⟩ ∈ lw_all) (hc : bkc 4 r) (hv : bkv r) (ha : -128 ≤ a ∧ a < 128) (hr : rfr V g) (h8 : (rest.map fun v => if e_is2 v then 2 else 1).sum ≤ 8) (b1 : 1 ≤ kc) (b2 : al_N (xcap 4 (r.1 54).toNat) ≤ ks) (k : ∀ s1, s1 = yf4 r a → EW M (d + 7) (kc - 1) (ks - al_N (xcap 4 (r.1 54).toNat)) Q (pc + 5) lv (aI 1 :: rest) (hb s1 g)) : EW M (d + 7) kc ks Q pc lv (aR (some (9, 12, (a + 128).toNat)) :: aR (some (bI V 2 4)) :: rest) (hb r g) :=
  bk_add (j := 4) hbk (by decide) hd w1 hc.1.1 hc.1.2 hc.2.1 hc.2.2.1 hc.2.2.2 (bstep_4 hc.1.1 hc.1.2 hv.1) bO_f4 (hr _ _ (by decide)) (fun x h0 h1 => Or.inr ⟨(r.2 44 x + 128).toNat, by have := hv.2 x h0 h1; omega, rfl⟩) (Or.inr ⟨_, by omega, rfl⟩) h8 b1 b2 (k _ rfl)
theorem rd_need {e : Int} {KX : Int → Int → Prop} (hd : decode M.2.1 pc = .ok (.invokevirtual idx, 3)) (w1 : Cond.methodLink M.1.cls idx yX8_need ∈ lw_all) (hf : g fI = none) (htb : M.2.2.2.2 = []) (hQ : ∀ x h, rX V g KX (Sum.inr x) h → Q (Sum.inr x) h) (h8 : (rest.map fun v => if e_is2 v then 2 else 1).sum ≤ 8) (b1 : 1 ≤ kc) (b2 : 8 ≤ ks) (H0 : e = 0 → KX b (r.1 3)) (k : ¬ e = 0 → EW M (d + 5) (kc - 1) (ks - 8) Q (pc + 3) lv rest (rh V r g)) : EW M (d + 5) kc ks Q pc lv (aI b :: aI e :: aR (some rT) :: rest) (rh V r g) := by
  refine ew_callV (d := d + 4) (as := [aI e, aI b]) rfl hd me_X8_need rfl (ci := 6) rfl rfl rh_T (Or.inl w1) q588 qs9 h8 b1 b2 (S_X8_need (d := d) (K := fun r' => r' = r ∧ ¬ e = 0) hf ⟨fun c => ⟨rfl, c⟩, H0⟩) (fun o h' hq _ => ?_) (fun E i h' q _ => ex_out (hQ _ _ (rQv_x q)) htb)
  obtain ⟨r', E1, rfl, rfl, c⟩ := rQv_n hq
  cases E1
  exact k c
end BL
theorem rlw_g0 {M : EM} {d kc ks : Nat} {Q : AO → AH → Prop} {pc idx cnt : Nat} {lv : List (Nat × AV)} {rest : List AV} {V : XV} {r : MS} {g : AH} {x : Int} (hd : decode M.2.1 pc = .ok (.invokeinterface idx cnt, 5)) (w1 : Cond.methodLink M.1.cls idx ⟨"java/util/List", "get", "(I)Ljava/lang/Object;"⟩ ∈ lw_all) (h8 : (rest.map fun v => if e_is2 v then 2 else 1).sum ≤ 8) (h0 : 0 ≤ x ∧ x < r.1 30) (h2 : rok r 0) (kk : EW M (d + 3) kc ks Q (pc + 5) lv (aR (some (bI V 10 x.toNat)) :: rest) (rh V r g)) : EW M (d + 3) kc ks Q pc lv (aI x :: aR (some (bI V 2 0)) :: rest) (rh V r g) := rlw_get (j := 0) hd (by decide) w1 h8 h0 h2 kk
theorem rlw_g1 {M : EM} {d kc ks : Nat} {Q : AO → AH → Prop} {pc idx cnt : Nat} {lv : List (Nat × AV)} {rest : List AV} {V : XV} {r : MS} {g : AH} {x : Int} (hd : decode M.2.1 pc = .ok (.invokeinterface idx cnt, 5)) (w1 : Cond.methodLink M.1.cls idx ⟨"java/util/List", "get", "(I)Ljava/lang/Object;"⟩ ∈ lw_all) (h8 : (rest.map fun v => if e_is2 v then 2 else 1).sum ≤ 8) (h0 : 0 ≤ x ∧ x < r.1 31) (h2 : rok r 1) (kk : EW M (d + 3) kc ks Q (pc + 5) lv (aR (some (bI V 11 x.toNat)) :: rest) (rh V r g)) : EW M (d + 3) kc ks Q pc lv (aI x :: aR (some (bI V 2 1)) :: rest) (rh V r g) := rlw_get (j := 1) hd (by decide) w1 h8 h0 h2 kk
theorem rlw_g2 {M : EM} {d kc ks : Nat} {Q : AO → AH → Prop} {pc idx cnt : Nat} {lv : List (Nat × AV)} {rest : List AV} {V : XV} {r : MS} {g : AH} {x : Int} (hd : decode M.2.1 pc = .ok (.invokeinterface idx cnt, 5)) (w1 : Cond.methodLink M.1.cls idx ⟨"java/util/List", "get", "(I)Ljava/lang/Object;"⟩ ∈ lw_all) (h8 : (rest.map fun v => if e_is2 v then 2 else 1).sum ≤ 8) (h0 : 0 ≤ x ∧ x < r.1 32) (h2 : rok r 2) (kk : EW M (d + 3) kc ks Q (pc + 5) lv (aR (some (bI V 12 x.toNat)) :: rest) (rh V r g)) : EW M (d + 3) kc ks Q pc lv (aI x :: aR (some (bI V 2 2)) :: rest) (rh V r g) := rlw_get (j := 2) hd (by decide) w1 h8 h0 h2 kk
theorem rlw_g3 {M : EM} {d kc ks : Nat} {Q : AO → AH → Prop} {pc idx cnt : Nat} {lv : List (Nat × AV)} {rest : List AV} {V : XV} {r : MS} {g : AH} {x : Int} (hd : decode M.2.1 pc = .ok (.invokeinterface idx cnt, 5)) (w1 : Cond.methodLink M.1.cls idx ⟨"java/util/List", "get", "(I)Ljava/lang/Object;"⟩ ∈ lw_all) (h8 : (rest.map fun v => if e_is2 v then 2 else 1).sum ≤ 8) (h0 : 0 ≤ x ∧ x < r.1 33) (h2 : rok r 3) (kk : EW M (d + 3) kc ks Q (pc + 5) lv (aR (some (bI V 13 x.toNat)) :: rest) (rh V r g)) : EW M (d + 3) kc ks Q pc lv (aI x :: aR (some (bI V 2 3)) :: rest) (rh V r g) := rlw_get (j := 3) hd (by decide) w1 h8 h0 h2 kk
