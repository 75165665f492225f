/-! EW: rules of the heap -/
set_option maxRecDepth 100000
theorem e_ix {i : Int} (hi : inI i) (h0 : 0 ≤ i) : (Int32.ofInt i).toNatClampNeg = i.toNat ∧ ¬ Int32.ofInt i < 0 := by
  constructor
  · show (Int32.ofInt i).toInt.toNat = i.toNat
    rw [e_ti hi]
  · intro q
    have := (e_lt hi in0).mp q
    omega
theorem e_in {i : Int} {n : Nat} (hi : inI i) (h0 : 0 ≤ i) (h1 : i < n) : ¬ (Int32.ofInt i < 0 ∨ n ≤ (Int32.ofInt i).toNatClampNeg) := by
  obtain ⟨a, b⟩ := e_ix hi h0
  rw [a]
  intro q
  rcases q with q | q
  · exact b q
  · omega
theorem e_nat {i : Int} (h0 : 0 ≤ i) : ((i.toNat : Nat) : Int) = i := by omega
def e_fit : FieldType → AV → Prop
  | .int, Sum.inl _ => True
  | .boolean, Sum.inl n => n = 0 ∨ n = 1
  | .long, Sum.inr (Sum.inl _) => True
  | .object _, Sum.inr (Sum.inr _) => True
  | .array _, Sum.inr (Sum.inr _) => True
  | _, _ => False
theorem e_fit_ok {ty : FieldType} {v : AV} (ad : EA) (h : e_fit ty v) : narrow ty (e_v ad v) = e_v ad v ∧ fits ty (e_v ad v) = true := by
  match ty, v, h with
  | .int, Sum.inl n, _ => exact ⟨rfl, rfl⟩
  | .boolean, Sum.inl n, h =>
    rcases h with rfl | rfl
    · exact ⟨(by decide : narrow .boolean (.int (Int32.ofInt 0)) = .int (Int32.ofInt 0)), (by decide : fits .boolean (.int (Int32.ofInt 0)) = true)⟩
    · exact ⟨(by decide : narrow .boolean (.int (Int32.ofInt 1)) = .int (Int32.ofInt 1)), (by decide : fits .boolean (.int (Int32.ofInt 1)) = true)⟩
  | .long, Sum.inr (Sum.inl n), _ => exact ⟨rfl, rfl⟩
  | .object C, Sum.inr (Sum.inr none), _ => exact ⟨rfl, rfl⟩
  | .object C, Sum.inr (Sum.inr (some i)), _ => exact ⟨rfl, rfl⟩
  | .array t, Sum.inr (Sum.inr none), _ => exact ⟨rfl, rfl⟩
  | .array t, Sum.inr (Sum.inr (some i)), _ => exact ⟨rfl, rfl⟩
def e_def : FieldType → AV → Prop
  | .int, v => v = aI 0
  | .boolean, v => v = aI 0
  | .byte, v => v = aI 0
  | .long, v => v = aL 0
  | .object _, v => v = aR none
  | .array _, v => v = aR none
  | _, _ => False
theorem e_def_ok {ty : FieldType} {v : AV} (ad : EA) (h : e_def ty v) : defaultValue ty = e_v ad v := by
  match ty, h with
  | .int, h => rw [show v = aI 0 from h]; rfl
  | .boolean, h => rw [show v = aI 0 from h]; rfl
  | .byte, h => rw [show v = aI 0 from h]; rfl
  | .long, h => rw [show v = aL 0 from h]; rfl
  | .object _, h => rw [show v = aR none from h]; rfl
  | .array _, h => rw [show v = aR none from h]; rfl
/-- a field of the classes cs: its number, its declaring class, name, type, finality -/
def e_fd (cs : List Nat) (k : Nat) (o n ds : String) (fin : Bool) : Prop := ∀ ci ∈ cs, ∃ r : vw_C, e_cl[ci]? = some r ∧ k < r.2.2 ∧ r.2.1 k = (o, n, ds, fin)
/-- the entry of a field, of the class itself, a mate's, or inherited -/
def e_fl (own : String) (idx : Nat) (o n ds : String) : Prop := ∃ ref : String, (Cond.fieldLink own idx ref n ds ∈ lw_all ∨ ∃ host, Cond.fieldLinkNest own idx ref n ds host ∈ lw_tbl) ∧ (ref = o ∨ Cond.sameField ref o n ds ∈ lw_all)
theorem e_fl.a {own : String} {idx : Nat} {o n ds : String} (h : Cond.fieldLink own idx o n ds ∈ lw_all) : e_fl own idx o n ds := ⟨o, Or.inl h, Or.inl rfl⟩
theorem e_fl.b {own ref : String} {idx : Nat} {o n ds : String} (h : Cond.fieldLink own idx ref n ds ∈ lw_all) (h2 : Cond.sameField ref o n ds ∈ lw_all) : e_fl own idx o n ds := ⟨ref, Or.inl h, Or.inr h2⟩
theorem e_fl.c {own host : String} {idx : Nat} {o n ds : String} (h : Cond.fieldLinkNest own idx o n ds host ∈ lw_tbl) : e_fl own idx o n ds := ⟨o, Or.inr ⟨_, h⟩, Or.inl rfl⟩
theorem e_fl.d {own host ref : String} {idx : Nat} {o n ds : String} (h : Cond.fieldLinkNest own idx ref n ds host ∈ lw_tbl) (h2 : Cond.sameField ref o n ds ∈ lw_all) : e_fl own idx o n ds := ⟨ref, Or.inr ⟨_, h⟩, Or.inr h2⟩
section EWH
variable {M : EM} {d kc ks : Nat} {Q : AO → AH → Prop} {pc : Nat} {lv : List (Nat × AV)} {st : List AV} {h : AH}
theorem ew_ofR {pc' : Nat} {st' : List AV} (hok : (∀ i c, h i = some c → e_okc h c) → (∀ q ∈ lv, e_okv h q.2) → (∀ v ∈ st, e_okv h v) → ∀ v ∈ st', e_okv h v)
    (hW : ∀ (D : ED) (p : Program) (l : Launch) (e : Env) (R : Room) (s : State) (m : MethodId) (args : Array Value) (below : List Frame) (meth : Method) (c : Code) (Z : State → Prop) (A : Nat → Prop) (H : Heap) (locs : List Loc) (cells slots : Nat) (ad0 ad : EA) (ls : Array Slot),
      e_G M D p l s m args meth c ad0 A → e_X (fun _ => none) ad0 ad → e_R D ad h A H → va_S A s.heap H locs → (∀ v ∈ st, e_okv h v) → W p l e R s m args below meth c H locs cells slots Z (F0 m pc' ls (st'.map (e_v ad))) → W p l e R s m args below meth c H locs cells slots Z (F0 m pc ls (st.map (e_v ad))))
    (k : EW M d kc ks Q pc' lv st' h) : EW M d kc ks Q pc lv st h := by
  intro D p l e R s m args below meth c Z A ad0 h0 G E H locs cells slots ad ls I hst
  exact hW D p l e R s m args below meth c Z A H locs cells slots ad0 ad ls G (fun i hi => I.1.2.1 i (Or.inr (hi.resolve_left fun q => q rfl))) I.1.1 I.1.2.2.2 hst (k D p l e R s m args below meth c Z A ad0 h0 G E H locs cells slots ad ls I (hok (fun i c hi => (I.1.1.1 i c hi).2.2.1) I.2.1.1 hst))
/-- a step that writes a cell -/
theorem ew_ofH {pc' : Nat} {st' : List AV} {i : EId} {c0 c1 : ACell} (hi : h i = some c0) (hok : (∀ v ∈ st, e_okv h v) → ∀ v ∈ st', e_okv h v) (hok1 : (∀ i c, h i = some c → e_okc h c) → (∀ v ∈ st, e_okv h v) → e_okc h c1)
    (hW : ∀ (D : ED) (p : Program) (l : Launch) (e : Env) (R : Room) (s : State) (m : MethodId) (args : Array Value) (below : List Frame) (meth : Method) (c : Code) (Z : State → Prop) (A : Nat → Prop) (H : Heap) (locs : List Loc) (cells slots : Nat) (ad0 ad : EA) (ls : Array Slot),
      e_G M D p l s m args meth c ad0 A → e_R D ad h A H → (∀ v ∈ st, e_okv h v) → (∀ (H1 : Heap) (j : Nat), e_at D ad (ad i) H1 c1 → H1.size = H.size → (∀ q : Nat, q ≠ ad i → H1[q]? = H[q]?) → W p l e R s m args below meth c H1 (locs ++ [⟨ad i, j⟩]) cells slots Z (F0 m pc' ls (st'.map (e_v ad)))) → W p l e R s m args below meth c H locs cells slots Z (F0 m pc ls (st.map (e_v ad))))
    (k : EW M d kc ks Q pc' lv st' (hup h i c1)) : EW M d kc ks Q pc lv st h := by
  intro D p l e R s m args below meth c Z A ad0 h0 G E H locs cells slots ad ls I hst
  have hokc : ∀ i c, h i = some c → e_okc h c := fun i c hi => (I.1.1.1 i c hi).2.2.1
  refine hW D p l e R s m args below meth c Z A H locs cells slots ad0 ad ls G I.1.1 hst (fun H1 j hc z oq => ?_)
  refine k D p l e R s m args below meth c Z A ad0 h0 G E H1 _ cells slots ad ls ⟨⟨I.1.1.put hi hc (hok1 hokc hst) oq, I.1.2.1, fun j hj => hup_dom j (I.1.2.2.1 j hj), I.1.2.2.2.put z oq (I.1.1.1 i _ hi).2.1⟩, ⟨fun q hq => (I.2.1.1 q hq).mono hup_dom, I.2.1.2⟩, I.2.2⟩ (fun v hv => (hok hst v hv).mono hup_dom)
theorem ew_get {idx ci k : Nat} {i : EId} {fs : Nat → AV} {cs : List Nat} {o n ds : String} {fin : Bool} (hd : decode M.2.1 pc = .ok (.getfield idx, 3)) (hl : e_fl M.1.cls idx o n ds) (hf : e_fd cs k o n ds fin) (hi : h i = some (kO ci fs)) (hc : ci ∈ cs) (kk : EW M d kc ks Q (pc + 3) lv (fs k :: st) h) : EW M d kc ks Q pc lv (aR (some i) :: st) h := by
  obtain ⟨r, hr, hk, hT⟩ := hf ci hc
  refine ew_ofR (fun hh lo hs => ok1 (hh i _ hi k r (e_cx_of hr) hk) (ok_t hs)) (fun D p l e R s m args below meth c Z A H locs cells slots ad0 ad ls G hX hR hS hs kk => ?_) kk
  · obtain ⟨⟨r', hr', cell, q1, q2, q3, q4⟩, -, -, -⟩ := hR.1 i _ hi
    cases (e_cx_of hr).symm.trans hr'
    obtain ⟨hS1, hfc, kC, hkC, hkind⟩ := G.2.2.1.1 ci r hr
    obtain ⟨cf, kf, fi, f, hfi, hsl⟩ := hS1 k hk
    have hst := (u_facts hfc hkC (u_lays G.2.1.1 (e_cl_ok ci r hr).1 hk) hfi).1
    rw [hT] at hfi
    obtain ⟨ref, hlk, hsm⟩ := hl
    have hfi2 : s.fieldFound? ref n ds = some (cf, kf, fi, f) := by
      rcases hsm with rfl | hsm
      · exact hfi
      · exact u_same (G.2.1.1 _ hsm) _ hfi
    have hv : cell.slots[f.slot]? = some (e_v ad (fs k)) := by rw [hsl]; exact q4 k hk
    rcases hlk with hlk | ⟨host, hlk⟩
    · exact W.getf G.1.1 G.1.2.1 G.1.2.2.2.2.2.1 (G.2.1.1 _ hlk) hfi2 hst q1 (by rw [q3]; exact fun z => by cases z) hv rfl rfl hd kk
    · exact va_Wgetf G.1.1 G.1.2.1 G.1.2.2.2.2.2.1 (G.2.1.2.1.use hlk rfl) hfi2 hst q1 (by rw [q3]; exact fun z => by cases z) hv rfl rfl hd kk
theorem ew_put {idx ci k : Nat} {i : EId} {fs : Nat → AV} {v : AV} {cs : List Nat} {o n ds : String} {ty : FieldType} (hd : decode M.2.1 pc = .ok (.putfield idx, 3)) (hl : e_fl M.1.cls idx o n ds) (hf : e_fd cs k o n ds false) (hi : h i = some (kO ci fs)) (hc : ci ∈ cs) (hty : parseFieldDescriptor ds = some ty) (hv : e_fit ty v) (kk : EW M d kc ks Q (pc + 3) lv st (hup h i (kO ci (fup fs k v)))) : EW M d kc ks Q pc lv (v :: aR (some i) :: st) h := by
  obtain ⟨r, hr, hk, hT⟩ := hf ci hc
  refine ew_ofH (c1 := kO ci (fup fs k v)) hi (fun hs => ok_t (ok_t hs)) (fun hh hs k' r' hr' hk' => ?_) (fun D p l e R s m args below meth c Z A H locs cells slots ad0 ad ls G hR hs kk => ?_) kk
  · unfold fup
    split
    · exact ok_h hs
    · exact hh i _ hi k' r' hr' hk'
  · obtain ⟨⟨r', hr', cell, q1, q2, q3, q4⟩, -, -, -⟩ := hR.1 i _ hi
    cases (e_cx_of hr).symm.trans hr'
    obtain ⟨hin, ty0, hty0, hnm⟩ := e_cl_ok ci r hr
    obtain ⟨hS1, hfc, kC, hkC, hkind⟩ := G.2.2.1.1 ci r hr
    obtain ⟨cf, kf, fi, f, hfi, hsl⟩ := hS1 k hk
    have hst := (u_facts hfc hkC (u_lays G.2.1.1 hin hk) hfi).1
    have hlay := G.2.1.1 _ (hin _ (u_in_lay hk))
    unfold u_lay at hlay
    rw [hT] at hfi
    rw [hT, if_neg (fun q => by cases q)] at hlay
    obtain ⟨ref, hlk, hsm⟩ := hl
    have hfi2 : s.fieldFound? ref n ds = some (cf, kf, fi, f) := by
      rcases hsm with rfl | hsm
      · exact hfi
      · exact u_same (G.2.1.1 _ hsm) _ hfi
    have h6 := u_store hfc hkC hkind hlay hfi hty (e_fit_ok ad hv).1 (e_fit_ok ad hv).2
    have hap : ∀ a b, a < r.2.2 → b < r.2.2 → a ≠ b → (D.1.2 ci) a ≠ (D.1.2 ci) b := by
      intro x y hx hy hne
      obtain ⟨_, _, _, fa, hia, ea⟩ := hS1 x hx
      obtain ⟨_, _, _, fb, hib, eb⟩ := hS1 y hy
      rw [← ea, ← eb]
      refine u_apart (u_lays G.2.1.1 hin hx) (u_lays G.2.1.1 hin hy) hia hib ?_
      rw [(State.fieldFound?_type hia (hty0 x hx)).1, (State.fieldFound?_type hib (hty0 y hy)).1]
      exact hnm x hx y hy hne
    have fin : ∀ H' : Heap, H'[ad i]? = some (cell.setSlot f.slot (e_v ad v)) → e_at D ad (ad i) H' (kO ci (fup fs k v)) := by
      intro H' e1
      rw [hsl] at e1
      refine ⟨r, e_cx_of hr, t_OB.to (V := updV (fun k => e_v ad (fs k)) k (e_v ad v)) ⟨_, e1, q2, q3, t_set q4 hap hk _⟩ (fun j _ => ?_)⟩
      unfold updV fup
      by_cases hj : j = k
      · rw [if_pos hj, if_pos hj]
      · rw [if_neg hj, if_neg hj]
    have hlt : f.slot < cell.slots.size := by rw [hsl]; exact k2_hasslot (q4 k hk)
    rcases hlk with hlk | ⟨host, hlk⟩
    · exact W.putK G.1.1 G.1.2.1 (f := f) ⟨G.1.2.2.2.2.2.1, G.2.1.1 _ hlk, ⟨_, _, _, hfi2⟩, hst⟩ (by rw [q2]; exact h6) q1 q3 hlt rfl rfl hd fun H' e1 e2 e3 => kk H' _ (fin H' e1) e2 e3
    · exact va_WputK G.1.1 G.1.2.1 (f := f) G.1.2.2.2.2.2.1 (G.2.1.2.1.use hlk rfl) hfi2 hst (by rw [q2]; exact h6) q1 q3 hlt rfl rfl hd fun H' e1 e2 e3 => kk H' _ (fin H' e1) e2 e3
/-- a final field, in a constructor -/
theorem ew_putF {idx ci k : Nat} {i : EId} {fs : Nat → AV} {v : AV} {cs : List Nat} {n ds : String} {ty : FieldType} (hd : decode M.2.1 pc = .ok (.putfield idx, 3)) (hl : Cond.fieldLink M.1.cls idx M.1.cls n ds ∈ lw_all) (hf : e_fd cs k M.1.cls n ds true) (hin2 : M.1.name = "<init>") (hi : h i = some (kO ci fs)) (hc : ci ∈ cs) (hty : parseFieldDescriptor ds = some ty) (hv : e_fit ty v) (kk : EW M d kc ks Q (pc + 3) lv st (hup h i (kO ci (fup fs k v)))) : EW M d kc ks Q pc lv (v :: aR (some i) :: st) h := by
  obtain ⟨r, hr, hk, hT⟩ := hf ci hc
  refine ew_ofH (c1 := kO ci (fup fs k v)) hi (fun hs => ok_t (ok_t hs)) (fun hh hs k' r' hr' hk' => ?_) (fun D p l e R s m args below meth c Z A H locs cells slots ad0 ad ls G hR hs kk => ?_) kk
  · unfold fup
    split
    · exact ok_h hs
    · exact hh i _ hi k' r' hr' hk'
  · obtain ⟨⟨r', hr', cell, q1, q2, q3, q4⟩, -, -, -⟩ := hR.1 i _ hi
    cases (e_cx_of hr).symm.trans hr'
    obtain ⟨hin, ty0, hty0, hnm⟩ := e_cl_ok ci r hr
    obtain ⟨hS1, hfc, kC, hkC, hkind⟩ := G.2.2.1.1 ci r hr
    obtain ⟨cf, kf, fi, f, hfi, hsl⟩ := hS1 k hk
    have hst := (u_facts hfc hkC (u_lays G.2.1.1 hin hk) hfi).1
    have hlay := G.2.1.1 _ (hin _ (u_in_lay hk))
    unfold u_lay at hlay
    rw [hT] at hfi
    rw [hT, if_pos rfl] at hlay
    have hcf : m.cls = cf := by
      obtain ⟨_, _, c', _, _, _, -, -, hf', -, -, -, hown2, -⟩ := Cond.laysFinal_spec hlay
      have e1 : c' = cf := by have := hfi.symm.trans hf'; simp at this; exact this.1.symm
      rw [← e1]; exact Option.some.inj (G.1.2.2.2.2.2.1.symm.trans hown2)
    have h6 := u_fits hfc hkC hkind (Or.inr hlay) hfi hty (e_fit_ok ad hv).1 (e_fit_ok ad hv).2
    have hap : ∀ a b, a < r.2.2 → b < r.2.2 → a ≠ b → (D.1.2 ci) a ≠ (D.1.2 ci) b := by
      intro x y hx hy hne
      obtain ⟨_, _, _, fa, hia, ea⟩ := hS1 x hx
      obtain ⟨_, _, _, fb, hib, eb⟩ := hS1 y hy
      rw [← ea, ← eb]
      refine u_apart (u_lays G.2.1.1 hin hx) (u_lays G.2.1.1 hin hy) hia hib ?_
      rw [(State.fieldFound?_type hia (hty0 x hx)).1, (State.fieldFound?_type hib (hty0 y hy)).1]
      exact hnm x hx y hy hne
    have fin : ∀ H' : Heap, H'[ad i]? = some (cell.setSlot f.slot (e_v ad v)) → e_at D ad (ad i) H' (kO ci (fup fs k v)) := by
      intro H' e1
      rw [hsl] at e1
      refine ⟨r, e_cx_of hr, t_OB.to (V := updV (fun k => e_v ad (fs k)) k (e_v ad v)) ⟨_, e1, q2, q3, t_set q4 hap hk _⟩ (fun j _ => ?_)⟩
      unfold updV fup
      by_cases hj : j = k
      · rw [if_pos hj, if_pos hj]
      · rw [if_neg hj, if_neg hj]
    have hlt : f.slot < cell.slots.size := by rw [hsl]; exact k2_hasslot (q4 k hk)
    exact W.putFinK G.1.1 G.1.2.1 G.1.2.2.2.2.2.1 (G.2.1.1 _ hl) hfi hst hcf (by rw [G.1.2.2.2.2.2.2.1]; exact hin2) (by rw [q2]; exact h6) q1 q3 hlt rfl rfl hd fun H' e1 e2 e3 => kk H' _ (fin H' e1) e2 e3
theorem e_arr {D : ED} {s : State} (hK : e_K D s) {t : Nat} (ht : t < 6) (n : Nat) (f : Nat → Value) : s.isArrayOf (arrV (D.2 t) n f) (e_ty t) := (hK.2 t ht).1 n f
theorem ew_alen {i : EId} {c0 : ACell} {n : Nat} (hd : decode M.2.1 pc = .ok (.arraylength, 1)) (hi : h i = some c0) (hn : (∃ t f, c0 = kI t n f) ∨ (∃ f, c0 = kL n f) ∨ ∃ t f, c0 = kQ t n f) (hb : (n : Int) < 2147483648) (kk : EW M d kc ks Q (pc + 1) lv (aI n :: st) h) : EW M d kc ks Q pc lv (aR (some i) :: st) h := by
  refine ew_ofR (fun hh lo hs => okI ⟨by omega, hb⟩ (ok_t hs)) (fun D p l e R s m args below meth c Z A H locs cells slots ad0 ad ls G hX hR hS hs kk => ?_) kk
  have e1 : Int32.ofInt (n : Int) = Int32.ofNat n := Int32.ofInt_eq_ofNat
  rcases hn with ⟨t, f, rfl⟩ | ⟨f, rfl⟩ | ⟨t, f, rfl⟩
  · obtain ⟨⟨h1, h2⟩, -⟩ := hR.1 i _ hi
    exact W.alen (n := Int32.ofInt n) G.1.1 G.1.2.1 h2 (e_arr G.2.2.1 (by omega) n _) (by rw [arrV_size, e1]) rfl rfl hd kk
  · obtain ⟨h2, -⟩ := hR.1 i _ hi
    exact W.alen (n := Int32.ofInt n) G.1.1 G.1.2.1 h2 (e_arr G.2.2.1 (t := 3) (by omega) n _) (by rw [arrV_size, e1]) rfl rfl hd kk
  · obtain ⟨⟨h1, h2⟩, -⟩ := hR.1 i _ hi
    exact W.alen (n := Int32.ofInt n) G.1.1 G.1.2.1 h2 (e_arr G.2.2.1 (by omega) n _) (by rw [arrV_size, e1]) rfl rfl hd kk
theorem ew_iald {i : EId} {n : Nat} {f : Int → Int} {x : Int} (hd : decode M.2.1 pc = .ok (.iaload, 1)) (hi : h i = some (kI 0 n f)) (h0 : 0 ≤ x) (h1 : x < n) (kk : EW M d kc ks Q (pc + 1) lv (aI (f x) :: st) h) : EW M d kc ks Q pc lv (aI x :: aR (some i) :: st) h := by
  refine ew_ofR (fun hh lo hs => okI (by have := hh i _ hi x.toNat (by omega); rw [e_nat h0] at this; exact this) (ok_t (ok_t hs))) (fun D p l e R s m args below meth c Z A H locs cells slots ad0 ad ls G hX hR hS hs kk => ?_) kk
  obtain ⟨⟨-, h2⟩, -⟩ := hR.1 i _ hi
  refine W.iald (v := .int (Int32.ofInt (f x))) G.1.1 G.1.2.1 h2 (e_arr G.2.2.1 (t := 0) (by omega) n _) (fun q => by cases q) (by rw [arrV_size]; exact e_in (ok_h hs) h0 h1) ?_ rfl rfl hd kk
  rw [(e_ix (ok_h hs) h0).1, arrV_read _ _ (by omega), e_nat h0]
theorem ew_bald {i : EId} {t n : Nat} {f : Int → Int} {x : Int} (hd : decode M.2.1 pc = .ok (.baload, 1)) (hi : h i = some (kI t n f)) (ht : t = 1 ∨ t = 2) (h0 : 0 ≤ x) (h1 : x < n) (kk : EW M d kc ks Q (pc + 1) lv (aI (f x) :: st) h) : EW M d kc ks Q pc lv (aI x :: aR (some i) :: st) h := by
  refine ew_ofR (fun hh lo hs => okI (by have := hh i _ hi x.toNat (by omega); rw [e_nat h0] at this; exact this) (ok_t (ok_t hs))) (fun D p l e R s m args below meth c Z A H locs cells slots ad0 ad ls G hX hR hS hs kk => ?_) kk
  obtain ⟨⟨-, h2⟩, -⟩ := hR.1 i _ hi
  rcases ht with rfl | rfl
  · refine W.zald (v := .int (Int32.ofInt (f x))) G.1.1 G.1.2.1 h2 (e_arr G.2.2.1 (t := 1) (by omega) n _) (fun q => by cases q) (by rw [arrV_size]; exact e_in (ok_h hs) h0 h1) ?_ rfl rfl hd kk
    rw [(e_ix (ok_h hs) h0).1, arrV_read _ _ (by omega), e_nat h0]
  · refine W.bald (v := .int (Int32.ofInt (f x))) G.1.1 G.1.2.1 h2 (e_arr G.2.2.1 (t := 2) (by omega) n _) (fun q => by cases q) (by rw [arrV_size]; exact e_in (ok_h hs) h0 h1) ?_ rfl rfl hd kk
    rw [(e_ix (ok_h hs) h0).1, arrV_read _ _ (by omega), e_nat h0]
theorem ew_lald {i : EId} {n : Nat} {f : Int → Int} {x : Int} (hd : decode M.2.1 pc = .ok (.laload, 1)) (hi : h i = some (kL n f)) (h0 : 0 ≤ x) (h1 : x < n) (kk : EW M d kc ks Q (pc + 1) lv (aL (f x) :: st) h) : EW M d kc ks Q pc lv (aI x :: aR (some i) :: st) h := by
  refine ew_ofR (fun hh lo hs => okL (by have := hh i _ hi x.toNat (by omega); rw [e_nat h0] at this; exact this) (ok_t (ok_t hs))) (fun D p l e R s m args below meth c Z A H locs cells slots ad0 ad ls G hX hR hS hs kk => ?_) kk
  obtain ⟨h2, -⟩ := hR.1 i _ hi
  refine W.lald (v := .long (Int64.ofInt (f x))) G.1.1 G.1.2.1 h2 (e_arr G.2.2.1 (t := 3) (by omega) n _) (fun q => by cases q) (by rw [arrV_size]; exact e_in (ok_h hs) h0 h1) ?_ rfl rfl hd kk
  rw [(e_ix (ok_h hs) h0).1, arrV_read _ _ (by omega), e_nat h0]
theorem ew_aald {i : EId} {t n : Nat} {f : Int → Option EId} {x : Int} (hd : decode M.2.1 pc = .ok (.aaload, 1)) (hi : h i = some (kQ t n f)) (h0 : 0 ≤ x) (h1 : x < n) (kk : EW M d kc ks Q (pc + 1) lv (aR (f x) :: st) h) : EW M d kc ks Q pc lv (aI x :: aR (some i) :: st) h := by
  refine ew_ofR (fun hh lo hs => ok1 (by have := hh i _ hi x.toNat (by omega); rw [e_nat h0] at this; exact this) (ok_t (ok_t hs))) (fun D p l e R s m args below meth c Z A H locs cells slots ad0 ad ls G hX hR hS hs kk => ?_) kk
  obtain ⟨⟨ht, h2⟩, -⟩ := hR.1 i _ hi
  refine W.aald (v := e_v ad (aR (f x))) (ty := e_ty (4 + t)) G.1.1 G.1.2.1 h2 (e_arr G.2.2.1 (t := 4 + t) (by omega) n _) ?_ (fun q => by cases q) (by rw [arrV_size]; exact e_in (ok_h hs) h0 h1) ?_ rfl rfl hd kk
  · rcases (show t = 0 ∨ t = 1 by omega) with rfl | rfl <;> rfl
  · rw [(e_ix (ok_h hs) h0).1, arrV_read _ _ (by omega), e_nat h0]
theorem e_iup {n : Nat} {x : Int} (h0 : 0 ≤ x) {α : Type} (g : α → Value) (f : Int → α) (v : α) (cI : ClassId) : arrV cI n (updV (fun j => g (f j)) x.toNat (g v)) = arrV cI n (fun j => g (iup f x v j)) := by
  refine arrV_ext fun j _ => ?_
  unfold updV iup
  by_cases e : j = x.toNat
  · rw [if_pos e, if_pos (by omega)]
  · rw [if_neg e, if_neg (by omega)]
theorem ew_iast {i : EId} {n : Nat} {f : Int → Int} {x v : Int} (hd : decode M.2.1 pc = .ok (.iastore, 1)) (hi : h i = some (kI 0 n f)) (h0 : 0 ≤ x) (h1 : x < n) (kk : EW M d kc ks Q (pc + 1) lv st (hup h i (kI 0 n (iup f x v)))) : EW M d kc ks Q pc lv (aI v :: aI x :: aR (some i) :: st) h := by
  refine ew_ofH (c1 := kI 0 n (iup f x v)) hi (fun hs => ok_t (ok_t (ok_t hs))) (fun hh hs j hj => ?_) (fun D p l e R s m args below meth c Z A H locs cells slots ad0 ad ls G hR hs kk => ?_) kk
  · unfold iup
    split
    · exact ok_h hs
    · exact hh i _ hi j hj
  · obtain ⟨⟨ht, h2⟩, -⟩ := hR.1 i _ hi
    refine W.iast G.1.1 G.1.2.1 h2 (e_arr G.2.2.1 (t := 0) (by omega) n _) (fun q => by cases q) (by rw [arrV_size]; exact e_in (ok_h (ok_t hs)) h0 h1) rfl rfl hd fun H1 e1 z oq => ?_
    refine kk H1 _ ⟨ht, ?_⟩ z oq
    rw [e1, (e_ix (ok_h (ok_t hs)) h0).1, arrV_store, e_iup h0 (fun k => Value.int (Int32.ofInt k)) f v]
theorem ew_last {i : EId} {n : Nat} {f : Int → Int} {x v : Int} (hd : decode M.2.1 pc = .ok (.lastore, 1)) (hi : h i = some (kL n f)) (h0 : 0 ≤ x) (h1 : x < n) (kk : EW M d kc ks Q (pc + 1) lv st (hup h i (kL n (iup f x v)))) : EW M d kc ks Q pc lv (aL v :: aI x :: aR (some i) :: st) h := by
  refine ew_ofH (c1 := kL n (iup f x v)) hi (fun hs => ok_t (ok_t (ok_t hs))) (fun hh hs j hj => ?_) (fun D p l e R s m args below meth c Z A H locs cells slots ad0 ad ls G hR hs kk => ?_) kk
  · unfold iup
    split
    · exact ok_h hs
    · exact hh i _ hi j hj
  · obtain ⟨h2, -⟩ := hR.1 i _ hi
    refine W.last G.1.1 G.1.2.1 h2 (e_arr G.2.2.1 (t := 3) (by omega) n _) (fun q => by cases q) (by rw [arrV_size]; exact e_in (ok_h (ok_t hs)) h0 h1) rfl rfl hd fun H1 e1 z oq => ?_
    refine kk H1 _ ?_ z oq
    show H1[ad i]? = _
    rw [e1, (e_ix (ok_h (ok_t hs)) h0).1, arrV_store, e_iup h0 (fun k => Value.long (Int64.ofInt k)) f v]
theorem ew_bast {i : EId} {t n : Nat} {f : Int → Int} {x v : Int} (hd : decode M.2.1 pc = .ok (.bastore, 1)) (hi : h i = some (kI t n f)) (ht : (t = 1 ∧ (v = 0 ∨ v = 1)) ∨ (t = 2 ∧ (Int32.ofInt v).toInt8.toInt32 = Int32.ofInt v)) (h0 : 0 ≤ x) (h1 : x < n) (kk : EW M d kc ks Q (pc + 1) lv st (hup h i (kI t n (iup f x v)))) : EW M d kc ks Q pc lv (aI v :: aI x :: aR (some i) :: st) h := by
  refine ew_ofH (c1 := kI t n (iup f x v)) hi (fun hs => ok_t (ok_t (ok_t hs))) (fun hh hs j hj => ?_) (fun D p l e R s m args below meth c Z A H locs cells slots ad0 ad ls G hR hs kk => ?_) kk
  · unfold iup
    split
    · exact ok_h hs
    · exact hh i _ hi j hj
  · obtain ⟨⟨ht0, h2⟩, -⟩ := hR.1 i _ hi
    rcases ht with ⟨rfl, hv⟩ | ⟨rfl, hv⟩
    · refine W.zast G.1.1 G.1.2.1 h2 (e_arr G.2.2.1 (t := 1) (by omega) n _) (fun q => by cases q) (by rw [arrV_size]; exact e_in (ok_h (ok_t hs)) h0 h1) rfl rfl hd fun H1 e1 z oq => ?_
      refine kk H1 _ ⟨ht0, ?_⟩ z oq
      rw [e1, (e_ix (ok_h (ok_t hs)) h0).1, (show narrow .boolean (.int (Int32.ofInt v)) = .int (Int32.ofInt v) by rcases hv with rfl | rfl <;> decide), arrV_store, e_iup h0 (fun k => Value.int (Int32.ofInt k)) f v]
    · refine W.bast G.1.1 G.1.2.1 h2 (e_arr G.2.2.1 (t := 2) (by omega) n _) (fun q => by cases q) (by rw [arrV_size]; exact e_in (ok_h (ok_t hs)) h0 h1) rfl rfl hd fun H1 e1 z oq => ?_
      refine kk H1 _ ⟨ht0, ?_⟩ z oq
      rw [e1, (e_ix (ok_h (ok_t hs)) h0).1, (show narrow .byte (.int (Int32.ofInt v)) = .int (Int32.ofInt v) by rw [narrow_byte, hv]), arrV_store, e_iup h0 (fun k => Value.int (Int32.ofInt k)) f v]
end EWH
