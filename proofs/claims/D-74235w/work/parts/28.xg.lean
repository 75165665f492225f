/-! THE SYSTEM's METHODS: the trail grows -/
set_option maxRecDepth 100000
/-- the trail is a new one, twice as long -/
def yg (s : XS) (f : Int → Int) : XS := (s.1, fun i => if i = 4 then ((ms (s.2 4) 20 ((xq s + 1 : Nat) : Int)).1, fun k => if k = 100 + (xq s + 1) then f else (s.2 4).2 k) else s.2 i)
theorem xtl_2 {q : Nat} : xtl (q + 1) = 2 * xtl q := by unfold xtl; rw [Nat.pow_succ]; omega
theorem xC_tn {V : XV} {s : XS} : xC V s (tI V 4 (xq s + 1)) = none := by
  rw [xC_t (by omega)]
  unfold tC
  rw [if_pos rfl, if_neg (by unfold xq; omega)]
theorem yg_4 {s : XS} {f : Int → Int} : (yg s f).2 4 = ((ms (s.2 4) 20 ((xq s + 1 : Nat) : Int)).1, fun k => if k = 100 + (xq s + 1) then f else (s.2 4).2 k) := rfl
theorem yg_n {s : XS} {f : Int → Int} {j : Nat} (h : j ≠ 4) : (yg s f).2 j = s.2 j := by unfold yg; exact if_neg h
theorem sC_cong {V : XV} {r r' : MS} {j k : Nat} (h2 : ∀ k, k < 100 → r'.2 k = r.2 k) (hk : k ≠ 99) : sC V r' j k = sC V r j k := by
  unfold sC
  split <;> first | rfl | exact absurd rfl hk | rw [h2 _ (by decide)]
theorem sF_yg {V : XV} {s : XS} {f : Int → Int} : fup (sF V (s.2 4) 4) 2 (aR (some (tI V 4 (xq s + 1)))) = sF V ((yg s f).2 4) 4 := by
  rw [yg_4]
  funext i
  unfold fup
  split
  · next e => subst e; rfl
  · next e =>
    have h1 : (ms (s.2 4) 20 ((xq s + 1 : Nat) : Int)).1 1 = (s.2 4).1 1 := ms_n (by decide)
    have h3 : (ms (s.2 4) 20 ((xq s + 1 : Nat) : Int)).1 3 = (s.2 4).1 3 := ms_n (by decide)
    have h10 : (ms (s.2 4) 20 ((xq s + 1 : Nat) : Int)).1 10 = (s.2 4).1 10 := ms_n (by decide)
    have h13 : (ms (s.2 4) 20 ((xq s + 1 : Nat) : Int)).1 13 = (s.2 4).1 13 := ms_n (by decide)
    unfold sF
    split <;> first | rfl | exact absurd rfl e | rw [h1] | rw [h3] | rw [h10] | rw [h13]
theorem xh_grow {V : XV} {s : XS} {g : AH} {f : Int → Int} : hup (xh V s (hup g (tI V 4 (xq s + 1)) (kI 0 (xtl (xq s + 1)) f))) (sI V 4 99) (kO 5 (fup (sF V (s.2 4) 4) 2 (aR (some (tI V 4 (xq s + 1)))))) = xh V (yg s f) g := by
  rw [sF_yg (f := f)]
  have hT : xC V (yg s f) (tI V 4 (xq s + 1)) = some (kI 0 (xtl (xq s + 1)) f) := by
    rw [xC_t (by omega), yg_4]
    unfold tC
    rw [if_pos rfl, if_pos (by show xq s + 1 ≤ Int.toNat ((ms (s.2 4) 20 ((xq s + 1 : Nat) : Int)).1 20); rw [ms_1]; omega)]
    exact congrArg (fun z => some (kI 0 (xtl (xq s + 1)) z)) (if_pos rfl)
  have hS : xC V (yg s f) (sI V 4 99) = some (kO 5 (sF V ((yg s f).2 4) 4)) := by rw [xC_s (by omega)]; rfl
  funext i
  by_cases e1 : i = sI V 4 99
  · subst e1
    rw [hup_self, xh_of hS]
  · rw [hup_ne e1]
    by_cases e2 : i = tI V 4 (xq s + 1)
    · subst e2
      rw [xh_of hT, xh_g xC_tn, hup_self]
    · have e3 : xC V (yg s f) i = xC V s i := by
        unfold xC
        split
        · rfl
        · split
          · rfl
          · split
            · next e =>
              by_cases q : i.2.1 - 20 = 4
              · rw [q, yg_4]
                have hk : i.2.2 ≠ 99 := fun z => e1 (by
                  obtain ⟨a, b, c⟩ := i
                  simp at e q z
                  simp only [sI, Prod.mk.injEq]
                  refine ⟨?_, by omega, z⟩
                  rw [e.2, q])
                exact sC_cong (fun k h => if_neg (by omega)) hk
              · rw [yg_n q]
            · split
              · next e =>
                by_cases q : i.2.1 - 30 = 4
                · rw [q, yg_4]
                  have hk : i.2.2 ≠ xq s + 1 := fun z => e2 (by
                    obtain ⟨a, b, c⟩ := i
                    simp at e q z
                    simp only [tI, Prod.mk.injEq]
                    refine ⟨?_, by omega, z⟩
                    rw [e.2, q])
                  unfold tC
                  rw [if_pos rfl, if_pos rfl]
                  have h20 : Int.toNat ((ms (s.2 4) 20 ((xq s + 1 : Nat) : Int)).1 20) = xq s + 1 := by rw [ms_1]; omega
                  show (if i.2.2 ≤ Int.toNat ((ms (s.2 4) 20 ((xq s + 1 : Nat) : Int)).1 20) then _ else _) = _
                  have hz : (fun k => if k = 100 + (xq s + 1) then f else (s.2 4).2 k) (100 + i.2.2) = (s.2 4).2 (100 + i.2.2) := if_neg (by omega)
                  rw [h20]
                  show (if i.2.2 ≤ xq s + 1 then some (kI 0 (xtl i.2.2) ((fun k => if k = 100 + (xq s + 1) then f else (s.2 4).2 k) (100 + i.2.2))) else none) = _
                  rw [hz]
                  have : (i.2.2 ≤ xq s + 1) ↔ i.2.2 ≤ ((s.2 4).1 20).toNat := by unfold xq at hk ⊢; omega
                  simp only [this]
                · rw [yg_n q]
              · rfl
      unfold xh
      rw [e3, hup_ne e2]
section GW
variable {M : EM} {d kc ks : Nat} {Q : AO → AH → Prop} {pc idx : Nat} {lv : List (Nat × AV)} {st rest : List AV} {V : XV} {s : XS} {g : AH} {o n ds : String} {x : Int} {f : Int → Int}
theorem gw_new (hd : decode M.2.1 pc = .ok (.newarray .int, 2)) (h0 : x = 2 * (xtl (xq s) : Int)) (hb : xtl (xq s) ≤ 5000) (ht : ∀ q, g (tI V 4 q) = none) (b1 : 1 ≤ kc) (b2 : xtl (xq s + 1) ≤ ks) (k : EW M d (kc - 1) (ks - xtl (xq s + 1)) Q (pc + 2) lv (aR (some (tI V 4 (xq s + 1))) :: st) (xh V s (hup g (tI V 4 (xq s + 1)) (kI 0 (xtl (xq s + 1)) (fun _ => 0))))) : EW M d kc ks Q pc lv (aI x :: st) (xh V s g) := by
  refine ew_newIB (t := 0) (N := xtl (xq s + 1)) (i := tI V 4 (xq s + 1)) hd rfl (by decide) q302 (by rw [h0, xtl_2]; omega) (by rw [xtl_2]; omega) ((xh_g xC_tn).trans (ht _)) (by show 10 + V 4 ≠ 9; omega) b1 b2 ?_
  rw [xh_upg xC_tn]
  exact k
theorem gw_copy {sp dp : Int} (hd : decode M.2.1 pc = .ok (.invokestatic idx, 3)) (w1 : Cond.methodLink M.1.cls idx arraycopyName ∈ lw_all) (h1 : sp = 0) (h2 : dp = 0) (h3 : 0 ≤ x ∧ x ≤ (xtl (xq s) : Int)) (h8 : (rest.map fun v => if e_is2 v then 2 else 1).sum ≤ 8)
    (k : EW M (d + 1) kc ks Q (pc + 3) lv rest (xh V s (hup g (tI V 4 (xq s + 1)) (kI 0 (xtl (xq s + 1)) (icpy ((s.2 4).2 (100 + xq s)) f 0 0 x))))) : EW M (d + 1) kc ks Q pc lv (aI x :: aI dp :: aR (some (tI V 4 (xq s + 1))) :: aI sp :: aR (some (tI V 4 (xq s))) :: rest) (xh V s (hup g (tI V 4 (xq s + 1)) (kI 0 (xtl (xq s + 1)) f))) := by
  subst h1 h2
  refine ew_copyi hd w1 (xh_t (s := s)) ((xh_g xC_tn).trans (hup_self _ _ _)) (by omega) (by omega) h3.1 (by omega) (by rw [xtl_2]; omega) h8 ?_
  rw [xh_upg xC_tn, hup_hup]
  exact k
theorem gw_put (hd : decode M.2.1 pc = .ok (.putfield idx, 3)) (hl : e_fl M.1.cls idx "ReasonCloser$Groups" "trail" "[I") (k : ∀ s1, s1 = yg s f → EW M d kc ks Q (pc + 3) lv st (xh V s1 g)) : EW M d kc ks Q pc lv (aR (some (tI V 4 (xq s + 1))) :: aR (some (sI V 4 99)) :: st) (xh V s (hup g (tI V 4 (xq s + 1)) (kI 0 (xtl (xq s + 1)) f))) := by
  refine ew_put hd hl yf_2 (xh_y (j := 4) (by omega)) (show scl 4 ∈ [3, 4, 5] from scl_G) (ty := .array .int) (by decide +kernel) trivial ?_
  rw [show scl 4 = 5 from rfl, xh_grow]
  exact k _ rfl
end GW
theorem ht_of {V : XV} {g : AH} (hr : xfree V g) : ∀ q, g (tI V 4 q) = none := fun q => hr _ (Or.inr (Or.inr (Or.inr ⟨⟨by show 30 ≤ 34; omega, by show 34 < 35; omega⟩, rfl⟩)))
