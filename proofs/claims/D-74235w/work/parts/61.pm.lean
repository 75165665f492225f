/-! THE PURE PART, 2: small methods of both, as they answer -/
set_option maxRecDepth 100000
theorem inI_s {n : Int} (h : -1000000 ≤ n ∧ n ≤ 1000000) : inI n := ⟨by omega, by omega⟩
/-- the reference's book -/
def bkM (m : MS) : PB := bk (fun k => match k with | 0 => m.1 6 | 1 => m.1 27 | 2 => m.1 30 | _ => m.1 33) (fun k => match k with | 0 => m.2 7 | 1 => m.2 28 | 2 => m.2 31 | 3 => m.2 32 | 4 => m.2 34 | _ => m.2 35) (fun t k => m.2 29 (3 * t + k))
def mref (m : MS) (a : Int) : MS := ms (ms (ms m 0 0) 3 (-1)) 1 a
def maR (m : MS) (j : Nat) (r : Int → Int) : MS := (m.1, fun k => if k = j then r else m.2 k)
theorem maR_at {m : MS} {j : Nat} {r : Int → Int} : (maR m j r).2 j = r := if_pos rfl
theorem maR_id {m : MS} {j : Nat} : maR m j (m.2 j) = m := by
  unfold maR
  refine Prod.ext rfl (funext fun k => ?_)
  show (if k = j then m.2 j else m.2 k) = m.2 k
  by_cases e : k = j
  · rw [if_pos e, e]
  · rw [if_neg e]
theorem ma_maR {m : MS} {j : Nat} {r : Int → Int} {x v : Int} : ma (maR m j r) j x v = maR m j (iup r x v) := by
  unfold maR ma
  refine Prod.ext rfl (funext fun k => ?_)
  show (if k = j then iup (if j = j then r else m.2 j) x v else if k = j then r else m.2 k) = if k = j then iup r x v else m.2 k
  by_cases e : k = j
  · rw [if_pos e, if_pos rfl, if_pos e]
  · rw [if_neg e, if_neg e, if_neg e]
theorem c_in {a b c : Int} {s : MS} {K : Int → MS → Prop} (h1 : b ≤ a ∧ a ≤ c → K 1 s) (h2 : ¬ (b ≤ a ∧ a ≤ c) → K 0 s) : C_in a b c s K := by
  unfold C_in B_in_E
  exact ⟨fun e => h2 (by omega), fun e => ⟨fun f => h2 (by omega), fun f => h1 (by omega)⟩⟩
theorem c_isTerm {a : Int} {s : MS} {K : Int → MS → Prop} (hn : 0 ≤ s.1 27 ∧ s.1 27 ≤ 24) (h1 : 0 ≤ a ∧ a < s.1 27 → K 1 s) (h2 : ¬ (0 ≤ a ∧ a < s.1 27) → K 0 s) : C_isTerm a s K := by
  unfold C_isTerm B_isTerm_E
  exact ⟨inI_s (by omega), c_in (fun e => ⟨Or.inr rfl, h1 (by omega)⟩) (fun e => ⟨Or.inl rfl, h2 (by omega)⟩)⟩
theorem c_unless {a : Int} {s : MS} {K : Int → MS → Prop} (h : K (if a = 0 then 1 else 0) s) : C_unless a s K := by
  unfold C_unless B_unless_E
  exact ⟨fun e => by rw [if_pos e] at h; exact h, fun e => by rw [if_neg e] at h; exact h⟩
theorem c_isRefused {a : Int} {s : MS} {K : Int → MS → Prop} (h1 : a = 0 → K 0 (mref s 0)) (h2 : a ≠ 0 → K 1 (mref s a)) : C_isRefused a s K := by
  unfold C_isRefused B_isRefused_E
  rintro _ rfl _ rfl _ rfl
  exact ⟨fun e => by rw [e]; exact h1 e, fun e => h2 e⟩
theorem c_groupsIn {a : Nat} {s : MS} {K : Int → MS → Prop} (ha : mK a = 1 ∧ mL a = 24) (hn : 0 ≤ s.1 27 ∧ s.1 27 ≤ 24) (h : K (gr (s.1 27) (s.2 a)) s) : C_groupsIn a s K := by
  intro X hX
  have L : ∀ k, 0 ≤ k → k ≤ s.1 27 → X a (gr k (s.2 a)) k s := by
    refine upto (fun k k0 k1 ih => hX _ _ _ _ ?_)
    unfold B_groupsIn_4
    have hb := cn_b (P := fun t => s.2 a t = t) k0
    refine ⟨fun e => ?_, fun e => ⟨⟨ha.1, k0, by rw [ha.2]; omega⟩, fun e2 => ⟨?_, ?_, ?_⟩, fun e2 => ⟨?_, ?_, ?_⟩⟩⟩
    · rw [show k = s.1 27 by omega]; exact h
    · exact inI_s (by unfold gr; omega)
    · exact inI_s (by omega)
    · have := ih (by omega)
      rw [gr_y k0 e2] at this
      exact this
    · exact inI_s (by unfold gr; omega)
    · exact inI_s (by omega)
    · have := ih (by omega)
      rw [gr_n k0 e2] at this
      rw [Int.add_zero]
      exact this
  exact L 0 (by omega) hn.1
theorem c_clashIn {a : Nat} {s : MS} {K : Int → MS → Prop} (ha : mK a = 1 ∧ mL a = 24) (hb : (bkM s).ok) (h : K (fi (fun k => s.2 a ((bkM s).da k) = s.2 a ((bkM s).db k)) (bkM s).nd) s) : C_clashIn a s K := by
  intro X hX
  have h8 := hb.nd
  have h24 := hb.nt
  have L : ∀ k, 0 ≤ k → k ≤ (bkM s).nd → fi (fun k => s.2 a ((bkM s).da k) = s.2 a ((bkM s).db k)) k = -2 → X a k s := by
    refine upto (fun k k0 k1 ih hf => hX _ _ _ ?_)
    unfold B_clashIn_2
    refine ⟨fun e => ?_, fun e => ?_⟩
    · have e : (bkM s).nd ≤ k := e
      rw [show (bkM s).nd = k by omega, hf] at h
      exact h
    · have e : ¬ (bkM s).nd ≤ k := e
      have d1 := hb.da k k0 (by omega)
      have d2 := hb.db k k0 (by omega)
      refine ⟨⟨k0, by omega⟩, ⟨ha.1, d1.1, by rw [ha.2]; show (bkM s).da k < 24; omega⟩, ⟨k0, by omega⟩, ⟨ha.1, d2.1, by rw [ha.2]; show (bkM s).db k < 24; omega⟩, fun e2 => ?_, fun e2 => ⟨inI_s (by omega), ih (by omega) (fi_n k0 hf e2)⟩⟩
      rw [fi_y k0 hf e2 (by omega)] at h
      exact h
  exact L 0 (by omega) h8.1 fi_0
theorem c_takesOf {t : Int} {s : MS} {K : Int → MS → Prop} (hb : (bkM s).ok) (t0 : 0 ≤ t) (t1 : t < (bkM s).nt) (h : K ((bkM s).tk ((bkM s).fn t)) s) : C_takesOf t s K := by
  have h1 := hb.fn t t0 t1
  have h2 := hb.nf
  have h3 := hb.nt
  exact ⟨⟨t0, by omega⟩, ⟨h1.1, by show (bkM s).fn t < 16; omega⟩, h⟩
theorem c_isAlike {a : Nat} {t u : Int} {s : MS} {K : Int → MS → Prop} (ha : mK a = 1 ∧ mL a = 24) (hb : (bkM s).ok) (t0 : 0 ≤ t) (t1 : t < (bkM s).nt) (u0 : 0 ≤ u) (u1 : u < (bkM s).nt) (h1 : alk (bkM s) (s.2 a) t u → K 1 s) (h2 : ¬ alk (bkM s) (s.2 a) t u → K 0 s) : C_isAlike a t u s K := by
  intro X hX
  have h24 := hb.nt
  unfold B_isAlike_E
  refine ⟨⟨t0, by omega⟩, ⟨u0, by omega⟩, fun e => ?_, fun e => h2 (fun q => e q.1)⟩
  have e : (bkM s).fn t = (bkM s).fn u := e
  have f1 := hb.fn t t0 t1
  have f2 := hb.tk _ f1.1 f1.2
  have L : ∀ k, 0 ≤ k → k ≤ (bkM s).tk ((bkM s).fn t) → (∀ i, 0 ≤ i → i < k → s.2 a ((bkM s).pt t i) = s.2 a ((bkM s).pt u i)) → X a t u k s := by
    refine upto (fun k k0 k1 ih hp => hX _ _ _ _ _ ?_)
    unfold B_isAlike_20
    refine c_takesOf hb t0 t1 ⟨fun q => h1 ⟨e, fun i i0 i1 => hp i i0 (by omega)⟩, fun q => ?_⟩
    have p1 := hb.pt t t0 t1 k k0 (by omega)
    have p2 := hb.pt u u0 u1 k k0 (by rw [← e]; omega)
    have q1 : 0 ≤ s.2 29 (3 * t + k) ∧ s.2 29 (3 * t + k) < t := p1
    have q2 : 0 ≤ s.2 29 (3 * u + k) ∧ s.2 29 (3 * u + k) < u := p2
    refine ⟨inI_s (by omega), inI_s (by omega), ⟨by omega, by omega⟩, ⟨ha.1, q1.1, by rw [ha.2]; omega⟩, inI_s (by omega), inI_s (by omega), ⟨by omega, by omega⟩, ⟨ha.1, q2.1, by rw [ha.2]; omega⟩, fun e2 => ⟨inI_s (by omega), ih (by omega) (fun i i0 i1 => ?_)⟩, fun e2 => h2 (fun q => e2 (q.2 k k0 (by omega)))⟩
    by_cases ei : i = k
    · rw [ei]; exact e2
    · exact hp i i0 (by omega)
  exact L 0 (by omega) f2.1 (fun i i0 i1 => by omega)
theorem c_unites {a : Nat} {t u : Int} {s : MS} {K : MS → Prop} (ha : mK a = 1 ∧ mL a = 24) (hn : 0 ≤ s.1 27 ∧ s.1 27 ≤ 24) (t0 : 0 ≤ t) (t1 : t < s.1 27) (u0 : 0 ≤ u) (u1 : u < s.1 27) (h : K (maR s a (un (s.1 27) (s.2 a) t u))) : C_unites a t u s K := by
  intro X hX
  have L : ∀ z, z = min (s.2 a t) (s.2 a u) → ∀ k, 0 ≤ k → k ≤ s.1 27 → X a (s.2 a t) (s.2 a u) z k (maR s a (fun i => if i < k then un (s.1 27) (s.2 a) t u i else s.2 a i)) := by
    intro z hz
    refine upto (fun k k0 k1 ih => hX _ _ _ _ _ _ ?_)
    have step : k < s.1 27 → ∀ v, v = un (s.1 27) (s.2 a) t u k → X a (s.2 a t) (s.2 a u) z (k + 1) (ma (maR s a (fun i => if i < k then un (s.1 27) (s.2 a) t u i else s.2 a i)) a k v) := by
      intro hk v hv
      rw [ma_maR]
      have := ih hk
      rw [show iup (fun i => if i < k then un (s.1 27) (s.2 a) t u i else s.2 a i) k v = (fun i => if i < k + 1 then un (s.1 27) (s.2 a) t u i else s.2 a i) from ?_]
      · exact this
      · funext i
        show (if i = k then v else if i < k then _ else _) = _
        by_cases e : i = k
        · rw [if_pos e, if_pos (by omega), hv, e]
        · rw [if_neg e]
          by_cases e2 : i < k
          · rw [if_pos e2, if_pos (by omega)]
          · rw [if_neg e2, if_neg (by omega)]
    have hrow : (maR s a (fun i => if i < k then un (s.1 27) (s.2 a) t u i else s.2 a i)).2 a k = s.2 a k := by rw [maR_at, if_neg (by omega)]
    unfold B_unites_29
    refine ⟨fun e => ?_, fun e => ?_⟩
    · have e : s.1 27 ≤ k := e
      have hk : k = s.1 27 := by omega
      rw [show (fun i => if i < k then un (s.1 27) (s.2 a) t u i else s.2 a i) = un (s.1 27) (s.2 a) t u from ?_]
      · exact h
      · funext i
        by_cases e2 : i < k
        · rw [if_pos e2]
        · rw [if_neg e2]
          unfold un
          rw [if_neg (fun q => by omega)]
    · have e : ¬ s.1 27 ≤ k := e
      have hk : k < s.1 27 := by omega
      have hr : mK a = 1 ∧ 0 ≤ k ∧ k < (mL a : Int) := ⟨ha.1, k0, by rw [ha.2]; omega⟩
      have hu := un_in (r := s.2 a) (t := t) (u := u) k0 hk
      rw [hrow]
      refine ⟨hr, fun e2 => ⟨hr, ?_⟩, fun e2 => ⟨hr, fun e3 => ⟨hr, ?_⟩, fun e3 => ⟨hr, hr, ?_⟩⟩⟩
      · rintro _ rfl
        exact ⟨inI_s (by omega), step hk _ (by rw [hu, if_pos (Or.inl e2)]; exact hz)⟩
      · rintro _ rfl
        exact ⟨inI_s (by omega), step hk _ (by rw [hu, if_pos (Or.inr e3)]; exact hz)⟩
      · rintro _ rfl
        exact ⟨inI_s (by omega), step hk _ (by rw [hu, if_neg (by omega)])⟩
  have L0 : ∀ z, z = min (s.2 a t) (s.2 a u) → X a (s.2 a t) (s.2 a u) z 0 s := by
    intro z hz
    have := L z hz 0 (by omega) hn.1
    rw [show maR s a (fun i => if i < 0 then un (s.1 27) (s.2 a) t u i else s.2 a i) = s from ?_] at this
    · exact this
    · refine Prod.ext rfl (funext fun k => ?_)
      show (if k = a then _ else s.2 k) = s.2 k
      by_cases e : k = a
      · rw [if_pos e, e]
        funext i
        by_cases e2 : i < 0
        · rw [if_pos e2]
          unfold un
          rw [if_neg (fun q => by omega)]
        · rw [if_neg e2]
      · rw [if_neg e]
  unfold B_unites_E
  exact ⟨⟨ha.1, t0, by rw [ha.2]; omega⟩, ⟨ha.1, u0, by rw [ha.2]; omega⟩, fun e => L0 _ (by omega), fun e => L0 _ (by omega)⟩
