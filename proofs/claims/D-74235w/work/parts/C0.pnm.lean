/-! THE PURE PART, 57: named -/
set_option maxRecDepth 100000
theorem c_namedR {a n : Int} {m : MS} (hn : 0 ≤ n ∧ n ≤ 500) (h26 : 0 ≤ m.1 26 ∧ m.1 26 ≤ 24) (hin : (0 ≤ a ∧ a ≤ m.1 5 → n = a) ∧ (¬ (0 ≤ a ∧ a ≤ m.1 5) → n = 0)) : ∃ p e, ((0 ≤ p ∧ p ≤ e ∧ e ≤ n) ∧ (∀ i, 0 ≤ i → i < p → m.2 4 i = 32) ∧ (p < n → m.2 4 p ≠ 32) ∧ (∀ i, e ≤ i → i < n → m.2 4 i = 32) ∧ (p < e → m.2 4 (e - 1) ≠ 32)) ∧ ∀ (v : Int) (K : Int → MS → Prop), isFirst (fun k => atP (ms m 0 0) 12 (6 * k) p e) (m.1 26) v → (p < e → v ≠ -1 → K v (ms m 0 0)) → (¬ (p < e ∧ v ≠ -1) → K 0 (ms (ms m 0 0) 0 1)) → C_named a m K := by
  obtain ⟨p, ⟨p0, p1⟩, p2, p3⟩ := firstP (P := fun i => m.2 4 i = 32) (n := n) n.toNat 0 hn.1 (by omega)
  have p3 : p < n → m.2 4 p ≠ 32 := fun q => p3.resolve_left (by omega)
  have trim : ∀ d : Nat, ∀ x : Int, p ≤ x → x ≤ n → x - p = d → ∃ e, (p ≤ e ∧ e ≤ x) ∧ (∀ i, e ≤ i → i < x → m.2 4 i = 32) ∧ (p < e → m.2 4 (e - 1) ≠ 32) := by
    intro d
    induction d with
    | zero => intro x x0 x1 hd; exact ⟨x, ⟨x0, Int.le_refl _⟩, fun i i0 i1 => by omega, fun q => by omega⟩
    | succ d ih =>
      intro x x0 x1 hd
      by_cases c : m.2 4 (x - 1) = 32
      · obtain ⟨e, ⟨e0, e1⟩, e2, e3⟩ := ih (x - 1) (by omega) (by omega) (by omega)
        refine ⟨e, ⟨e0, by omega⟩, fun i i0 i1 => ?_, e3⟩
        by_cases ei : i = x - 1
        · rw [ei]; exact c
        · exact e2 i i0 (by omega)
      · exact ⟨x, ⟨x0, Int.le_refl _⟩, fun i i0 i1 => by omega, fun _ => c⟩
  obtain ⟨e, ⟨e0, e1⟩, e2, e3⟩ := trim (n - p).toNat n p1 (Int.le_refl _) (by omega)
  refine ⟨p, e, ⟨⟨p0, e0, e1⟩, fun i i0 i1 => p2 i i0 i1, p3, e2, e3⟩, fun v K hv hy hno => ?_⟩
  intro X25 X47 X74 h25 h47 h74
  have L74 : X74 p e 0 (ms m 0 0) := by
    have b26 : (ms m 0 0).1 26 = m.1 26 := rfl
    by_cases q : e ≤ p
    · refine h74 _ _ _ _ ⟨fun _ => ?_, fun q2 => absurd q q2⟩
      rintro _ rfl
      exact hno (fun q2 => by omega)
    · have L : ∀ k, 0 ≤ k → k ≤ m.1 26 → (∀ i, 0 ≤ i → i < k → ¬ atP (ms m 0 0) 12 (6 * i) p e) → X74 p e k (ms m 0 0) := by
        refine upto (fun k k0 k1 ih hk => h74 _ _ _ _ ⟨fun q2 => absurd q2 q, fun _ => ⟨fun q2 => ?_, fun q2 => ⟨inI_s (by omega), c_isAt rfl ⟨by omega, by show 6 * k + 6 ≤ 288; omega⟩ (by omega) p0 (by omega) (by omega) (by omega) (fun q3 => ⟨fun q4 => absurd q4 (by decide), fun _ => ?_⟩) (fun q3 => ⟨fun _ => ⟨inI_s (by omega), ih (by omega) (fun i i0 i1 => ?_)⟩, fun q4 => absurd rfl q4⟩)⟩⟩⟩)
        · rintro _ rfl
          have q2 : m.1 26 ≤ k := q2
          refine hno (fun q4 => ?_)
          rcases hv with ⟨a1, _⟩ | ⟨a1, a2, _⟩
          · exact q4.2 a1
          · exact hk v a1.1 (by omega) a2
        · have q2 : ¬ m.1 26 ≤ k := q2
          have : v = k := by
            rcases hv with ⟨_, a1⟩ | ⟨a1, a2, a3⟩
            · exact absurd q3 (a1 k k0 (by omega))
            · by_cases c1 : v < k
              · exact absurd a2 (hk v a1.1 c1)
              · by_cases c2 : k < v
                · exact absurd q3 (a3 k k0 c2)
                · omega
          rw [← this]
          exact hy (by omega) (by omega)
        · by_cases ei : i = k
          · rw [ei]; exact q3
          · exact hk i i0 (by omega)
      exact L 0 (Int.le_refl _) h26.1 (fun i i0 i1 => by omega)
  have L47 : ∀ d : Nat, ∀ x : Int, e ≤ x → x ≤ n → x - e = d → X47 p x (ms m 0 0) := by
    intro d
    induction d with
    | zero =>
      intro x x0 x1 hd
      have : x = e := by omega
      rw [this]
      refine h47 _ _ _ ⟨fun _ => L74, fun q => ⟨inI_s (by omega), ⟨by omega, by omega⟩, fun q2 => absurd q2 (e3 (by omega)), fun _ => L74⟩⟩
    | succ d ih =>
      intro x x0 x1 hd
      refine h47 _ _ _ ⟨fun q => by omega, fun q => ⟨inI_s (by omega), ⟨by omega, by omega⟩, fun _ => ⟨inI_s (by omega), ?_⟩, fun q2 => absurd (e2 (x - 1) (by omega) (by omega)) q2⟩⟩
      exact ih (x + (-1)) (by omega) (by omega) (by omega)
  have L25 : ∀ k, 0 ≤ k → k ≤ p → X25 k n (ms m 0 0) := by
    refine upto (fun k k0 k1 ih => h25 _ _ _ ⟨fun q => ?_, fun q => ⟨⟨k0, by omega⟩, fun q2 => ⟨inI_s (by omega), ih ?_⟩, fun q2 => ?_⟩⟩)
    · rw [show k = p by omega]; exact L47 (n - e).toNat n e1 (Int.le_refl _) (by omega)
    · by_cases c : k = p
      · rw [c] at q2; exact absurd q2 (p3 (by omega))
      · omega
    · have : k = p := by
        by_cases c : k < p
        · exact absurd (p2 k k0 c) q2
        · omega
      rw [this]; exact L47 (n - e).toNat n e1 (Int.le_refl _) (by omega)
  have := L25 0 (Int.le_refl _) p0
  unfold B_named_E
  rintro _ rfl
  refine c_in (fun q => ⟨fun q2 => absurd q2 (by decide), fun _ => ?_⟩) (fun q => ⟨fun _ => ?_, fun q2 => absurd rfl q2⟩)
  · rw [← hin.1 q]; exact this
  · rw [hin.2 q] at this; exact this
theorem x2_termX {w v : Int} {s : XS} {K : Int → Prop} (hn : 0 ≤ s.1.1 31 ∧ s.1.1 31 ≤ 1000) (hk : xok s 1) (hm : s.1.1 31 ≤ s.1.1 41) (hv : isFirst (fun k => s.1.2 32 k = w) (s.1.1 31) v) (h : K v) : C_X2_term w s K := by
  intro X hX
  have L : ∀ k, 0 ≤ k → k ≤ s.1.1 31 → (∀ i, 0 ≤ i → i < k → s.1.2 32 i ≠ w) → X w k := by
    refine upto (fun k k0 k1 ih hp => hX _ _ ⟨fun e => ?_, fun e => ⟨⟨⟨k0, by omega⟩, hk⟩, ⟨k0, by omega⟩, ⟨k0, by omega⟩, fun q => ?_, fun q => ⟨inI_s (by omega), ih (by omega) (fun i i0 i1 => ?_)⟩⟩⟩)
    · rcases hv with ⟨e1, _⟩ | ⟨h1, h2, _⟩
      · rw [e1] at h; exact h
      · exact absurd h2 (hp v h1.1 (by omega))
    · have : v = k := by
        rcases hv with ⟨_, h1⟩ | ⟨h1, h2, h3⟩
        · exact absurd q (h1 k k0 (by omega))
        · by_cases q1 : v < k
          · exact absurd h2 (hp v h1.1 q1)
          · by_cases q2 : k < v
            · exact absurd q (h3 k k0 q2)
            · omega
      rw [← this]; exact h
    · by_cases e2 : i = k
      · rw [e2]; exact q
      · exact hp i i0 (by omega)
  exact L 0 (Int.le_refl _) hn.1 (fun i i0 i1 => by omega)
/-- the system's way over the tape -/
theorem x_namedR {a p q r : Int} {t : Int → Int} {s : XS} {K : Int → Prop} {KX : Prop} (hin : 0 ≤ a ∧ a ≤ s.1.1 3) (h5 : s.1.1 3 ≤ 500) (hT : tpR (s.1.2 2) t) (hpq : 0 ≤ p ∧ p ≤ q ∧ q ≤ r ∧ r ≤ a) (h1 : ∀ i, 0 ≤ i → i < p → t i = 32) (h2 : p < a → t p ≠ 32) (h3 : ∀ i, p ≤ i → i < q → isLet (t i)) (h4 : q < a → ¬ isLet (t q)) (h6 : ∀ i, q ≤ i → i < r → t i = 32) (h7 : r < a → t r ≠ 32) (hk : (r = a → (p < q ∧ q - p ≤ 6 → C_X2_term (pkN (fun k => t (p + k)) (q - p).toNat) s (fun r9 => (r9 = -1 → KX) ∧ (¬ r9 = -1 → K r9)))) ∧ (¬ (r = a ∧ p < q ∧ q - p ≤ 6) → KX)) : C_X1_named a s K KX := by
  intro X2 X41 X110 hX2 hX41 hX110
  have b32 : ∀ k, 0 ≤ k → k < a → (s.1.2 2 k = 32 ↔ t k = 32) := fun k k0 k1 => by
    obtain ⟨e1, e2⟩ := hT k k0 (by omega)
    split at e2 <;> omega
  have bL : ∀ k, 0 ≤ k → k < a → ((97 ≤ s.1.2 2 k ∧ s.1.2 2 k ≤ 122) ↔ isLet (t k)) := fun k k0 k1 => by
    obtain ⟨e1, e2⟩ := hT k k0 (by omega)
    unfold isLet
    split at e2 <;> omega
  have bE : ∀ k, 0 ≤ k → k < a → isLet (t k) → s.1.2 2 k = t k := fun k k0 k1 hl => by
    obtain ⟨e1, e2⟩ := hT k k0 (by omega)
    unfold isLet at hl
    split at e2 <;> omega
  have pb : ∀ n : Nat, (n : Int) ≤ q - p → 0 ≤ pkN (fun k => t (p + k)) n ∧ pkN (fun k => t (p + k)) n < 256 ^ n := fun n hn => pkN_b n (fun k k0 k1 => by
    have := h3 (p + k) (by omega) (by omega)
    unfold isLet at this
    constructor <;> omega)
  have nz : ∀ n : Nat, (n : Int) ≤ q - p → 0 < n → pkN (fun k => t (p + k)) n ≠ 0 := fun n hn h0 => by
    obtain ⟨n', rfl⟩ : ∃ n', n = n' + 1 := ⟨n - 1, by omega⟩
    have e1 := (pb n' (by omega)).1
    have e2 := h3 (p + (n' : Int)) (by omega) (by omega)
    unfold isLet at e2
    show pkN _ n' * 256 + t (p + (n' : Int)) ≠ 0
    omega
  -- at the end
  have fin : ∀ w : Int, w = (if q - p ≤ 6 then pkN (fun k => t (p + k)) (q - p).toNat else 0) → ((r = a → ((w = 0 → KX) ∧ (¬ w = 0 → C_X2_term w s (fun r9 => (r9 = -1 → KX) ∧ (¬ r9 = -1 → K r9))))) ∧ (¬ r = a → KX)) := by
    intro w hw
    refine ⟨fun e => ⟨fun e0 => hk.2 (fun q2 => ?_), fun e0 => ?_⟩, fun e => hk.2 (fun q2 => e q2.1)⟩
    · rw [if_pos q2.2.2] at hw
      exact nz (q - p).toNat (by omega) (by omega) (hw.symm.trans e0)
    · by_cases c : q - p ≤ 6
      · rw [if_pos c] at hw
        rw [hw]
        refine hk.1 e ⟨?_, c⟩
        by_cases c2 : p = q
        · exfalso
          apply e0
          rw [hw, show (q - p).toNat = 0 by omega]; rfl
        · omega
      · rw [if_neg c] at hw
        exact absurd hw e0
  have L110 : ∀ w : Int, w = (if q - p ≤ 6 then pkN (fun k => t (p + k)) (q - p).toNat else 0) → ∀ k, 0 ≤ k → k ≤ r → q ≤ k → X110 a w k := by
    intro w hw
    refine upto (fun k k0 k1 ih hq => hX110 _ _ _ (x_isIn (fun _ => ⟨fun q2 => absurd q2 (by decide), fun _ => ⟨fun q2 => ?_, fun q2 => ⟨⟨k0, by omega⟩, fun q3 => ⟨inI_s (by omega), ih ?_ (by omega)⟩, fun q3 => ?_⟩⟩⟩) (fun q2 => absurd hin q2)))
    · have e : k = r := by omega
      rw [e]; exact fin w hw
    · rw [b32 k k0 (by omega)] at q3
      by_cases c : k = r
      · rw [c] at q3; exact absurd q3 (h7 (by omega))
      · omega
    · rw [b32 k k0 (by omega)] at q3
      have e : k = r := by
        by_cases c : k < r
        · exact absurd (h6 k hq c) q3
        · omega
      rw [e]; exact fin w hw
  have L41 : ∀ k, 0 ≤ k → k ≤ q → p ≤ k → X41 a p k (if k - p ≤ 6 then pkN (fun i => t (p + i)) (k - p).toNat else 0) := by
    refine upto (fun k k0 k1 ih hq => hX41 _ _ _ _ (x_isIn (fun _ => ⟨fun q2 => absurd q2 (by decide), fun _ => ⟨fun q2 => ?_, fun q2 => ⟨⟨k0, by omega⟩, x_isIn (fun q3 => ⟨fun q4 => absurd q4 (by decide), fun _ => ⟨inI_s (by omega), fun q4 => ⟨inI_s (by omega), ?_⟩, fun q4 => ⟨⟨k0, by omega⟩, inI_s (by omega), ?_⟩⟩⟩) (fun q3 => ⟨fun _ => ?_, fun q4 => absurd rfl q4⟩)⟩⟩⟩) (fun q2 => absurd hin q2)))
    · have e : k = q := by omega
      rw [e]; exact L110 _ rfl q (by omega) hpq.2.2.1 (Int.le_refl _)
    · have hl := (bL k k0 (by omega)).mp q3
      have kq : k < q := by
        by_cases c : k = q
        · rw [c] at hl; exact absurd hl (h4 (by omega))
        · omega
      have := ih kq (by omega)
      rw [if_neg (by omega)] at this
      exact this
    · have hl := (bL k k0 (by omega)).mp q3
      have kq : k < q := by
        by_cases c : k = q
        · rw [c] at hl; exact absurd hl (h4 (by omega))
        · omega
      have := ih kq (by omega)
      rw [if_pos (by omega), show (k + 1 - p).toNat = (k - p).toNat + 1 by omega] at this
      rw [if_pos (by omega), bE k k0 (by omega) hl]
      have hb := pb (k - p).toNat (by omega)
      have hp5 : (256 : Int) ^ (k - p).toNat ≤ 256 ^ 5 := by
        have hle : (k - p).toNat ≤ 5 := by omega
        rcases (show (k - p).toNat = 0 ∨ (k - p).toNat = 1 ∨ (k - p).toNat = 2 ∨ (k - p).toNat = 3 ∨ (k - p).toNat = 4 ∨ (k - p).toNat = 5 by omega) with e | e | e | e | e | e <;> rw [e] <;> decide
      unfold isLet at hl
      rw [jl_8 ⟨hb.1, by have : (256 : Int) ^ 5 = 1099511627776 := by decide
                         omega⟩ ⟨by omega, by omega⟩]
      have e : pkN (fun i => t (p + i)) ((k - p).toNat + 1) = pkN (fun i => t (p + i)) (k - p).toNat * 256 + t k := by
        show pkN _ _ * 256 + t (p + (((k - p).toNat : Nat) : Int)) = _
        rw [show p + (((k - p).toNat : Nat) : Int) = k by omega]
      rw [e] at this
      exact this
    · have e : k = q := by
        by_cases c : k < q
        · exact absurd ((bL k k0 (by omega)).mpr (h3 k hq c)) q3
        · omega
      rw [e]; exact L110 _ rfl q (by omega) hpq.2.2.1 (Int.le_refl _)
  have L2 : ∀ k, 0 ≤ k → k ≤ p → X2 a k := by
    have h41 : X41 a p p 0 := by
      have := L41 p hpq.1 hpq.2.1 (Int.le_refl _)
      rw [if_pos (by omega), show (p - p).toNat = 0 by omega] at this
      exact this
    refine upto (fun k k0 k1 ih => hX2 _ _ (x_isIn (fun _ => ⟨fun q2 => absurd q2 (by decide), fun _ => ⟨fun q2 => ?_, fun q2 => ⟨⟨k0, by omega⟩, fun q3 => ⟨inI_s (by omega), ih ?_⟩, fun q3 => ?_⟩⟩⟩) (fun q2 => absurd hin q2)))
    · rw [show k = p by omega]; exact h41
    · rw [b32 k k0 (by omega)] at q3
      by_cases c : k = p
      · rw [c] at q3; exact absurd q3 (h2 (by omega))
      · omega
    · rw [b32 k k0 (by omega)] at q3
      have e : k = p := by
        by_cases c : k < p
        · exact absurd (h1 k k0 c) q3
        · omega
      rw [e]; exact h41
  exact L2 0 (Int.le_refl _) hpq.1
