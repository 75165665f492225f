/-! THE PURE PART, 6: the reference's closing by a set of sames -/
set_option maxRecDepth 100000
def EMs (m : MS) (S : Int) (t u : Int) : Prop := ∃ k, 0 ≤ k ∧ k ≤ 12 ∧ bit S k ∧ t = m.2 31 k ∧ u = m.2 32 k
theorem lr_id {n : Int} {r : Int → Int} (h : ∀ i, 0 ≤ i → i < n → r i = i) : lr n r := fun t t0 t1 => by rw [h t t0 t1, h t t0 t1]; exact ⟨t0, Int.le_refl _, rfl⟩
theorem sound_id {b : PB} {n : Int} {E : Int → Int → Prop} {r : Int → Int} (h : ∀ i, 0 ≤ i → i < n → r i = i) : sound b n E r := fun Q hQ t u t0 t1 u0 u1 e => by
  rw [h t t0 t1, h u u0 u1] at e
  rw [e]
  exact hQ.refl u
theorem maR_maR {m : MS} {j : Nat} {r r' : Int → Int} : maR (maR m j r) j r' = maR m j r' := by
  unfold maR
  refine Prod.ext rfl (funext fun k => ?_)
  show (if k = j then r' else if k = j then r else m.2 k) = if k = j then r' else m.2 k
  by_cases e : k = j
  · rw [if_pos e, if_pos e]
  · rw [if_neg e, if_neg e, if_neg e]
theorem gr_ge {n : Int} {r : Int → Int} (h : 0 ≤ n) : 0 ≤ gr n r := (cn_b (P := fun t => r t = t) h).1
theorem c_closesBy {S : Int} {m : MS} {K : MS → Prop} (hb : (bkM m).ok) (hS : ∀ k, 0 ≤ k → k ≤ 12 → bit S k → (0 ≤ m.2 31 k ∧ m.2 31 k < (bkM m).nt) ∧ 0 ≤ m.2 32 k ∧ m.2 32 k < (bkM m).nt) (h : ∀ r, good (bkM m) (bkM m).nt (EMs m S) r → K (maR m 44 r)) : C_closesBy S m K := by
  intro X2 X25 X68 X76 X89 h2 h25 h68 h76 h89
  have h24 := hb.nt
  have hnt : (bkM m).nt = m.1 27 := rfl
  have LS : ∀ d : Nat, ∀ r, lr (bkM m).nt r → sound (bkM m) (bkM m).nt (EMs m S) r → (∀ x y, EMs m S x y → r x = r y) → gr (bkM m).nt r < d → X68 1 (maR m 44 r) := by
    intro d
    induction d with
    | zero =>
      intro r _ _ _ hg
      have := gr_ge (r := r) h24.1
      omega
    | succ d ih =>
      intro r r1 r2 r3 hg
      have LP : ∀ i, 0 ≤ i → i ≤ (bkM m).nt → ∀ x2 r', lr (bkM m).nt r' → sound (bkM m) (bkM m).nt (EMs m S) r' → (∀ x y, EMs m S x y → r' x = r' y) → ((x2 = 0 ∧ r' = r ∧ ∀ i' j', 0 ≤ i' → i' < j' → j' < (bkM m).nt → i' < i → ¬ (r i' ≠ r j' ∧ alk (bkM m) r i' j')) ∨ (x2 = 1 ∧ gr (bkM m).nt r' < gr (bkM m).nt r)) → X76 x2 i (maR m 44 r') := by
        refine pairs (P14 := fun i k => ∀ x2 r', lr (bkM m).nt r' → sound (bkM m) (bkM m).nt (EMs m S) r' → (∀ x y, EMs m S x y → r' x = r' y) → ((x2 = 0 ∧ r' = r ∧ ∀ i' j', 0 ≤ i' → i' < j' → j' < (bkM m).nt → ahead i k i' j' → ¬ (r i' ≠ r j' ∧ alk (bkM m) r i' j')) ∨ (x2 = 1 ∧ gr (bkM m).nt r' < gr (bkM m).nt r)) → X89 x2 i k (maR m 44 r')) (fun i i0 i1 ihp x2 r' a1 a2 a3 a4 => h76 _ _ _ ?_) (fun i k i0 ik kn hin ihp ih2 x2 r' a1 a2 a3 a4 => h89 _ _ _ _ ?_)
        · unfold B_closesBy_76
          rw [show (maR m 44 r').1 27 = (bkM m).nt from rfl]
          refine ⟨fun e => ?_, fun e => ⟨inI_s (by omega), ihp (by omega) x2 r' a1 a2 a3 ?_⟩⟩
          · rcases a4 with ⟨rfl, rfl, a4⟩ | ⟨rfl, a4⟩
            · exact h68 _ _ ⟨fun _ => h _ ⟨a1, a2, a3, noFP_closed (fun i' j' b1 b2 b3 => a4 i' j' b1 b2 b3 (by omega))⟩, fun e => absurd rfl e⟩
            · exact ih r' a1 a2 a3 (by omega)
          · rcases a4 with ⟨q1, q2, a4⟩ | a4
            · exact Or.inl ⟨q1, q2, fun i' j' b1 b2 b3 b4 => a4 i' j' b1 b2 b3 (by unfold ahead at b4; omega)⟩
            · exact Or.inr a4
        · unfold B_closesBy_89
          rw [show (maR m 44 r').1 27 = (bkM m).nt from rfl, show (maR m 44 r').2 44 = r' from rfl]
          refine ⟨fun e => ⟨inI_s (by omega), ih2 (by omega) x2 r' a1 a2 a3 ?_⟩, fun e => ⟨⟨i0, by omega⟩, ⟨by omega, by omega⟩, fun e2 => ⟨inI_s (by omega), ?_⟩, fun e2 => ?_⟩⟩
          · rcases a4 with ⟨q1, q2, a4⟩ | a4
            · exact Or.inl ⟨q1, q2, fun i' j' b1 b2 b3 b4 => a4 i' j' b1 b2 b3 (by unfold ahead; omega)⟩
            · exact Or.inr a4
          · refine ihp (by omega) x2 r' a1 a2 a3 ?_
            rcases a4 with ⟨q1, q2, a4⟩ | a4
            · refine Or.inl ⟨q1, q2, fun i' j' b1 b2 b3 b4 => ?_⟩
              by_cases q : i' = i ∧ j' = k
              · rw [q.1, q.2, ← q2]; exact fun q => q.1 e2
              · exact a4 i' j' b1 b2 b3 (by unfold ahead at b4 ⊢; omega)
            · exact Or.inr a4
          · refine c_isAlike ⟨rfl, rfl⟩ (s := maR m 44 r') hb i0 (by show i < (bkM m).nt; omega) (by omega) (by show k < (bkM m).nt; omega) (fun e3 => ⟨fun e => absurd e (by decide), fun _ => ?_⟩) (fun e3 => ⟨fun _ => ⟨inI_s (by omega), ?_⟩, fun e => absurd rfl e⟩)
            · refine c_unites ⟨rfl, rfl⟩ (s := maR m 44 r') h24 i0 (by show i < (bkM m).nt; omega) (by omega) (by show k < (bkM m).nt; omega) ?_
              rw [maR_maR]
              have e3 : alk (bkM m) r' i k := e3
              have hg2 := un_gr a1 i0 (show i < (bkM m).nt by omega) (show 0 ≤ k by omega) (show k < (bkM m).nt by omega) e2
              refine ⟨inI_s (by omega), ihp (by omega) 1 _ (un_lr a1 i0 (by omega) (by omega) (by omega)) (un_sound a2 i0 (by omega) (by omega) (by omega) (al_sound hb (Int.le_refl _) a2 i0 (by omega) (by omega) (by omega) e3)) (fun x y hxy => ?_) (Or.inr ⟨rfl, ?_⟩)⟩
              · obtain ⟨q, q0, q1, q2, rfl, rfl⟩ := hxy
                have := hS q q0 q1 q2
                exact un_keeps this.1.1 this.1.2 this.2.1 this.2.2 (a3 _ _ ⟨q, q0, q1, q2, rfl, rfl⟩)
              · show gr (bkM m).nt (un (bkM m).nt r' i k) < gr (bkM m).nt r
                rcases a4 with ⟨q1, q2, a4⟩ | a4
                · rw [← q2]; omega
                · omega
            · refine ihp (by omega) x2 r' a1 a2 a3 ?_
              rcases a4 with ⟨q1, q2, a4⟩ | a4
              · refine Or.inl ⟨q1, q2, fun i' j' b1 b2 b3 b4 => ?_⟩
                by_cases q : i' = i ∧ j' = k
                · rw [q.1, q.2, ← q2]; exact fun q => e3 q.2
                · exact a4 i' j' b1 b2 b3 (by unfold ahead at b4 ⊢; omega)
              · exact Or.inr a4
      exact h68 _ _ ⟨fun e => absurd e (by decide), fun _ => LP 0 (by omega) h24.1 0 r r1 r2 r3 (Or.inl ⟨rfl, rfl, fun i' j' b1 b2 b3 b4 => by omega⟩)⟩
  have L25 : ∀ k, 0 ≤ k → k ≤ 13 → ∀ r, lr (bkM m).nt r → sound (bkM m) (bkM m).nt (EMs m S) r → (∀ i, 0 ≤ i → i < k → bit S i → r (m.2 31 i) = r (m.2 32 i)) → X25 S k (maR m 44 r) := by
    refine upto (fun k k0 k1 ih r r1 r2 r3 => h25 _ _ _ ?_)
    unfold B_closesBy_25
    refine ⟨fun e => ?_, fun e => ⟨fun hbit => ⟨⟨k0, by omega⟩, ⟨k0, by omega⟩, ?_⟩, fun hbit => ⟨inI_s (by omega), ih (by omega) r r1 r2 (fun i i0 i1 hi => ?_)⟩⟩⟩
    · refine LS (gr (bkM m).nt r).toNat.succ r r1 r2 (fun x y hxy => ?_) (by omega)
      obtain ⟨q, q0, q1, q2, rfl, rfl⟩ := hxy
      exact r3 q q0 (by omega) q2
    · have hk := hS k k0 (by omega) hbit
      refine c_unites ⟨rfl, rfl⟩ (s := maR m 44 r) h24 hk.1.1 hk.1.2 hk.2.1 hk.2.2 ?_
      rw [maR_maR]
      refine ⟨inI_s (by omega), ih (by omega) _ (un_lr r1 hk.1.1 hk.1.2 hk.2.1 hk.2.2) (un_sound r2 hk.1.1 hk.1.2 hk.2.1 hk.2.2 (fun Q hQ => hQ.has _ _ ⟨k, k0, by omega, hbit, rfl, rfl⟩)) (fun i i0 i1 hi => ?_)⟩
      by_cases ei : i = k
      · rw [ei]; exact un_joins hk.1.1 hk.1.2 hk.2.1 hk.2.2
      · have := hS i i0 (by omega) hi
        exact un_keeps this.1.1 this.1.2 this.2.1 this.2.2 (r3 i i0 (by omega) hi)
    · by_cases ei : i = k
      · exact absurd (by rw [ei] at hi; exact hi) hbit
      · exact r3 i i0 (by omega) hi
  have L2 : ∀ k, 0 ≤ k → k ≤ (bkM m).nt → X2 S k (maR m 44 (upto_row (m.2 44) (fun i => i) k)) := by
    refine upto (fun k k0 k1 ih => h2 _ _ _ ?_)
    unfold B_closesBy_2
    refine ⟨fun e => ?_, fun e => ⟨⟨k0, ?_⟩, ?_⟩⟩
    · have e : (bkM m).nt ≤ k := e
      have hid : ∀ i, 0 ≤ i → i < (bkM m).nt → upto_row (m.2 44) (fun i => i) k i = i := fun i i0 i1 => upto_in i0 (by omega)
      exact L25 0 (by omega) (by omega) _ (lr_id hid) (sound_id hid) (fun i i0 i1 => by omega)
    · have e : ¬ (bkM m).nt ≤ k := e
      omega
    · have e : ¬ (bkM m).nt ≤ k := e
      rintro _ rfl
      rw [ma_maR, upto_put k0 rfl]
      exact ⟨inI_s (by omega), ih (by omega)⟩
  have := L2 0 (by omega) h24.1
  rw [upto_0, maR_id] at this
  exact this
