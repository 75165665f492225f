/-! THE PURE PART, LAST: the relation stands at the start and is kept -/
set_option maxRecDepth 100000
def Jf (k : Nat) (s : XS) (m : MS) : Prop := k ≤ 900 ∧ J k s m
theorem Jf_start : Jf 24 xs0 mm0 := by
  have ez : zM mm0 0 = nilZ 0 (tkM mm0) := rfl
  have hf : fullZ (nilZ 0 (tkM mm0)) := nilZ_full ⟨by decide, fun f f0 f1 => by omega⟩
  have no : ∀ {x : Int}, 0 ≤ x → x < 0 → False := fun a b => by omega
  refine ⟨by decide, ⟨rfl, rfl⟩, rfl, ⟨⟨⟨Int.le_refl _, Int.le_refl _⟩, rfl⟩, ⟨⟨Int.le_refl _, by decide⟩, fun f f0 f1 => (no f0 f1).elim⟩, fun k hk => absurd hk (by show ¬ k < 0; omega), ?_⟩, ⟨rfl, fun i i0 i1 => (no i0 i1).elim⟩, ⟨rfl, ⟨fun t t0 t1 => (no t0 t1).elim, fun Q _ t u t0 t1 _ _ _ => (no t0 t1).elim, fun t u e => e.elim, fun t u t0 t1 _ _ _ => (no t0 t1).elim⟩⟩, fun j hj => ?_, ⟨rfl, fun t t0 t1 => (no t0 t1).elim, fun t t0 t1 => (no t0 t1).elim⟩, ⟨rfl, ⟨Int.le_refl _, by decide⟩, fun k k0 k1 => ⟨⟨show (-128 : Int) ≤ 0 by decide, show (0 : Int) < 128 by decide⟩, rfl⟩⟩⟩
  · show JZ xs0 mm0 (zM mm0 0)
    rw [ez]
    have hx : ∀ j, j = 0 ∨ j = 1 ∨ j = 2 ∨ j = 3 → xok xs0 j := fun j hj => by
      rcases hj with rfl | rfl | rfl | rfl <;> exact ⟨by decide, by decide, by decide⟩
    exact ⟨hf, ⟨⟨rfl, rfl, rfl, rfl⟩, fun f f0 f1 => (no f0 f1).elim, fun t t0 t1 => (no t0 t1).elim, fun k k0 k1 => (no k0 k1).elim, fun k k0 k1 => (no k0 k1).elim⟩, ⟨rfl, fun t t0 t1 => (no t0 t1).elim, fun k k0 k1 => (no k0 k1).elim⟩, ⟨⟨rfl, rfl, rfl, rfl⟩, ⟨Int.le_refl _, Int.le_refl _, Int.le_refl _, Int.le_refl _⟩, ⟨hx 0 (by omega), hx 1 (by omega), hx 2 (by omega), hx 3 (by omega)⟩, fun f f0 f1 => (no f0 f1).elim, fun t t0 t1 => (no t0 t1).elim, fun k k0 k1 => (no k0 k1).elim, fun k k0 k1 => (no k0 k1).elim⟩, sr0_RN rfl, sr0_Tr rfl, sr0_TB rfl⟩
  · rcases hj with rfl | rfl | rfl <;> exact ⟨rfl, ⟨by decide, by decide⟩, by decide, by decide, by decide⟩
theorem Jf_steps (hc : ∀ (n : Nat) (a : Int → Int) (s : XS) (m : MS), J (n + 1) s m → C_law_24 a s m (J n)) (hw : ∀ (n : Nat) (a : Int → Int) (s : XS) (m : MS), J (n + 1) s m → C_law_25 a s m (J n)) : (∀ k s m, Jf (k + 1) s m → Jf k s m) ∧ ∀ (k : Nat) s m op a, Jf (k + 1) s m → (∀ k, inI (a k)) → C_law op a s m (Jf k) := by
  refine ⟨fun k s m h => ⟨by have := h.1; omega, J_down h.2⟩, fun k s m op a h hi => ?_⟩
  obtain ⟨hk, hJ⟩ := h
  have ek : Jf k = J k := funext fun s => funext fun m => propext ⟨And.right, fun h => ⟨by omega, h⟩⟩
  rw [ek]
  have hK : keepsW s m (J k) := fun s' m' h1 h2 h3 => J_down (J_keeps hJ s' m' h1 h2 h3)
  have hrows := J_rows hJ
  have hJ0 := hJ
  obtain ⟨jt, j4, ⟨⟨a1, a2⟩, a3, a4, a5⟩, jh, je, -, -, jp⟩ := hJ
  have hX := hK.x a5.2.2.2.2.2.1
  have hB := a5.b
  have hN := a5.n
  have hA : JA s m := ⟨jh.1, by have := jh.1; omega, by have := jh.1; omega⟩
  have hj39 : 0 ≤ m.1 39 ∧ m.1 39 ≤ 24 := by
    obtain ⟨z1, z2, z3, -⟩ := a5
    have h1 := z1.1.2.2.2.1
    have h2 := z1.1.ok.nt
    have h2 : 0 ≤ (zM m (m.1 8)).1.1 27 ∧ (zM m (m.1 8)).1.1 27 ≤ 24 := h2
    have h3 : 0 ≤ gr ((zM m (m.1 8)).1.1 27) ((zM m (m.1 8)).1.2 36) := gr_ge h2.1
    have h4 : m.1 39 = (zM m (m.1 8)).1.1 39 := z3.1
    omega
  have hn900 : k ≤ 900 := by omega
  exact ⟨fun _ => p_feed hJ0, fun _ => p_text hn900 hJ0, fun _ => p_fault j4 jt hX, fun _ => p_where jt hX, fun _ => p_about hB hN hA hX, fun _ => p_function hB hN a5.good.lr hX, fun _ => p_term a5 hX, fun _ => p_partOf hB hX, fun _ => p_sameOf hB je hX, fun _ => p_diffOf hB hN hX, fun _ => p_joinOf hj39 hN hX, fun _ => p_height a5 hX, fun _ => p_hung hi hB hN hX, fun _ => p_equal hB hN hX, fun _ => p_apart hB hN hX, fun _ => p_reasons a5 hK, fun _ => p_pruned hB hN je hX, fun _ => p_fewest a5 je hX, fun _ => p_proves hB je hX, fun _ => p_since a5 je hX, fun _ => p_needed hB hN je hX, fun _ => p_many hB hN je hX, fun _ => p_base hB jt je hX, fun _ => p_level a5 hX, fun _ => hc k a s m hJ0, fun _ => hw k a s m hJ0, fun _ => p_core a5 jt je hX, fun _ => p_would a5 hX, fun _ => p_next hi a5 hK, fun _ => p_without hB je hX, fun _ => p_free a5 jt hX, fun _ => p_join hJ0, fun _ => p_part hJ0, fun _ => p_make hJ0, fun _ => p_undo hJ0, fun _ => p_named hJ0, fun _ => p_size jp.1 jt hX, fun _ => p_trouble jt hX⟩
