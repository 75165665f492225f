/-! THE LAW'S CASES (gen/glaw.py) -/
set_option maxRecDepth 100000
abbrev mm_law : EM := (⟨"ReasonCloserLaw", "law", "([I)Z"⟩, code, 7, (Option.some .boolean), [])
theorem me_X1_text : e_mthW mm_X1_text 1 (28, 44, 47, 114) [] := ⟨rfl, q401, q108, ⟨by decide, by decide, by decide +kernel⟩, by decide⟩
abbrev BC : Nat := 40000
abbrev BS : Nat := 200000
abbrev lvL (p : Int) : List (Nat × AV) := [(0, aR (some sT)), (1, aR (some xT)), (2, aR (some mT)), (3, aR (some oT)), (4, aI p)]
theorem bsub {a b c : Nat} (h : b ≤ a) : c - a ≤ c - b - 0 := by omega
/-- the loop goes on, with what the case leaves -/
def goesOn (Q : AO → AH → Prop) (kc ks : Nat) (p : Int) (KN : XS → MS → Prop) : Prop := ∀ V N s m g, LH V N m g → KN s m → EW mm_law 90 (kc - BC) (ks - BS) Q 1525 (lvL p) [] (xh V s g)
theorem swapX {V : XV} {N : Nat} {s : XS} {m : MS} {g : AH} (h : LH V N m g) : xh V s g = mh m (xh V s g) := by rw [← xh_mh, h.2.1.eq]

/-- case 0: feed -/
theorem L_case_0 {Q : AO → AH → Prop} {V : XV} {N n kc ks : Nat} {s : XS} {m : MS} {g : AH} {p : Int} {f : Int → Int} {KN : XS → MS → Prop} (hS : scr Q n f) (hL : LH V N m g) (hp : 0 ≤ p ∧ p + 6 ≤ n) (hn : n ≤ 144) (b1 : BC ≤ kc) (b2 : BS ≤ ks) (H : C_X1_feed (f (p + 1)) (f (p + 2)) (f (p + 3)) (f (p + 4)) (f (p + 5)) s (fun r s' => C_feed (f (p + 1)) (f (p + 2)) (f (p + 3)) (f (p + 4)) (f (p + 5)) m (fun r' m' => r = r' ∧ KN s' m'))) (kk : goesOn Q kc ks p KN) : EW mm_law 90 kc ks Q 208 (lvL p) [] (xh V s g) := by
  refine ew_aload_n dL_law_208 rfl lm1 ?_
  refine ew_aload_n dL_law_209 rfl lm0 ?_
  refine ew_iload dL_law_210 lm4 ?_
  refine ew_iconst dL_law_212 (inI_of rfl) ?_
  refine ew_iadd dL_law_213 ⟨by omega, by omega⟩ ?_
  refine ew_sld rfl hS dL_law_214 (by omega) (by omega) ?_
  refine ew_aload_n dL_law_215 rfl lm0 ?_
  refine ew_iload dL_law_216 lm4 ?_
  refine ew_iconst dL_law_218 (inI_of rfl) ?_
  refine ew_iadd dL_law_219 ⟨by omega, by omega⟩ ?_
  refine ew_sld rfl hS dL_law_220 (by omega) (by omega) ?_
  refine ew_aload_n dL_law_221 rfl lm0 ?_
  refine ew_iload dL_law_222 lm4 ?_
  refine ew_iconst dL_law_224 (inI_of rfl) ?_
  refine ew_iadd dL_law_225 ⟨by omega, by omega⟩ ?_
  refine ew_sld rfl hS dL_law_226 (by omega) (by omega) ?_
  refine ew_aload_n dL_law_227 rfl lm0 ?_
  refine ew_iload dL_law_228 lm4 ?_
  refine ew_iconst dL_law_230 (inI_of rfl) ?_
  refine ew_iadd dL_law_231 ⟨by omega, by omega⟩ ?_
  refine ew_sld rfl hS dL_law_232 (by omega) (by omega) ?_
  refine ew_aload_n dL_law_233 rfl lm0 ?_
  refine ew_iload dL_law_234 lm4 ?_
  refine ew_iconst dL_law_236 (inI_of rfl) ?_
  refine ew_iadd dL_law_237 ⟨by omega, by omega⟩ ?_
  refine ew_sld rfl hS dL_law_238 (by omega) (by omega) ?_
  refine ew_callV (d := 89) (as := [aI (f (p + 1)), aI (f (p + 2)), aI (f (p + 3)), aI (f (p + 4)), aI (f (p + 5))]) rfl dL_law_239 me_X1_feed rfl (ci := 0) rfl rfl xh_x (Or.inl q390) q391 q392 (Nat.le_of_ble_eq_true rfl) (Nat.le_trans (by decide) b1) (Nat.le_trans (by decide) b2) (S_X1_feed (d := 88) hL.xfl hL.fr H) (fun o h' hq _ => ?_) (fun E i h' q _ => (xQi_no q).elim)
  obtain ⟨n1, s', E1, rfl, H⟩ := hq
  cases E1
  refine ew_aload_n dL_law_242 rfl lm2 ?_
  refine ew_aload_n dL_law_243 rfl lm0 ?_
  refine ew_iload dL_law_244 lm4 ?_
  refine ew_iconst dL_law_246 (inI_of rfl) ?_
  refine ew_iadd dL_law_247 ⟨by omega, by omega⟩ ?_
  refine ew_sld rfl hS dL_law_248 (by omega) (by omega) ?_
  refine ew_aload_n dL_law_249 rfl lm0 ?_
  refine ew_iload dL_law_250 lm4 ?_
  refine ew_iconst dL_law_252 (inI_of rfl) ?_
  refine ew_iadd dL_law_253 ⟨by omega, by omega⟩ ?_
  refine ew_sld rfl hS dL_law_254 (by omega) (by omega) ?_
  refine ew_aload_n dL_law_255 rfl lm0 ?_
  refine ew_iload dL_law_256 lm4 ?_
  refine ew_iconst dL_law_258 (inI_of rfl) ?_
  refine ew_iadd dL_law_259 ⟨by omega, by omega⟩ ?_
  refine ew_sld rfl hS dL_law_260 (by omega) (by omega) ?_
  refine ew_aload_n dL_law_261 rfl lm0 ?_
  refine ew_iload dL_law_262 lm4 ?_
  refine ew_iconst dL_law_264 (inI_of rfl) ?_
  refine ew_iadd dL_law_265 ⟨by omega, by omega⟩ ?_
  refine ew_sld rfl hS dL_law_266 (by omega) (by omega) ?_
  refine ew_aload_n dL_law_267 rfl lm0 ?_
  refine ew_iload dL_law_268 lm4 ?_
  refine ew_iconst dL_law_270 (inI_of rfl) ?_
  refine ew_iadd dL_law_271 ⟨by omega, by omega⟩ ?_
  refine ew_sld rfl hS dL_law_272 (by omega) (by omega) ?_
  rw [swapX (s := s') hL]
  refine ew_callV (d := 89) (as := [aI (f (p + 1)), aI (f (p + 2)), aI (f (p + 3)), aI (f (p + 4)), aI (f (p + 5))]) rfl dL_law_273 me_feed rfl (ci := 1) rfl rfl (mh_o _ _) (Or.inl q1579) q1580 q1581 (Nat.le_of_ble_eq_true rfl) (Nat.zero_le _) (Nat.zero_le _) (S_feed (d := 88) H) (fun o h' hq _ => ?_) (fun E i h' q _ => (mQi_no q).elim)
  obtain ⟨n2, m', E2, rfl, e12, H⟩ := hq
  cases E2
  rw [← xh_mh]
  refine ew_icmp_eq (tgt := 1525) dL_law_276 (by decide) (fun _ => ?_) (fun c9 => absurd e12 c9)
  exact ew_room (Nat.le_refl _) (bsub (by decide)) (bsub (by decide)) (kk _ _ _ _ _ hL.upM H)
/-- case 1: text -/
theorem L_case_1 {Q : AO → AH → Prop} {V : XV} {N n kc ks : Nat} {s : XS} {m : MS} {g : AH} {p : Int} {f : Int → Int} {KN : XS → MS → Prop} (hS : scr Q n f) (hL : LH V N m g) (hp : 0 ≤ p ∧ p + 6 ≤ n) (hn : n ≤ 144) (b1 : BC ≤ kc) (b2 : BS ≤ ks) (H : ∃ kr sr kl sl, (kr + kl + 29 ≤ BC ∧ sr + sl + 624 ≤ BS) ∧ C_X1_text kr sr kl sl (f (p + 1)) s (fun r s' => C_text (f (p + 1)) m (fun r' m' => r = r' ∧ KN s' m'))) (kk : goesOn Q kc ks p KN) : EW mm_law 90 kc ks Q 281 (lvL p) [] (xh V s g) := by
  refine ew_aload_n dL_law_281 rfl lm1 ?_
  refine ew_aload_n dL_law_282 rfl lm0 ?_
  refine ew_iload dL_law_283 lm4 ?_
  refine ew_iconst dL_law_285 (inI_of rfl) ?_
  refine ew_iadd dL_law_286 ⟨by omega, by omega⟩ ?_
  refine ew_sld rfl hS dL_law_287 (by omega) (by omega) ?_
  obtain ⟨kr, sr, kl, sl, ⟨h1, h2⟩, H⟩ := H
  refine ew_callVX (d := 89) (as := [aI (f (p + 1))]) rfl dL_law_288 me_X1_text rfl (ci := 0) rfl rfl xh_x q398 q399 q400 (Nat.le_of_ble_eq_true rfl) (Nat.le_trans h1 b1) (Nat.le_trans h2 b2) (S_X1_text (d := 41) hL.1 H) (fun o h' hq _ => ?_) (fun E i h' q _ => by obtain ⟨n, s', V', N', g', e, -⟩ := q; cases e)
  obtain ⟨n1, s', V', N', g', E1, rfl, hk', hg', H⟩ := hq
  cases E1
  replace hL : LH V' N' m g' := hL.next hk' hg'
  refine ew_aload_n dL_law_291 rfl lm2 ?_
  refine ew_aload_n dL_law_292 rfl lm0 ?_
  refine ew_iload dL_law_293 lm4 ?_
  refine ew_iconst dL_law_295 (inI_of rfl) ?_
  refine ew_iadd dL_law_296 ⟨by omega, by omega⟩ ?_
  refine ew_sld rfl hS dL_law_297 (by omega) (by omega) ?_
  rw [swapX (s := s') hL]
  refine ew_callV (d := 89) (as := [aI (f (p + 1))]) rfl dL_law_298 me_text rfl (ci := 1) rfl rfl (mh_o _ _) (Or.inl q1587) q1588 q1589 (Nat.le_of_ble_eq_true rfl) (Nat.zero_le _) (Nat.zero_le _) (S_text (d := 77) H) (fun o h' hq _ => ?_) (fun E i h' q _ => (mQi_no q).elim)
  obtain ⟨n2, m', E2, rfl, e12, H⟩ := hq
  cases E2
  rw [← xh_mh]
  refine ew_icmp_eq (tgt := 1525) dL_law_301 (by decide) (fun _ => ?_) (fun c9 => absurd e12 c9)
  exact ew_room (Nat.le_refl _) (bsub h1) (bsub h2) (kk _ _ _ _ _ hL.upM H)
/-- case 2: fault -/
theorem L_case_2 {Q : AO → AH → Prop} {V : XV} {N n kc ks : Nat} {s : XS} {m : MS} {g : AH} {p : Int} {f : Int → Int} {KN : XS → MS → Prop} (hS : scr Q n f) (hL : LH V N m g) (hp : 0 ≤ p ∧ p + 6 ≤ n) (hn : n ≤ 144) (b1 : BC ≤ kc) (b2 : BS ≤ ks) (H : C_X1_fault s (fun r => C_fault m (fun r' m' => r = r' ∧ KN s m'))) (kk : goesOn Q kc ks p KN) : EW mm_law 90 kc ks Q 306 (lvL p) [] (xh V s g) := by
  refine ew_aload_n dL_law_306 rfl lm1 ?_
  refine ew_callV (d := 89) (as := []) rfl dL_law_307 me_X1_fault rfl (ci := 0) rfl rfl xh_x (Or.inl q1036) q1037 q1038 (Nat.le_of_ble_eq_true rfl) (Nat.zero_le _) (Nat.zero_le _) (S_X1_fault (d := 89) H) (fun o h' hq _ => ?_) (fun E i h' q _ => (cQ_no q).elim)
  obtain ⟨n1, E1, rfl, H⟩ := hq
  cases E1
  refine ew_aload_n dL_law_310 rfl lm2 ?_
  rw [swapX (s := s) hL]
  refine ew_callV (d := 89) (as := []) rfl dL_law_311 me_fault rfl (ci := 1) rfl rfl (mh_o _ _) (Or.inl q1720) q1721 q1722 (Nat.le_of_ble_eq_true rfl) (Nat.zero_le _) (Nat.zero_le _) (S_fault (d := 89) H) (fun o h' hq _ => ?_) (fun E i h' q _ => (mQi_no q).elim)
  obtain ⟨n2, m', E2, rfl, e12, H⟩ := hq
  cases E2
  rw [← xh_mh]
  refine ew_icmp_eq (tgt := 1525) dL_law_314 (by decide) (fun _ => ?_) (fun c9 => absurd e12 c9)
  exact ew_room (Nat.le_refl _) (bsub (by decide)) (bsub (by decide)) (kk _ _ _ _ _ hL.upM H)
/-- case 3: where -/
theorem L_case_3 {Q : AO → AH → Prop} {V : XV} {N n kc ks : Nat} {s : XS} {m : MS} {g : AH} {p : Int} {f : Int → Int} {KN : XS → MS → Prop} (hS : scr Q n f) (hL : LH V N m g) (hp : 0 ≤ p ∧ p + 6 ≤ n) (hn : n ≤ 144) (b1 : BC ≤ kc) (b2 : BS ≤ ks) (H : C_X1_where s (fun r => C_where m (fun r' m' => r = r' ∧ KN s m'))) (kk : goesOn Q kc ks p KN) : EW mm_law 90 kc ks Q 319 (lvL p) [] (xh V s g) := by
  refine ew_aload_n dL_law_319 rfl lm1 ?_
  refine ew_callV (d := 89) (as := []) rfl dL_law_320 me_X1_where rfl (ci := 0) rfl rfl xh_x (Or.inl q1040) q1041 q1042 (Nat.le_of_ble_eq_true rfl) (Nat.zero_le _) (Nat.zero_le _) (S_X1_where (d := 89) H) (fun o h' hq _ => ?_) (fun E i h' q _ => (cQ_no q).elim)
  obtain ⟨n1, E1, rfl, H⟩ := hq
  cases E1
  refine ew_aload_n dL_law_323 rfl lm2 ?_
  rw [swapX (s := s) hL]
  refine ew_callV (d := 89) (as := []) rfl dL_law_324 me_where rfl (ci := 1) rfl rfl (mh_o _ _) (Or.inl q1724) q1725 q1726 (Nat.le_of_ble_eq_true rfl) (Nat.zero_le _) (Nat.zero_le _) (S_where (d := 89) H) (fun o h' hq _ => ?_) (fun E i h' q _ => (mQi_no q).elim)
  obtain ⟨n2, m', E2, rfl, e12, H⟩ := hq
  cases E2
  rw [← xh_mh]
  refine ew_icmp_eq (tgt := 1525) dL_law_327 (by decide) (fun _ => ?_) (fun c9 => absurd e12 c9)
  exact ew_room (Nat.le_refl _) (bsub (by decide)) (bsub (by decide)) (kk _ _ _ _ _ hL.upM H)
/-- case 4: about -/
theorem L_case_4 {Q : AO → AH → Prop} {V : XV} {N n kc ks : Nat} {s : XS} {m : MS} {g : AH} {p : Int} {f : Int → Int} {KN : XS → MS → Prop} (hS : scr Q n f) (hL : LH V N m g) (hp : 0 ≤ p ∧ p + 6 ≤ n) (hn : n ≤ 144) (b1 : BC ≤ kc) (b2 : BS ≤ ks) (H : C_X1_about (f (p + 1)) s (fun r s' => C_about (f (p + 1)) m (fun r' m' => r = r' ∧ KN s' m'))) (kk : goesOn Q kc ks p KN) : EW mm_law 90 kc ks Q 332 (lvL p) [] (xh V s g) := by
  refine ew_aload_n dL_law_332 rfl lm1 ?_
  refine ew_aload_n dL_law_333 rfl lm0 ?_
  refine ew_iload dL_law_334 lm4 ?_
  refine ew_iconst dL_law_336 (inI_of rfl) ?_
  refine ew_iadd dL_law_337 ⟨by omega, by omega⟩ ?_
  refine ew_sld rfl hS dL_law_338 (by omega) (by omega) ?_
  refine ew_callV (d := 89) (as := [aI (f (p + 1))]) rfl dL_law_339 me_X1_about rfl (ci := 0) rfl rfl xh_x (Or.inl q1044) q1045 q1046 (Nat.le_of_ble_eq_true rfl) (Nat.zero_le _) (Nat.zero_le _) (S_X1_about (d := 85) H) (fun o h' hq _ => ?_) (fun E i h' q _ => (xQi_no q).elim)
  obtain ⟨n1, s', E1, rfl, H⟩ := hq
  cases E1
  refine ew_aload_n dL_law_342 rfl lm2 ?_
  refine ew_aload_n dL_law_343 rfl lm0 ?_
  refine ew_iload dL_law_344 lm4 ?_
  refine ew_iconst dL_law_346 (inI_of rfl) ?_
  refine ew_iadd dL_law_347 ⟨by omega, by omega⟩ ?_
  refine ew_sld rfl hS dL_law_348 (by omega) (by omega) ?_
  rw [swapX (s := s') hL]
  refine ew_callV (d := 89) (as := [aI (f (p + 1))]) rfl dL_law_349 me_about rfl (ci := 1) rfl rfl (mh_o _ _) (Or.inl q1728) q1729 q1730 (Nat.le_of_ble_eq_true rfl) (Nat.zero_le _) (Nat.zero_le _) (S_about (d := 88) H) (fun o h' hq _ => ?_) (fun E i h' q _ => (mQi_no q).elim)
  obtain ⟨n2, m', E2, rfl, e12, H⟩ := hq
  cases E2
  rw [← xh_mh]
  refine ew_icmp_eq (tgt := 1525) dL_law_352 (by decide) (fun _ => ?_) (fun c9 => absurd e12 c9)
  exact ew_room (Nat.le_refl _) (bsub (by decide)) (bsub (by decide)) (kk _ _ _ _ _ hL.upM H)
/-- case 5: function -/
theorem L_case_5 {Q : AO → AH → Prop} {V : XV} {N n kc ks : Nat} {s : XS} {m : MS} {g : AH} {p : Int} {f : Int → Int} {KN : XS → MS → Prop} (hS : scr Q n f) (hL : LH V N m g) (hp : 0 ≤ p ∧ p + 6 ≤ n) (hn : n ≤ 144) (b1 : BC ≤ kc) (b2 : BS ≤ ks) (H : C_X1_function (f (p + 1)) (f (p + 2)) s (fun r s' => C_function (f (p + 1)) (f (p + 2)) m (fun r' m' => r = r' ∧ KN s' m'))) (kk : goesOn Q kc ks p KN) : EW mm_law 90 kc ks Q 357 (lvL p) [] (xh V s g) := by
  refine ew_aload_n dL_law_357 rfl lm1 ?_
  refine ew_aload_n dL_law_358 rfl lm0 ?_
  refine ew_iload dL_law_359 lm4 ?_
  refine ew_iconst dL_law_361 (inI_of rfl) ?_
  refine ew_iadd dL_law_362 ⟨by omega, by omega⟩ ?_
  refine ew_sld rfl hS dL_law_363 (by omega) (by omega) ?_
  refine ew_aload_n dL_law_364 rfl lm0 ?_
  refine ew_iload dL_law_365 lm4 ?_
  refine ew_iconst dL_law_367 (inI_of rfl) ?_
  refine ew_iadd dL_law_368 ⟨by omega, by omega⟩ ?_
  refine ew_sld rfl hS dL_law_369 (by omega) (by omega) ?_
  refine ew_callV (d := 89) (as := [aI (f (p + 1)), aI (f (p + 2))]) rfl dL_law_370 me_X1_function rfl (ci := 0) rfl rfl xh_x (Or.inl q1067) q1068 q1069 (Nat.le_of_ble_eq_true rfl) (Nat.le_trans (by decide) b1) (Nat.le_trans (by decide) b2) (S_X1_function (d := 82) hL.xfl hL.fr H) (fun o h' hq _ => ?_) (fun E i h' q _ => (xQi_no q).elim)
  obtain ⟨n1, s', E1, rfl, H⟩ := hq
  cases E1
  refine ew_aload_n dL_law_373 rfl lm2 ?_
  refine ew_aload_n dL_law_374 rfl lm0 ?_
  refine ew_iload dL_law_375 lm4 ?_
  refine ew_iconst dL_law_377 (inI_of rfl) ?_
  refine ew_iadd dL_law_378 ⟨by omega, by omega⟩ ?_
  refine ew_sld rfl hS dL_law_379 (by omega) (by omega) ?_
  refine ew_aload_n dL_law_380 rfl lm0 ?_
  refine ew_iload dL_law_381 lm4 ?_
  refine ew_iconst dL_law_383 (inI_of rfl) ?_
  refine ew_iadd dL_law_384 ⟨by omega, by omega⟩ ?_
  refine ew_sld rfl hS dL_law_385 (by omega) (by omega) ?_
  rw [swapX (s := s') hL]
  refine ew_callV (d := 89) (as := [aI (f (p + 1)), aI (f (p + 2))]) rfl dL_law_386 me_function rfl (ci := 1) rfl rfl (mh_o _ _) (Or.inl q1743) q1744 q1745 (Nat.le_of_ble_eq_true rfl) (Nat.zero_le _) (Nat.zero_le _) (S_function (d := 88) H) (fun o h' hq _ => ?_) (fun E i h' q _ => (mQi_no q).elim)
  obtain ⟨n2, m', E2, rfl, e12, H⟩ := hq
  cases E2
  rw [← xh_mh]
  refine ew_icmp_eq (tgt := 1525) dL_law_389 (by decide) (fun _ => ?_) (fun c9 => absurd e12 c9)
  exact ew_room (Nat.le_refl _) (bsub (by decide)) (bsub (by decide)) (kk _ _ _ _ _ hL.upM H)
/-- case 6: term -/
theorem L_case_6 {Q : AO → AH → Prop} {V : XV} {N n kc ks : Nat} {s : XS} {m : MS} {g : AH} {p : Int} {f : Int → Int} {KN : XS → MS → Prop} (hS : scr Q n f) (hL : LH V N m g) (hp : 0 ≤ p ∧ p + 6 ≤ n) (hn : n ≤ 144) (b1 : BC ≤ kc) (b2 : BS ≤ ks) (H : C_X1_term (f (p + 1)) (f (p + 2)) s (fun r s' => C_term (f (p + 1)) (f (p + 2)) m (fun r' m' => r = r' ∧ KN s' m'))) (kk : goesOn Q kc ks p KN) : EW mm_law 90 kc ks Q 394 (lvL p) [] (xh V s g) := by
  refine ew_aload_n dL_law_394 rfl lm1 ?_
  refine ew_aload_n dL_law_395 rfl lm0 ?_
  refine ew_iload dL_law_396 lm4 ?_
  refine ew_iconst dL_law_398 (inI_of rfl) ?_
  refine ew_iadd dL_law_399 ⟨by omega, by omega⟩ ?_
  refine ew_sld rfl hS dL_law_400 (by omega) (by omega) ?_
  refine ew_aload_n dL_law_401 rfl lm0 ?_
  refine ew_iload dL_law_402 lm4 ?_
  refine ew_iconst dL_law_404 (inI_of rfl) ?_
  refine ew_iadd dL_law_405 ⟨by omega, by omega⟩ ?_
  refine ew_sld rfl hS dL_law_406 (by omega) (by omega) ?_
  refine ew_callV (d := 89) (as := [aI (f (p + 1)), aI (f (p + 2))]) rfl dL_law_407 me_X1_term rfl (ci := 0) rfl rfl xh_x (Or.inl q1077) q1078 q1079 (Nat.le_of_ble_eq_true rfl) (Nat.le_trans (by decide) b1) (Nat.le_trans (by decide) b2) (S_X1_term (d := 84) hL.xfl hL.fr H) (fun o h' hq _ => ?_) (fun E i h' q _ => (xQi_no q).elim)
  obtain ⟨n1, s', E1, rfl, H⟩ := hq
  cases E1
  refine ew_aload_n dL_law_410 rfl lm2 ?_
  refine ew_aload_n dL_law_411 rfl lm0 ?_
  refine ew_iload dL_law_412 lm4 ?_
  refine ew_iconst dL_law_414 (inI_of rfl) ?_
  refine ew_iadd dL_law_415 ⟨by omega, by omega⟩ ?_
  refine ew_sld rfl hS dL_law_416 (by omega) (by omega) ?_
  refine ew_aload_n dL_law_417 rfl lm0 ?_
  refine ew_iload dL_law_418 lm4 ?_
  refine ew_iconst dL_law_420 (inI_of rfl) ?_
  refine ew_iadd dL_law_421 ⟨by omega, by omega⟩ ?_
  refine ew_sld rfl hS dL_law_422 (by omega) (by omega) ?_
  rw [swapX (s := s') hL]
  refine ew_callV (d := 89) (as := [aI (f (p + 1)), aI (f (p + 2))]) rfl dL_law_423 me_term rfl (ci := 1) rfl rfl (mh_o _ _) (Or.inl q1747) q1748 q1749 (Nat.le_of_ble_eq_true rfl) (Nat.zero_le _) (Nat.zero_le _) (S_term (d := 87) H) (fun o h' hq _ => ?_) (fun E i h' q _ => (mQi_no q).elim)
  obtain ⟨n2, m', E2, rfl, e12, H⟩ := hq
  cases E2
  rw [← xh_mh]
  refine ew_icmp_eq (tgt := 1525) dL_law_426 (by decide) (fun _ => ?_) (fun c9 => absurd e12 c9)
  exact ew_room (Nat.le_refl _) (bsub (by decide)) (bsub (by decide)) (kk _ _ _ _ _ hL.upM H)
/-- case 7: partOf -/
theorem L_case_7 {Q : AO → AH → Prop} {V : XV} {N n kc ks : Nat} {s : XS} {m : MS} {g : AH} {p : Int} {f : Int → Int} {KN : XS → MS → Prop} (hS : scr Q n f) (hL : LH V N m g) (hp : 0 ≤ p ∧ p + 6 ≤ n) (hn : n ≤ 144) (b1 : BC ≤ kc) (b2 : BS ≤ ks) (H : C_X1_partOf (f (p + 1)) (f (p + 2)) s (fun r s' => C_partOf (f (p + 1)) (f (p + 2)) m (fun r' m' => r = r' ∧ KN s' m'))) (kk : goesOn Q kc ks p KN) : EW mm_law 90 kc ks Q 431 (lvL p) [] (xh V s g) := by
  refine ew_aload_n dL_law_431 rfl lm1 ?_
  refine ew_aload_n dL_law_432 rfl lm0 ?_
  refine ew_iload dL_law_433 lm4 ?_
  refine ew_iconst dL_law_435 (inI_of rfl) ?_
  refine ew_iadd dL_law_436 ⟨by omega, by omega⟩ ?_
  refine ew_sld rfl hS dL_law_437 (by omega) (by omega) ?_
  refine ew_aload_n dL_law_438 rfl lm0 ?_
  refine ew_iload dL_law_439 lm4 ?_
  refine ew_iconst dL_law_441 (inI_of rfl) ?_
  refine ew_iadd dL_law_442 ⟨by omega, by omega⟩ ?_
  refine ew_sld rfl hS dL_law_443 (by omega) (by omega) ?_
  refine ew_callV (d := 89) (as := [aI (f (p + 1)), aI (f (p + 2))]) rfl dL_law_444 me_X1_partOf rfl (ci := 0) rfl rfl xh_x (Or.inl q1101) q1102 q1103 (Nat.le_of_ble_eq_true rfl) (Nat.le_trans (by decide) b1) (Nat.le_trans (by decide) b2) (S_X1_partOf (d := 86) hL.xfl hL.fr H) (fun o h' hq _ => ?_) (fun E i h' q _ => (xQi_no q).elim)
  obtain ⟨n1, s', E1, rfl, H⟩ := hq
  cases E1
  refine ew_aload_n dL_law_447 rfl lm2 ?_
  refine ew_aload_n dL_law_448 rfl lm0 ?_
  refine ew_iload dL_law_449 lm4 ?_
  refine ew_iconst dL_law_451 (inI_of rfl) ?_
  refine ew_iadd dL_law_452 ⟨by omega, by omega⟩ ?_
  refine ew_sld rfl hS dL_law_453 (by omega) (by omega) ?_
  refine ew_aload_n dL_law_454 rfl lm0 ?_
  refine ew_iload dL_law_455 lm4 ?_
  refine ew_iconst dL_law_457 (inI_of rfl) ?_
  refine ew_iadd dL_law_458 ⟨by omega, by omega⟩ ?_
  refine ew_sld rfl hS dL_law_459 (by omega) (by omega) ?_
  rw [swapX (s := s') hL]
  refine ew_callV (d := 89) (as := [aI (f (p + 1)), aI (f (p + 2))]) rfl dL_law_460 me_partOf rfl (ci := 1) rfl rfl (mh_o _ _) (Or.inl q1775) q1776 q1777 (Nat.le_of_ble_eq_true rfl) (Nat.zero_le _) (Nat.zero_le _) (S_partOf (d := 87) H) (fun o h' hq _ => ?_) (fun E i h' q _ => (mQi_no q).elim)
  obtain ⟨n2, m', E2, rfl, e12, H⟩ := hq
  cases E2
  rw [← xh_mh]
  refine ew_icmp_eq (tgt := 1525) dL_law_463 (by decide) (fun _ => ?_) (fun c9 => absurd e12 c9)
  exact ew_room (Nat.le_refl _) (bsub (by decide)) (bsub (by decide)) (kk _ _ _ _ _ hL.upM H)
/-- case 8: sameOf -/
theorem L_case_8 {Q : AO → AH → Prop} {V : XV} {N n kc ks : Nat} {s : XS} {m : MS} {g : AH} {p : Int} {f : Int → Int} {KN : XS → MS → Prop} (hS : scr Q n f) (hL : LH V N m g) (hp : 0 ≤ p ∧ p + 6 ≤ n) (hn : n ≤ 144) (b1 : BC ≤ kc) (b2 : BS ≤ ks) (H : C_X1_sameOf (f (p + 1)) (f (p + 2)) s (fun r s' => C_sameOf (f (p + 1)) (f (p + 2)) m (fun r' m' => r = r' ∧ KN s' m'))) (kk : goesOn Q kc ks p KN) : EW mm_law 90 kc ks Q 468 (lvL p) [] (xh V s g) := by
  refine ew_aload_n dL_law_468 rfl lm1 ?_
  refine ew_aload_n dL_law_469 rfl lm0 ?_
  refine ew_iload dL_law_470 lm4 ?_
  refine ew_iconst dL_law_472 (inI_of rfl) ?_
  refine ew_iadd dL_law_473 ⟨by omega, by omega⟩ ?_
  refine ew_sld rfl hS dL_law_474 (by omega) (by omega) ?_
  refine ew_aload_n dL_law_475 rfl lm0 ?_
  refine ew_iload dL_law_476 lm4 ?_
  refine ew_iconst dL_law_478 (inI_of rfl) ?_
  refine ew_iadd dL_law_479 ⟨by omega, by omega⟩ ?_
  refine ew_sld rfl hS dL_law_480 (by omega) (by omega) ?_
  refine ew_callV (d := 89) (as := [aI (f (p + 1)), aI (f (p + 2))]) rfl dL_law_481 me_X1_sameOf rfl (ci := 0) rfl rfl xh_x (Or.inl q1105) q1106 q1107 (Nat.le_of_ble_eq_true rfl) (Nat.zero_le _) (Nat.zero_le _) (S_X1_sameOf (d := 81) H) (fun o h' hq _ => ?_) (fun E i h' q _ => (xQi_no q).elim)
  obtain ⟨n1, s', E1, rfl, H⟩ := hq
  cases E1
  refine ew_aload_n dL_law_484 rfl lm2 ?_
  refine ew_aload_n dL_law_485 rfl lm0 ?_
  refine ew_iload dL_law_486 lm4 ?_
  refine ew_iconst dL_law_488 (inI_of rfl) ?_
  refine ew_iadd dL_law_489 ⟨by omega, by omega⟩ ?_
  refine ew_sld rfl hS dL_law_490 (by omega) (by omega) ?_
  refine ew_aload_n dL_law_491 rfl lm0 ?_
  refine ew_iload dL_law_492 lm4 ?_
  refine ew_iconst dL_law_494 (inI_of rfl) ?_
  refine ew_iadd dL_law_495 ⟨by omega, by omega⟩ ?_
  refine ew_sld rfl hS dL_law_496 (by omega) (by omega) ?_
  rw [swapX (s := s') hL]
  refine ew_callV (d := 89) (as := [aI (f (p + 1)), aI (f (p + 2))]) rfl dL_law_497 me_sameOf rfl (ci := 1) rfl rfl (mh_o _ _) (Or.inl q1779) q1780 q1781 (Nat.le_of_ble_eq_true rfl) (Nat.zero_le _) (Nat.zero_le _) (S_sameOf (d := 85) H) (fun o h' hq _ => ?_) (fun E i h' q _ => (mQi_no q).elim)
  obtain ⟨n2, m', E2, rfl, e12, H⟩ := hq
  cases E2
  rw [← xh_mh]
  refine ew_icmp_eq (tgt := 1525) dL_law_500 (by decide) (fun _ => ?_) (fun c9 => absurd e12 c9)
  exact ew_room (Nat.le_refl _) (bsub (by decide)) (bsub (by decide)) (kk _ _ _ _ _ hL.upM H)
/-- case 9: diffOf -/
theorem L_case_9 {Q : AO → AH → Prop} {V : XV} {N n kc ks : Nat} {s : XS} {m : MS} {g : AH} {p : Int} {f : Int → Int} {KN : XS → MS → Prop} (hS : scr Q n f) (hL : LH V N m g) (hp : 0 ≤ p ∧ p + 6 ≤ n) (hn : n ≤ 144) (b1 : BC ≤ kc) (b2 : BS ≤ ks) (H : C_X1_diffOf (f (p + 1)) (f (p + 2)) s (fun r s' => C_diffOf (f (p + 1)) (f (p + 2)) m (fun r' m' => r = r' ∧ KN s' m'))) (kk : goesOn Q kc ks p KN) : EW mm_law 90 kc ks Q 505 (lvL p) [] (xh V s g) := by
  refine ew_aload_n dL_law_505 rfl lm1 ?_
  refine ew_aload_n dL_law_506 rfl lm0 ?_
  refine ew_iload dL_law_507 lm4 ?_
  refine ew_iconst dL_law_509 (inI_of rfl) ?_
  refine ew_iadd dL_law_510 ⟨by omega, by omega⟩ ?_
  refine ew_sld rfl hS dL_law_511 (by omega) (by omega) ?_
  refine ew_aload_n dL_law_512 rfl lm0 ?_
  refine ew_iload dL_law_513 lm4 ?_
  refine ew_iconst dL_law_515 (inI_of rfl) ?_
  refine ew_iadd dL_law_516 ⟨by omega, by omega⟩ ?_
  refine ew_sld rfl hS dL_law_517 (by omega) (by omega) ?_
  refine ew_callV (d := 89) (as := [aI (f (p + 1)), aI (f (p + 2))]) rfl dL_law_518 me_X1_diffOf rfl (ci := 0) rfl rfl xh_x (Or.inl q1129) q1130 q1131 (Nat.le_of_ble_eq_true rfl) (Nat.zero_le _) (Nat.zero_le _) (S_X1_diffOf (d := 86) H) (fun o h' hq _ => ?_) (fun E i h' q _ => (xQi_no q).elim)
  obtain ⟨n1, s', E1, rfl, H⟩ := hq
  cases E1
  refine ew_aload_n dL_law_521 rfl lm2 ?_
  refine ew_aload_n dL_law_522 rfl lm0 ?_
  refine ew_iload dL_law_523 lm4 ?_
  refine ew_iconst dL_law_525 (inI_of rfl) ?_
  refine ew_iadd dL_law_526 ⟨by omega, by omega⟩ ?_
  refine ew_sld rfl hS dL_law_527 (by omega) (by omega) ?_
  refine ew_aload_n dL_law_528 rfl lm0 ?_
  refine ew_iload dL_law_529 lm4 ?_
  refine ew_iconst dL_law_531 (inI_of rfl) ?_
  refine ew_iadd dL_law_532 ⟨by omega, by omega⟩ ?_
  refine ew_sld rfl hS dL_law_533 (by omega) (by omega) ?_
  rw [swapX (s := s') hL]
  refine ew_callV (d := 89) (as := [aI (f (p + 1)), aI (f (p + 2))]) rfl dL_law_534 me_diffOf rfl (ci := 1) rfl rfl (mh_o _ _) (Or.inl q1795) q1796 q1797 (Nat.le_of_ble_eq_true rfl) (Nat.zero_le _) (Nat.zero_le _) (S_diffOf (d := 88) H) (fun o h' hq _ => ?_) (fun E i h' q _ => (mQi_no q).elim)
  obtain ⟨n2, m', E2, rfl, e12, H⟩ := hq
  cases E2
  rw [← xh_mh]
  refine ew_icmp_eq (tgt := 1525) dL_law_537 (by decide) (fun _ => ?_) (fun c9 => absurd e12 c9)
  exact ew_room (Nat.le_refl _) (bsub (by decide)) (bsub (by decide)) (kk _ _ _ _ _ hL.upM H)
/-- case 10: joinOf -/
theorem L_case_10 {Q : AO → AH → Prop} {V : XV} {N n kc ks : Nat} {s : XS} {m : MS} {g : AH} {p : Int} {f : Int → Int} {KN : XS → MS → Prop} (hS : scr Q n f) (hL : LH V N m g) (hp : 0 ≤ p ∧ p + 6 ≤ n) (hn : n ≤ 144) (b1 : BC ≤ kc) (b2 : BS ≤ ks) (H : C_X1_joinOf (f (p + 1)) (f (p + 2)) s (fun r s' => C_joinOf (f (p + 1)) (f (p + 2)) m (fun r' m' => r = r' ∧ KN s' m'))) (kk : goesOn Q kc ks p KN) : EW mm_law 90 kc ks Q 542 (lvL p) [] (xh V s g) := by
  refine ew_aload_n dL_law_542 rfl lm1 ?_
  refine ew_aload_n dL_law_543 rfl lm0 ?_
  refine ew_iload dL_law_544 lm4 ?_
  refine ew_iconst dL_law_546 (inI_of rfl) ?_
  refine ew_iadd dL_law_547 ⟨by omega, by omega⟩ ?_
  refine ew_sld rfl hS dL_law_548 (by omega) (by omega) ?_
  refine ew_aload_n dL_law_549 rfl lm0 ?_
  refine ew_iload dL_law_550 lm4 ?_
  refine ew_iconst dL_law_552 (inI_of rfl) ?_
  refine ew_iadd dL_law_553 ⟨by omega, by omega⟩ ?_
  refine ew_sld rfl hS dL_law_554 (by omega) (by omega) ?_
  refine ew_callV (d := 89) (as := [aI (f (p + 1)), aI (f (p + 2))]) rfl dL_law_555 me_X1_joinOf rfl (ci := 0) rfl rfl xh_x (Or.inl q1133) q1134 q1135 (Nat.le_of_ble_eq_true rfl) (Nat.zero_le _) (Nat.zero_le _) (S_X1_joinOf (d := 88) H) (fun o h' hq _ => ?_) (fun E i h' q _ => (xQi_no q).elim)
  obtain ⟨n1, s', E1, rfl, H⟩ := hq
  cases E1
  refine ew_aload_n dL_law_558 rfl lm2 ?_
  refine ew_aload_n dL_law_559 rfl lm0 ?_
  refine ew_iload dL_law_560 lm4 ?_
  refine ew_iconst dL_law_562 (inI_of rfl) ?_
  refine ew_iadd dL_law_563 ⟨by omega, by omega⟩ ?_
  refine ew_sld rfl hS dL_law_564 (by omega) (by omega) ?_
  refine ew_aload_n dL_law_565 rfl lm0 ?_
  refine ew_iload dL_law_566 lm4 ?_
  refine ew_iconst dL_law_568 (inI_of rfl) ?_
  refine ew_iadd dL_law_569 ⟨by omega, by omega⟩ ?_
  refine ew_sld rfl hS dL_law_570 (by omega) (by omega) ?_
  rw [swapX (s := s') hL]
  refine ew_callV (d := 89) (as := [aI (f (p + 1)), aI (f (p + 2))]) rfl dL_law_571 me_joinOf rfl (ci := 1) rfl rfl (mh_o _ _) (Or.inl q1799) q1800 q1801 (Nat.le_of_ble_eq_true rfl) (Nat.zero_le _) (Nat.zero_le _) (S_joinOf (d := 88) H) (fun o h' hq _ => ?_) (fun E i h' q _ => (mQi_no q).elim)
  obtain ⟨n2, m', E2, rfl, e12, H⟩ := hq
  cases E2
  rw [← xh_mh]
  refine ew_icmp_eq (tgt := 1525) dL_law_574 (by decide) (fun _ => ?_) (fun c9 => absurd e12 c9)
  exact ew_room (Nat.le_refl _) (bsub (by decide)) (bsub (by decide)) (kk _ _ _ _ _ hL.upM H)
/-- case 11: height -/
theorem L_case_11 {Q : AO → AH → Prop} {V : XV} {N n kc ks : Nat} {s : XS} {m : MS} {g : AH} {p : Int} {f : Int → Int} {KN : XS → MS → Prop} (hS : scr Q n f) (hL : LH V N m g) (hp : 0 ≤ p ∧ p + 6 ≤ n) (hn : n ≤ 144) (b1 : BC ≤ kc) (b2 : BS ≤ ks) (H : C_X1_height (f (p + 1)) s (fun r s' => C_height (f (p + 1)) m (fun r' m' => r = r' ∧ KN s' m'))) (kk : goesOn Q kc ks p KN) : EW mm_law 90 kc ks Q 579 (lvL p) [] (xh V s g) := by
  refine ew_aload_n dL_law_579 rfl lm1 ?_
  refine ew_aload_n dL_law_580 rfl lm0 ?_
  refine ew_iload dL_law_581 lm4 ?_
  refine ew_iconst dL_law_583 (inI_of rfl) ?_
  refine ew_iadd dL_law_584 ⟨by omega, by omega⟩ ?_
  refine ew_sld rfl hS dL_law_585 (by omega) (by omega) ?_
  refine ew_callV (d := 89) (as := [aI (f (p + 1))]) rfl dL_law_586 me_X1_height rfl (ci := 0) rfl rfl xh_x (Or.inl q1137) q1138 q1139 (Nat.le_of_ble_eq_true rfl) (Nat.le_trans (by decide) b1) (Nat.le_trans (by decide) b2) (S_X1_height (d := 86) hL.xfl hL.fr H) (fun o h' hq _ => ?_) (fun E i h' q _ => (xQi_no q).elim)
  obtain ⟨n1, s', E1, rfl, H⟩ := hq
  cases E1
  refine ew_aload_n dL_law_589 rfl lm2 ?_
  refine ew_aload_n dL_law_590 rfl lm0 ?_
  refine ew_iload dL_law_591 lm4 ?_
  refine ew_iconst dL_law_593 (inI_of rfl) ?_
  refine ew_iadd dL_law_594 ⟨by omega, by omega⟩ ?_
  refine ew_sld rfl hS dL_law_595 (by omega) (by omega) ?_
  rw [swapX (s := s') hL]
  refine ew_callV (d := 89) (as := [aI (f (p + 1))]) rfl dL_law_596 me_height rfl (ci := 1) rfl rfl (mh_o _ _) (Or.inl q1767) q1768 q1769 (Nat.le_of_ble_eq_true rfl) (Nat.zero_le _) (Nat.zero_le _) (S_height (d := 87) H) (fun o h' hq _ => ?_) (fun E i h' q _ => (mQi_no q).elim)
  obtain ⟨n2, m', E2, rfl, e12, H⟩ := hq
  cases E2
  rw [← xh_mh]
  refine ew_icmp_eq (tgt := 1525) dL_law_599 (by decide) (fun _ => ?_) (fun c9 => absurd e12 c9)
  exact ew_room (Nat.le_refl _) (bsub (by decide)) (bsub (by decide)) (kk _ _ _ _ _ hL.upM H)
/-- case 12: hung -/
theorem L_case_12 {Q : AO → AH → Prop} {V : XV} {N n kc ks : Nat} {s : XS} {m : MS} {g : AH} {p : Int} {f : Int → Int} {KN : XS → MS → Prop} (hS : scr Q n f) (hL : LH V N m g) (hp : 0 ≤ p ∧ p + 6 ≤ n) (hn : n ≤ 144) (b1 : BC ≤ kc) (b2 : BS ≤ ks) (H : C_X1_hung (f (p + 1)) (f (p + 2)) s (fun r s' => C_hung (f (p + 1)) (f (p + 2)) m (fun r' m' => r = r' ∧ KN s' m'))) (kk : goesOn Q kc ks p KN) : EW mm_law 90 kc ks Q 604 (lvL p) [] (xh V s g) := by
  refine ew_aload_n dL_law_604 rfl lm1 ?_
  refine ew_aload_n dL_law_605 rfl lm0 ?_
  refine ew_iload dL_law_606 lm4 ?_
  refine ew_iconst dL_law_608 (inI_of rfl) ?_
  refine ew_iadd dL_law_609 ⟨by omega, by omega⟩ ?_
  refine ew_sld rfl hS dL_law_610 (by omega) (by omega) ?_
  refine ew_aload_n dL_law_611 rfl lm0 ?_
  refine ew_iload dL_law_612 lm4 ?_
  refine ew_iconst dL_law_614 (inI_of rfl) ?_
  refine ew_iadd dL_law_615 ⟨by omega, by omega⟩ ?_
  refine ew_sld rfl hS dL_law_616 (by omega) (by omega) ?_
  refine ew_callV (d := 89) (as := [aI (f (p + 1)), aI (f (p + 2))]) rfl dL_law_617 me_X1_hung rfl (ci := 0) rfl rfl xh_x (Or.inl q1141) q1142 q1143 (Nat.le_of_ble_eq_true rfl) (Nat.le_trans (by decide) b1) (Nat.le_trans (by decide) b2) (S_X1_hung (d := 86) hL.xfl hL.fr H) (fun o h' hq _ => ?_) (fun E i h' q _ => (xQi_no q).elim)
  obtain ⟨n1, s', E1, rfl, H⟩ := hq
  cases E1
  refine ew_aload_n dL_law_620 rfl lm2 ?_
  refine ew_aload_n dL_law_621 rfl lm0 ?_
  refine ew_iload dL_law_622 lm4 ?_
  refine ew_iconst dL_law_624 (inI_of rfl) ?_
  refine ew_iadd dL_law_625 ⟨by omega, by omega⟩ ?_
  refine ew_sld rfl hS dL_law_626 (by omega) (by omega) ?_
  refine ew_aload_n dL_law_627 rfl lm0 ?_
  refine ew_iload dL_law_628 lm4 ?_
  refine ew_iconst dL_law_630 (inI_of rfl) ?_
  refine ew_iadd dL_law_631 ⟨by omega, by omega⟩ ?_
  refine ew_sld rfl hS dL_law_632 (by omega) (by omega) ?_
  rw [swapX (s := s') hL]
  refine ew_callV (d := 89) (as := [aI (f (p + 1)), aI (f (p + 2))]) rfl dL_law_633 me_hung rfl (ci := 1) rfl rfl (mh_o _ _) (Or.inl q1771) q1772 q1773 (Nat.le_of_ble_eq_true rfl) (Nat.zero_le _) (Nat.zero_le _) (S_hung (d := 87) H) (fun o h' hq _ => ?_) (fun E i h' q _ => (mQi_no q).elim)
  obtain ⟨n2, m', E2, rfl, e12, H⟩ := hq
  cases E2
  rw [← xh_mh]
  refine ew_icmp_eq (tgt := 1525) dL_law_636 (by decide) (fun _ => ?_) (fun c9 => absurd e12 c9)
  exact ew_room (Nat.le_refl _) (bsub (by decide)) (bsub (by decide)) (kk _ _ _ _ _ hL.upM H)
/-- case 13: equal -/
theorem L_case_13 {Q : AO → AH → Prop} {V : XV} {N n kc ks : Nat} {s : XS} {m : MS} {g : AH} {p : Int} {f : Int → Int} {KN : XS → MS → Prop} (hS : scr Q n f) (hL : LH V N m g) (hp : 0 ≤ p ∧ p + 6 ≤ n) (hn : n ≤ 144) (b1 : BC ≤ kc) (b2 : BS ≤ ks) (H : C_X1_equal (f (p + 1)) (f (p + 2)) s (fun r s' => C_equal (f (p + 1)) (f (p + 2)) m (fun r' m' => r = r' ∧ KN s' m'))) (kk : goesOn Q kc ks p KN) : EW mm_law 90 kc ks Q 641 (lvL p) [] (xh V s g) := by
  refine ew_aload_n dL_law_641 rfl lm1 ?_
  refine ew_aload_n dL_law_642 rfl lm0 ?_
  refine ew_iload dL_law_643 lm4 ?_
  refine ew_iconst dL_law_645 (inI_of rfl) ?_
  refine ew_iadd dL_law_646 ⟨by omega, by omega⟩ ?_
  refine ew_sld rfl hS dL_law_647 (by omega) (by omega) ?_
  refine ew_aload_n dL_law_648 rfl lm0 ?_
  refine ew_iload dL_law_649 lm4 ?_
  refine ew_iconst dL_law_651 (inI_of rfl) ?_
  refine ew_iadd dL_law_652 ⟨by omega, by omega⟩ ?_
  refine ew_sld rfl hS dL_law_653 (by omega) (by omega) ?_
  refine ew_callV (d := 89) (as := [aI (f (p + 1)), aI (f (p + 2))]) rfl dL_law_654 me_X1_equal rfl (ci := 0) rfl rfl xh_x (Or.inl q1145) q1146 q1147 (Nat.le_of_ble_eq_true rfl) (Nat.le_trans (by decide) b1) (Nat.le_trans (by decide) b2) (S_X1_equal (d := 86) hL.xfl hL.fr H) (fun o h' hq _ => ?_) (fun E i h' q _ => (xQi_no q).elim)
  obtain ⟨n1, s', E1, rfl, H⟩ := hq
  cases E1
  refine ew_aload_n dL_law_657 rfl lm2 ?_
  refine ew_aload_n dL_law_658 rfl lm0 ?_
  refine ew_iload dL_law_659 lm4 ?_
  refine ew_iconst dL_law_661 (inI_of rfl) ?_
  refine ew_iadd dL_law_662 ⟨by omega, by omega⟩ ?_
  refine ew_sld rfl hS dL_law_663 (by omega) (by omega) ?_
  refine ew_aload_n dL_law_664 rfl lm0 ?_
  refine ew_iload dL_law_665 lm4 ?_
  refine ew_iconst dL_law_667 (inI_of rfl) ?_
  refine ew_iadd dL_law_668 ⟨by omega, by omega⟩ ?_
  refine ew_sld rfl hS dL_law_669 (by omega) (by omega) ?_
  rw [swapX (s := s') hL]
  refine ew_callV (d := 89) (as := [aI (f (p + 1)), aI (f (p + 2))]) rfl dL_law_670 me_equal rfl (ci := 1) rfl rfl (mh_o _ _) (Or.inl q1803) q1804 q1805 (Nat.le_of_ble_eq_true rfl) (Nat.zero_le _) (Nat.zero_le _) (S_equal (d := 87) H) (fun o h' hq _ => ?_) (fun E i h' q _ => (mQi_no q).elim)
  obtain ⟨n2, m', E2, rfl, e12, H⟩ := hq
  cases E2
  rw [← xh_mh]
  refine ew_icmp_eq (tgt := 1525) dL_law_673 (by decide) (fun _ => ?_) (fun c9 => absurd e12 c9)
  exact ew_room (Nat.le_refl _) (bsub (by decide)) (bsub (by decide)) (kk _ _ _ _ _ hL.upM H)
/-- case 14: apart -/
theorem L_case_14 {Q : AO → AH → Prop} {V : XV} {N n kc ks : Nat} {s : XS} {m : MS} {g : AH} {p : Int} {f : Int → Int} {KN : XS → MS → Prop} (hS : scr Q n f) (hL : LH V N m g) (hp : 0 ≤ p ∧ p + 6 ≤ n) (hn : n ≤ 144) (b1 : BC ≤ kc) (b2 : BS ≤ ks) (H : C_X1_apart (f (p + 1)) (f (p + 2)) s (fun r s' => C_apart (f (p + 1)) (f (p + 2)) m (fun r' m' => r = r' ∧ KN s' m'))) (kk : goesOn Q kc ks p KN) : EW mm_law 90 kc ks Q 678 (lvL p) [] (xh V s g) := by
  refine ew_aload_n dL_law_678 rfl lm1 ?_
  refine ew_aload_n dL_law_679 rfl lm0 ?_
  refine ew_iload dL_law_680 lm4 ?_
  refine ew_iconst dL_law_682 (inI_of rfl) ?_
  refine ew_iadd dL_law_683 ⟨by omega, by omega⟩ ?_
  refine ew_sld rfl hS dL_law_684 (by omega) (by omega) ?_
  refine ew_aload_n dL_law_685 rfl lm0 ?_
  refine ew_iload dL_law_686 lm4 ?_
  refine ew_iconst dL_law_688 (inI_of rfl) ?_
  refine ew_iadd dL_law_689 ⟨by omega, by omega⟩ ?_
  refine ew_sld rfl hS dL_law_690 (by omega) (by omega) ?_
  refine ew_callV (d := 89) (as := [aI (f (p + 1)), aI (f (p + 2))]) rfl dL_law_691 me_X1_apart rfl (ci := 0) rfl rfl xh_x (Or.inl q1149) q1150 q1151 (Nat.le_of_ble_eq_true rfl) (Nat.le_trans (by decide) b1) (Nat.le_trans (by decide) b2) (S_X1_apart (d := 86) hL.xfl hL.fr H) (fun o h' hq _ => ?_) (fun E i h' q _ => (xQi_no q).elim)
  obtain ⟨n1, s', E1, rfl, H⟩ := hq
  cases E1
  refine ew_aload_n dL_law_694 rfl lm2 ?_
  refine ew_aload_n dL_law_695 rfl lm0 ?_
  refine ew_iload dL_law_696 lm4 ?_
  refine ew_iconst dL_law_698 (inI_of rfl) ?_
  refine ew_iadd dL_law_699 ⟨by omega, by omega⟩ ?_
  refine ew_sld rfl hS dL_law_700 (by omega) (by omega) ?_
  refine ew_aload_n dL_law_701 rfl lm0 ?_
  refine ew_iload dL_law_702 lm4 ?_
  refine ew_iconst dL_law_704 (inI_of rfl) ?_
  refine ew_iadd dL_law_705 ⟨by omega, by omega⟩ ?_
  refine ew_sld rfl hS dL_law_706 (by omega) (by omega) ?_
  rw [swapX (s := s') hL]
  refine ew_callV (d := 89) (as := [aI (f (p + 1)), aI (f (p + 2))]) rfl dL_law_707 me_apart rfl (ci := 1) rfl rfl (mh_o _ _) (Or.inl q1807) q1808 q1809 (Nat.le_of_ble_eq_true rfl) (Nat.zero_le _) (Nat.zero_le _) (S_apart (d := 87) H) (fun o h' hq _ => ?_) (fun E i h' q _ => (mQi_no q).elim)
  obtain ⟨n2, m', E2, rfl, e12, H⟩ := hq
  cases E2
  rw [← xh_mh]
  refine ew_icmp_eq (tgt := 1525) dL_law_710 (by decide) (fun _ => ?_) (fun c9 => absurd e12 c9)
  exact ew_room (Nat.le_refl _) (bsub (by decide)) (bsub (by decide)) (kk _ _ _ _ _ hL.upM H)
/-- case 15: reasons -/
theorem L_case_15 {Q : AO → AH → Prop} {V : XV} {N n kc ks : Nat} {s : XS} {m : MS} {g : AH} {p : Int} {f : Int → Int} {KN : XS → MS → Prop} (hS : scr Q n f) (hL : LH V N m g) (hp : 0 ≤ p ∧ p + 6 ≤ n) (hn : n ≤ 144) (b1 : BC ≤ kc) (b2 : BS ≤ ks) (H : C_X1_reasons (f (p + 1)) (f (p + 2)) s (fun r s' => C_reasons (f (p + 1)) (f (p + 2)) m (fun r' m' => r = r' ∧ KN s' m'))) (kk : goesOn Q kc ks p KN) : EW mm_law 90 kc ks Q 715 (lvL p) [] (xh V s g) := by
  refine ew_aload_n dL_law_715 rfl lm1 ?_
  refine ew_aload_n dL_law_716 rfl lm0 ?_
  refine ew_iload dL_law_717 lm4 ?_
  refine ew_iconst dL_law_719 (inI_of rfl) ?_
  refine ew_iadd dL_law_720 ⟨by omega, by omega⟩ ?_
  refine ew_sld rfl hS dL_law_721 (by omega) (by omega) ?_
  refine ew_aload_n dL_law_722 rfl lm0 ?_
  refine ew_iload dL_law_723 lm4 ?_
  refine ew_iconst dL_law_725 (inI_of rfl) ?_
  refine ew_iadd dL_law_726 ⟨by omega, by omega⟩ ?_
  refine ew_sld rfl hS dL_law_727 (by omega) (by omega) ?_
  refine ew_callV (d := 89) (as := [aI (f (p + 1)), aI (f (p + 2))]) rfl dL_law_728 me_X1_reasons rfl (ci := 0) rfl rfl xh_x (Or.inl q1153) q1154 q1155 (Nat.le_of_ble_eq_true rfl) (Nat.le_trans (by decide) b1) (Nat.le_trans (by decide) b2) (S_X1_reasons (d := 4) hL.xfl hL.fr H) (fun o h' hq _ => ?_) (fun E i h' q _ => (xQi_no q).elim)
  obtain ⟨n1, s', E1, rfl, H⟩ := hq
  cases E1
  refine ew_aload_n dL_law_731 rfl lm2 ?_
  refine ew_aload_n dL_law_732 rfl lm0 ?_
  refine ew_iload dL_law_733 lm4 ?_
  refine ew_iconst dL_law_735 (inI_of rfl) ?_
  refine ew_iadd dL_law_736 ⟨by omega, by omega⟩ ?_
  refine ew_sld rfl hS dL_law_737 (by omega) (by omega) ?_
  refine ew_aload_n dL_law_738 rfl lm0 ?_
  refine ew_iload dL_law_739 lm4 ?_
  refine ew_iconst dL_law_741 (inI_of rfl) ?_
  refine ew_iadd dL_law_742 ⟨by omega, by omega⟩ ?_
  refine ew_sld rfl hS dL_law_743 (by omega) (by omega) ?_
  rw [swapX (s := s') hL]
  refine ew_callV (d := 89) (as := [aI (f (p + 1)), aI (f (p + 2))]) rfl dL_law_744 me_reasons rfl (ci := 1) rfl rfl (mh_o _ _) (Or.inl q1811) q1812 q1813 (Nat.le_of_ble_eq_true rfl) (Nat.zero_le _) (Nat.zero_le _) (S_reasons (d := 86) H) (fun o h' hq _ => ?_) (fun E i h' q _ => (mQi_no q).elim)
  obtain ⟨n2, m', E2, rfl, e12, H⟩ := hq
  cases E2
  rw [← xh_mh]
  refine ew_icmp_eq (tgt := 1525) dL_law_747 (by decide) (fun _ => ?_) (fun c9 => absurd e12 c9)
  exact ew_room (Nat.le_refl _) (bsub (by decide)) (bsub (by decide)) (kk _ _ _ _ _ hL.upM H)
/-- case 16: pruned -/
theorem L_case_16 {Q : AO → AH → Prop} {V : XV} {N n kc ks : Nat} {s : XS} {m : MS} {g : AH} {p : Int} {f : Int → Int} {KN : XS → MS → Prop} (hS : scr Q n f) (hL : LH V N m g) (hp : 0 ≤ p ∧ p + 6 ≤ n) (hn : n ≤ 144) (b1 : BC ≤ kc) (b2 : BS ≤ ks) (H : C_X1_pruned (f (p + 1)) (f (p + 2)) s (fun r s' => C_pruned (f (p + 1)) (f (p + 2)) m (fun r' m' => r = r' ∧ KN s' m'))) (kk : goesOn Q kc ks p KN) : EW mm_law 90 kc ks Q 752 (lvL p) [] (xh V s g) := by
  refine ew_aload_n dL_law_752 rfl lm1 ?_
  refine ew_aload_n dL_law_753 rfl lm0 ?_
  refine ew_iload dL_law_754 lm4 ?_
  refine ew_iconst dL_law_756 (inI_of rfl) ?_
  refine ew_iadd dL_law_757 ⟨by omega, by omega⟩ ?_
  refine ew_sld rfl hS dL_law_758 (by omega) (by omega) ?_
  refine ew_aload_n dL_law_759 rfl lm0 ?_
  refine ew_iload dL_law_760 lm4 ?_
  refine ew_iconst dL_law_762 (inI_of rfl) ?_
  refine ew_iadd dL_law_763 ⟨by omega, by omega⟩ ?_
  refine ew_sld rfl hS dL_law_764 (by omega) (by omega) ?_
  refine ew_callV (d := 89) (as := [aI (f (p + 1)), aI (f (p + 2))]) rfl dL_law_765 me_X1_pruned rfl (ci := 0) rfl rfl xh_x (Or.inl q1180) q1181 q1182 (Nat.le_of_ble_eq_true rfl) (Nat.le_trans (by decide) b1) (Nat.le_trans (by decide) b2) (S_X1_pruned (d := 81) hL.xfl hL.fr H) (fun o h' hq _ => ?_) (fun E i h' q _ => (xQi_no q).elim)
  obtain ⟨n1, s', E1, rfl, H⟩ := hq
  cases E1
  refine ew_aload_n dL_law_768 rfl lm2 ?_
  refine ew_aload_n dL_law_769 rfl lm0 ?_
  refine ew_iload dL_law_770 lm4 ?_
  refine ew_iconst dL_law_772 (inI_of rfl) ?_
  refine ew_iadd dL_law_773 ⟨by omega, by omega⟩ ?_
  refine ew_sld rfl hS dL_law_774 (by omega) (by omega) ?_
  refine ew_aload_n dL_law_775 rfl lm0 ?_
  refine ew_iload dL_law_776 lm4 ?_
  refine ew_iconst dL_law_778 (inI_of rfl) ?_
  refine ew_iadd dL_law_779 ⟨by omega, by omega⟩ ?_
  refine ew_sld rfl hS dL_law_780 (by omega) (by omega) ?_
  rw [swapX (s := s') hL]
  refine ew_callV (d := 89) (as := [aI (f (p + 1)), aI (f (p + 2))]) rfl dL_law_781 me_pruned rfl (ci := 1) rfl rfl (mh_o _ _) (Or.inl q1819) q1820 q1821 (Nat.le_of_ble_eq_true rfl) (Nat.zero_le _) (Nat.zero_le _) (S_pruned (d := 85) H) (fun o h' hq _ => ?_) (fun E i h' q _ => (mQi_no q).elim)
  obtain ⟨n2, m', E2, rfl, e12, H⟩ := hq
  cases E2
  rw [← xh_mh]
  refine ew_icmp_eq (tgt := 1525) dL_law_784 (by decide) (fun _ => ?_) (fun c9 => absurd e12 c9)
  exact ew_room (Nat.le_refl _) (bsub (by decide)) (bsub (by decide)) (kk _ _ _ _ _ hL.upM H)
/-- case 17: fewest -/
theorem L_case_17 {Q : AO → AH → Prop} {V : XV} {N n kc ks : Nat} {s : XS} {m : MS} {g : AH} {p : Int} {f : Int → Int} {KN : XS → MS → Prop} (hS : scr Q n f) (hL : LH V N m g) (hp : 0 ≤ p ∧ p + 6 ≤ n) (hn : n ≤ 144) (b1 : BC ≤ kc) (b2 : BS ≤ ks) (H : C_X1_fewest (f (p + 1)) (f (p + 2)) s (fun r s' => C_fewest (f (p + 1)) (f (p + 2)) m (fun r' m' => r = r' ∧ KN s' m'))) (kk : goesOn Q kc ks p KN) : EW mm_law 90 kc ks Q 789 (lvL p) [] (xh V s g) := by
  refine ew_aload_n dL_law_789 rfl lm1 ?_
  refine ew_aload_n dL_law_790 rfl lm0 ?_
  refine ew_iload dL_law_791 lm4 ?_
  refine ew_iconst dL_law_793 (inI_of rfl) ?_
  refine ew_iadd dL_law_794 ⟨by omega, by omega⟩ ?_
  refine ew_sld rfl hS dL_law_795 (by omega) (by omega) ?_
  refine ew_aload_n dL_law_796 rfl lm0 ?_
  refine ew_iload dL_law_797 lm4 ?_
  refine ew_iconst dL_law_799 (inI_of rfl) ?_
  refine ew_iadd dL_law_800 ⟨by omega, by omega⟩ ?_
  refine ew_sld rfl hS dL_law_801 (by omega) (by omega) ?_
  refine ew_callV (d := 89) (as := [aI (f (p + 1)), aI (f (p + 2))]) rfl dL_law_802 me_X1_fewest rfl (ci := 0) rfl rfl xh_x (Or.inl q1184) q1185 q1186 (Nat.le_of_ble_eq_true rfl) (Nat.le_trans (by decide) b1) (Nat.le_trans (by decide) b2) (S_X1_fewest (d := 40) hL.xfl hL.fr H) (fun o h' hq _ => ?_) (fun E i h' q _ => (xQi_no q).elim)
  obtain ⟨n1, s', E1, rfl, H⟩ := hq
  cases E1
  refine ew_aload_n dL_law_805 rfl lm2 ?_
  refine ew_aload_n dL_law_806 rfl lm0 ?_
  refine ew_iload dL_law_807 lm4 ?_
  refine ew_iconst dL_law_809 (inI_of rfl) ?_
  refine ew_iadd dL_law_810 ⟨by omega, by omega⟩ ?_
  refine ew_sld rfl hS dL_law_811 (by omega) (by omega) ?_
  refine ew_aload_n dL_law_812 rfl lm0 ?_
  refine ew_iload dL_law_813 lm4 ?_
  refine ew_iconst dL_law_815 (inI_of rfl) ?_
  refine ew_iadd dL_law_816 ⟨by omega, by omega⟩ ?_
  refine ew_sld rfl hS dL_law_817 (by omega) (by omega) ?_
  rw [swapX (s := s') hL]
  refine ew_callV (d := 89) (as := [aI (f (p + 1)), aI (f (p + 2))]) rfl dL_law_818 me_fewest rfl (ci := 1) rfl rfl (mh_o _ _) (Or.inl q1823) q1824 q1825 (Nat.le_of_ble_eq_true rfl) (Nat.zero_le _) (Nat.zero_le _) (S_fewest (d := 85) H) (fun o h' hq _ => ?_) (fun E i h' q _ => (mQi_no q).elim)
  obtain ⟨n2, m', E2, rfl, e12, H⟩ := hq
  cases E2
  rw [← xh_mh]
  refine ew_icmp_eq (tgt := 1525) dL_law_821 (by decide) (fun _ => ?_) (fun c9 => absurd e12 c9)
  exact ew_room (Nat.le_refl _) (bsub (by decide)) (bsub (by decide)) (kk _ _ _ _ _ hL.upM H)
/-- case 18: proves -/
theorem L_case_18 {Q : AO → AH → Prop} {V : XV} {N n kc ks : Nat} {s : XS} {m : MS} {g : AH} {p : Int} {f : Int → Int} {KN : XS → MS → Prop} (hS : scr Q n f) (hL : LH V N m g) (hp : 0 ≤ p ∧ p + 6 ≤ n) (hn : n ≤ 144) (b1 : BC ≤ kc) (b2 : BS ≤ ks) (H : C_X1_proves (f (p + 1)) (f (p + 2)) (f (p + 3)) s (fun r s' => C_proves (f (p + 1)) (f (p + 2)) (f (p + 3)) m (fun r' m' => r = r' ∧ KN s' m'))) (kk : goesOn Q kc ks p KN) : EW mm_law 90 kc ks Q 826 (lvL p) [] (xh V s g) := by
  refine ew_aload_n dL_law_826 rfl lm1 ?_
  refine ew_aload_n dL_law_827 rfl lm0 ?_
  refine ew_iload dL_law_828 lm4 ?_
  refine ew_iconst dL_law_830 (inI_of rfl) ?_
  refine ew_iadd dL_law_831 ⟨by omega, by omega⟩ ?_
  refine ew_sld rfl hS dL_law_832 (by omega) (by omega) ?_
  refine ew_aload_n dL_law_833 rfl lm0 ?_
  refine ew_iload dL_law_834 lm4 ?_
  refine ew_iconst dL_law_836 (inI_of rfl) ?_
  refine ew_iadd dL_law_837 ⟨by omega, by omega⟩ ?_
  refine ew_sld rfl hS dL_law_838 (by omega) (by omega) ?_
  refine ew_aload_n dL_law_839 rfl lm0 ?_
  refine ew_iload dL_law_840 lm4 ?_
  refine ew_iconst dL_law_842 (inI_of rfl) ?_
  refine ew_iadd dL_law_843 ⟨by omega, by omega⟩ ?_
  refine ew_sld rfl hS dL_law_844 (by omega) (by omega) ?_
  refine ew_callV (d := 89) (as := [aI (f (p + 1)), aI (f (p + 2)), aI (f (p + 3))]) rfl dL_law_845 me_X1_proves rfl (ci := 0) rfl rfl xh_x (Or.inl q1204) q1205 q1206 (Nat.le_of_ble_eq_true rfl) (Nat.le_trans (by decide) b1) (Nat.le_trans (by decide) b2) (S_X1_proves (d := 81) hL.xfl hL.fr H) (fun o h' hq _ => ?_) (fun E i h' q _ => (xQi_no q).elim)
  obtain ⟨n1, s', E1, rfl, H⟩ := hq
  cases E1
  refine ew_aload_n dL_law_848 rfl lm2 ?_
  refine ew_aload_n dL_law_849 rfl lm0 ?_
  refine ew_iload dL_law_850 lm4 ?_
  refine ew_iconst dL_law_852 (inI_of rfl) ?_
  refine ew_iadd dL_law_853 ⟨by omega, by omega⟩ ?_
  refine ew_sld rfl hS dL_law_854 (by omega) (by omega) ?_
  refine ew_aload_n dL_law_855 rfl lm0 ?_
  refine ew_iload dL_law_856 lm4 ?_
  refine ew_iconst dL_law_858 (inI_of rfl) ?_
  refine ew_iadd dL_law_859 ⟨by omega, by omega⟩ ?_
  refine ew_sld rfl hS dL_law_860 (by omega) (by omega) ?_
  refine ew_aload_n dL_law_861 rfl lm0 ?_
  refine ew_iload dL_law_862 lm4 ?_
  refine ew_iconst dL_law_864 (inI_of rfl) ?_
  refine ew_iadd dL_law_865 ⟨by omega, by omega⟩ ?_
  refine ew_sld rfl hS dL_law_866 (by omega) (by omega) ?_
  rw [swapX (s := s') hL]
  refine ew_callV (d := 89) (as := [aI (f (p + 1)), aI (f (p + 2)), aI (f (p + 3))]) rfl dL_law_867 me_proves rfl (ci := 1) rfl rfl (mh_o _ _) (Or.inl q1842) q1843 q1844 (Nat.le_of_ble_eq_true rfl) (Nat.zero_le _) (Nat.zero_le _) (S_proves (d := 85) H) (fun o h' hq _ => ?_) (fun E i h' q _ => (mQi_no q).elim)
  obtain ⟨n2, m', E2, rfl, e12, H⟩ := hq
  cases E2
  rw [← xh_mh]
  refine ew_icmp_eq (tgt := 1525) dL_law_870 (by decide) (fun _ => ?_) (fun c9 => absurd e12 c9)
  exact ew_room (Nat.le_refl _) (bsub (by decide)) (bsub (by decide)) (kk _ _ _ _ _ hL.upM H)
/-- case 19: since -/
theorem L_case_19 {Q : AO → AH → Prop} {V : XV} {N n kc ks : Nat} {s : XS} {m : MS} {g : AH} {p : Int} {f : Int → Int} {KN : XS → MS → Prop} (hS : scr Q n f) (hL : LH V N m g) (hp : 0 ≤ p ∧ p + 6 ≤ n) (hn : n ≤ 144) (b1 : BC ≤ kc) (b2 : BS ≤ ks) (H : C_X1_since (f (p + 1)) (f (p + 2)) s (fun r s' => C_since (f (p + 1)) (f (p + 2)) m (fun r' m' => r = r' ∧ KN s' m'))) (kk : goesOn Q kc ks p KN) : EW mm_law 90 kc ks Q 875 (lvL p) [] (xh V s g) := by
  refine ew_aload_n dL_law_875 rfl lm1 ?_
  refine ew_aload_n dL_law_876 rfl lm0 ?_
  refine ew_iload dL_law_877 lm4 ?_
  refine ew_iconst dL_law_879 (inI_of rfl) ?_
  refine ew_iadd dL_law_880 ⟨by omega, by omega⟩ ?_
  refine ew_sld rfl hS dL_law_881 (by omega) (by omega) ?_
  refine ew_aload_n dL_law_882 rfl lm0 ?_
  refine ew_iload dL_law_883 lm4 ?_
  refine ew_iconst dL_law_885 (inI_of rfl) ?_
  refine ew_iadd dL_law_886 ⟨by omega, by omega⟩ ?_
  refine ew_sld rfl hS dL_law_887 (by omega) (by omega) ?_
  refine ew_callV (d := 89) (as := [aI (f (p + 1)), aI (f (p + 2))]) rfl dL_law_888 me_X1_since rfl (ci := 0) rfl rfl xh_x (Or.inl q1208) q1209 q1210 (Nat.le_of_ble_eq_true rfl) (Nat.le_trans (by decide) b1) (Nat.le_trans (by decide) b2) (S_X1_since (d := 81) hL.xfl hL.fr H) (fun o h' hq _ => ?_) (fun E i h' q _ => (xQi_no q).elim)
  obtain ⟨n1, s', E1, rfl, H⟩ := hq
  cases E1
  refine ew_aload_n dL_law_891 rfl lm2 ?_
  refine ew_aload_n dL_law_892 rfl lm0 ?_
  refine ew_iload dL_law_893 lm4 ?_
  refine ew_iconst dL_law_895 (inI_of rfl) ?_
  refine ew_iadd dL_law_896 ⟨by omega, by omega⟩ ?_
  refine ew_sld rfl hS dL_law_897 (by omega) (by omega) ?_
  refine ew_aload_n dL_law_898 rfl lm0 ?_
  refine ew_iload dL_law_899 lm4 ?_
  refine ew_iconst dL_law_901 (inI_of rfl) ?_
  refine ew_iadd dL_law_902 ⟨by omega, by omega⟩ ?_
  refine ew_sld rfl hS dL_law_903 (by omega) (by omega) ?_
  rw [swapX (s := s') hL]
  refine ew_callV (d := 89) (as := [aI (f (p + 1)), aI (f (p + 2))]) rfl dL_law_904 me_since rfl (ci := 1) rfl rfl (mh_o _ _) (Or.inl q1846) q1847 q1848 (Nat.le_of_ble_eq_true rfl) (Nat.zero_le _) (Nat.zero_le _) (S_since (d := 85) H) (fun o h' hq _ => ?_) (fun E i h' q _ => (mQi_no q).elim)
  obtain ⟨n2, m', E2, rfl, e12, H⟩ := hq
  cases E2
  rw [← xh_mh]
  refine ew_icmp_eq (tgt := 1525) dL_law_907 (by decide) (fun _ => ?_) (fun c9 => absurd e12 c9)
  exact ew_room (Nat.le_refl _) (bsub (by decide)) (bsub (by decide)) (kk _ _ _ _ _ hL.upM H)
/-- case 20: needed -/
theorem L_case_20 {Q : AO → AH → Prop} {V : XV} {N n kc ks : Nat} {s : XS} {m : MS} {g : AH} {p : Int} {f : Int → Int} {KN : XS → MS → Prop} (hS : scr Q n f) (hL : LH V N m g) (hp : 0 ≤ p ∧ p + 6 ≤ n) (hn : n ≤ 144) (b1 : BC ≤ kc) (b2 : BS ≤ ks) (H : C_X1_needed (f (p + 1)) (f (p + 2)) s (fun r s' => C_needed (f (p + 1)) (f (p + 2)) m (fun r' m' => r = r' ∧ KN s' m'))) (kk : goesOn Q kc ks p KN) : EW mm_law 90 kc ks Q 912 (lvL p) [] (xh V s g) := by
  refine ew_aload_n dL_law_912 rfl lm1 ?_
  refine ew_aload_n dL_law_913 rfl lm0 ?_
  refine ew_iload dL_law_914 lm4 ?_
  refine ew_iconst dL_law_916 (inI_of rfl) ?_
  refine ew_iadd dL_law_917 ⟨by omega, by omega⟩ ?_
  refine ew_sld rfl hS dL_law_918 (by omega) (by omega) ?_
  refine ew_aload_n dL_law_919 rfl lm0 ?_
  refine ew_iload dL_law_920 lm4 ?_
  refine ew_iconst dL_law_922 (inI_of rfl) ?_
  refine ew_iadd dL_law_923 ⟨by omega, by omega⟩ ?_
  refine ew_sld rfl hS dL_law_924 (by omega) (by omega) ?_
  refine ew_callV (d := 89) (as := [aI (f (p + 1)), aI (f (p + 2))]) rfl dL_law_925 me_X1_needed rfl (ci := 0) rfl rfl xh_x (Or.inl q1212) q1213 q1214 (Nat.le_of_ble_eq_true rfl) (Nat.le_trans (by decide) b1) (Nat.le_trans (by decide) b2) (S_X1_needed (d := 81) hL.xfl hL.fr H) (fun o h' hq _ => ?_) (fun E i h' q _ => (xQi_no q).elim)
  obtain ⟨n1, s', E1, rfl, H⟩ := hq
  cases E1
  refine ew_aload_n dL_law_928 rfl lm2 ?_
  refine ew_aload_n dL_law_929 rfl lm0 ?_
  refine ew_iload dL_law_930 lm4 ?_
  refine ew_iconst dL_law_932 (inI_of rfl) ?_
  refine ew_iadd dL_law_933 ⟨by omega, by omega⟩ ?_
  refine ew_sld rfl hS dL_law_934 (by omega) (by omega) ?_
  refine ew_aload_n dL_law_935 rfl lm0 ?_
  refine ew_iload dL_law_936 lm4 ?_
  refine ew_iconst dL_law_938 (inI_of rfl) ?_
  refine ew_iadd dL_law_939 ⟨by omega, by omega⟩ ?_
  refine ew_sld rfl hS dL_law_940 (by omega) (by omega) ?_
  rw [swapX (s := s') hL]
  refine ew_callV (d := 89) (as := [aI (f (p + 1)), aI (f (p + 2))]) rfl dL_law_941 me_needed rfl (ci := 1) rfl rfl (mh_o _ _) (Or.inl q1830) q1831 q1832 (Nat.le_of_ble_eq_true rfl) (Nat.zero_le _) (Nat.zero_le _) (S_needed (d := 85) H) (fun o h' hq _ => ?_) (fun E i h' q _ => (mQi_no q).elim)
  obtain ⟨n2, m', E2, rfl, e12, H⟩ := hq
  cases E2
  rw [← xh_mh]
  refine ew_icmp_eq (tgt := 1525) dL_law_944 (by decide) (fun _ => ?_) (fun c9 => absurd e12 c9)
  exact ew_room (Nat.le_refl _) (bsub (by decide)) (bsub (by decide)) (kk _ _ _ _ _ hL.upM H)
/-- case 21: many -/
theorem L_case_21 {Q : AO → AH → Prop} {V : XV} {N n kc ks : Nat} {s : XS} {m : MS} {g : AH} {p : Int} {f : Int → Int} {KN : XS → MS → Prop} (hS : scr Q n f) (hL : LH V N m g) (hp : 0 ≤ p ∧ p + 6 ≤ n) (hn : n ≤ 144) (b1 : BC ≤ kc) (b2 : BS ≤ ks) (H : C_X1_many (f (p + 1)) (f (p + 2)) s (fun r s' => C_many (f (p + 1)) (f (p + 2)) m (fun r' m' => r = r' ∧ KN s' m'))) (kk : goesOn Q kc ks p KN) : EW mm_law 90 kc ks Q 949 (lvL p) [] (xh V s g) := by
  refine ew_aload_n dL_law_949 rfl lm1 ?_
  refine ew_aload_n dL_law_950 rfl lm0 ?_
  refine ew_iload dL_law_951 lm4 ?_
  refine ew_iconst dL_law_953 (inI_of rfl) ?_
  refine ew_iadd dL_law_954 ⟨by omega, by omega⟩ ?_
  refine ew_sld rfl hS dL_law_955 (by omega) (by omega) ?_
  refine ew_aload_n dL_law_956 rfl lm0 ?_
  refine ew_iload dL_law_957 lm4 ?_
  refine ew_iconst dL_law_959 (inI_of rfl) ?_
  refine ew_iadd dL_law_960 ⟨by omega, by omega⟩ ?_
  refine ew_sld rfl hS dL_law_961 (by omega) (by omega) ?_
  refine ew_callV (d := 89) (as := [aI (f (p + 1)), aI (f (p + 2))]) rfl dL_law_962 me_X1_many rfl (ci := 0) rfl rfl xh_x (Or.inl q1216) q1217 q1218 (Nat.le_of_ble_eq_true rfl) (Nat.le_trans (by decide) b1) (Nat.le_trans (by decide) b2) (S_X1_many (d := 81) hL.xfl hL.fr H) (fun o h' hq _ => ?_) (fun E i h' q _ => (xQi_no q).elim)
  obtain ⟨n1, s', E1, rfl, H⟩ := hq
  cases E1
  refine ew_aload_n dL_law_965 rfl lm2 ?_
  refine ew_aload_n dL_law_966 rfl lm0 ?_
  refine ew_iload dL_law_967 lm4 ?_
  refine ew_iconst dL_law_969 (inI_of rfl) ?_
  refine ew_iadd dL_law_970 ⟨by omega, by omega⟩ ?_
  refine ew_sld rfl hS dL_law_971 (by omega) (by omega) ?_
  refine ew_aload_n dL_law_972 rfl lm0 ?_
  refine ew_iload dL_law_973 lm4 ?_
  refine ew_iconst dL_law_975 (inI_of rfl) ?_
  refine ew_iadd dL_law_976 ⟨by omega, by omega⟩ ?_
  refine ew_sld rfl hS dL_law_977 (by omega) (by omega) ?_
  rw [swapX (s := s') hL]
  refine ew_callV (d := 89) (as := [aI (f (p + 1)), aI (f (p + 2))]) rfl dL_law_978 me_many rfl (ci := 1) rfl rfl (mh_o _ _) (Or.inl q1834) q1835 q1836 (Nat.le_of_ble_eq_true rfl) (Nat.zero_le _) (Nat.zero_le _) (S_many (d := 85) H) (fun o h' hq _ => ?_) (fun E i h' q _ => (mQi_no q).elim)
  obtain ⟨n2, m', E2, rfl, e12, H⟩ := hq
  cases E2
  rw [← xh_mh]
  refine ew_icmp_eq (tgt := 1525) dL_law_981 (by decide) (fun _ => ?_) (fun c9 => absurd e12 c9)
  exact ew_room (Nat.le_refl _) (bsub (by decide)) (bsub (by decide)) (kk _ _ _ _ _ hL.upM H)
/-- case 22: base -/
theorem L_case_22 {Q : AO → AH → Prop} {V : XV} {N n kc ks : Nat} {s : XS} {m : MS} {g : AH} {p : Int} {f : Int → Int} {KN : XS → MS → Prop} (hS : scr Q n f) (hL : LH V N m g) (hp : 0 ≤ p ∧ p + 6 ≤ n) (hn : n ≤ 144) (b1 : BC ≤ kc) (b2 : BS ≤ ks) (H : C_X1_base s (fun r s' => C_base m (fun r' m' => r = r' ∧ KN s' m'))) (kk : goesOn Q kc ks p KN) : EW mm_law 90 kc ks Q 986 (lvL p) [] (xh V s g) := by
  refine ew_aload_n dL_law_986 rfl lm1 ?_
  refine ew_callV (d := 89) (as := []) rfl dL_law_987 me_X1_base rfl (ci := 0) rfl rfl xh_x (Or.inl q1224) q1225 q1226 (Nat.le_of_ble_eq_true rfl) (Nat.zero_le _) (Nat.zero_le _) (S_X1_base (d := 81) H) (fun o h' hq _ => ?_) (fun E i h' q _ => (xQi_no q).elim)
  obtain ⟨n1, s', E1, rfl, H⟩ := hq
  cases E1
  refine ew_aload_n dL_law_990 rfl lm2 ?_
  rw [swapX (s := s') hL]
  refine ew_callV (d := 89) (as := []) rfl dL_law_991 me_base rfl (ci := 1) rfl rfl (mh_o _ _) (Or.inl q1838) q1839 q1840 (Nat.le_of_ble_eq_true rfl) (Nat.zero_le _) (Nat.zero_le _) (S_base (d := 85) H) (fun o h' hq _ => ?_) (fun E i h' q _ => (mQi_no q).elim)
  obtain ⟨n2, m', E2, rfl, e12, H⟩ := hq
  cases E2
  rw [← xh_mh]
  refine ew_icmp_eq (tgt := 1525) dL_law_994 (by decide) (fun _ => ?_) (fun c9 => absurd e12 c9)
  exact ew_room (Nat.le_refl _) (bsub (by decide)) (bsub (by decide)) (kk _ _ _ _ _ hL.upM H)
/-- case 23: level -/
theorem L_case_23 {Q : AO → AH → Prop} {V : XV} {N n kc ks : Nat} {s : XS} {m : MS} {g : AH} {p : Int} {f : Int → Int} {KN : XS → MS → Prop} (hS : scr Q n f) (hL : LH V N m g) (hp : 0 ≤ p ∧ p + 6 ≤ n) (hn : n ≤ 144) (b1 : BC ≤ kc) (b2 : BS ≤ ks) (H : C_X1_level (f (p + 1)) (f (p + 2)) s (fun r s' => C_level (f (p + 1)) (f (p + 2)) m (fun r' m' => r = r' ∧ KN s' m'))) (kk : goesOn Q kc ks p KN) : EW mm_law 90 kc ks Q 999 (lvL p) [] (xh V s g) := by
  refine ew_aload_n dL_law_999 rfl lm1 ?_
  refine ew_aload_n dL_law_1000 rfl lm0 ?_
  refine ew_iload dL_law_1001 lm4 ?_
  refine ew_iconst dL_law_1003 (inI_of rfl) ?_
  refine ew_iadd dL_law_1004 ⟨by omega, by omega⟩ ?_
  refine ew_sld rfl hS dL_law_1005 (by omega) (by omega) ?_
  refine ew_aload_n dL_law_1006 rfl lm0 ?_
  refine ew_iload dL_law_1007 lm4 ?_
  refine ew_iconst dL_law_1009 (inI_of rfl) ?_
  refine ew_iadd dL_law_1010 ⟨by omega, by omega⟩ ?_
  refine ew_sld rfl hS dL_law_1011 (by omega) (by omega) ?_
  refine ew_callV (d := 89) (as := [aI (f (p + 1)), aI (f (p + 2))]) rfl dL_law_1012 me_X1_level rfl (ci := 0) rfl rfl xh_x (Or.inl q1235) q1236 q1237 (Nat.le_of_ble_eq_true rfl) (Nat.le_trans (by decide) b1) (Nat.le_trans (by decide) b2) (S_X1_level (d := 85) hL.xfl hL.fr H) (fun o h' hq _ => ?_) (fun E i h' q _ => (xQi_no q).elim)
  obtain ⟨n1, s', E1, rfl, H⟩ := hq
  cases E1
  refine ew_aload_n dL_law_1015 rfl lm2 ?_
  refine ew_aload_n dL_law_1016 rfl lm0 ?_
  refine ew_iload dL_law_1017 lm4 ?_
  refine ew_iconst dL_law_1019 (inI_of rfl) ?_
  refine ew_iadd dL_law_1020 ⟨by omega, by omega⟩ ?_
  refine ew_sld rfl hS dL_law_1021 (by omega) (by omega) ?_
  refine ew_aload_n dL_law_1022 rfl lm0 ?_
  refine ew_iload dL_law_1023 lm4 ?_
  refine ew_iconst dL_law_1025 (inI_of rfl) ?_
  refine ew_iadd dL_law_1026 ⟨by omega, by omega⟩ ?_
  refine ew_sld rfl hS dL_law_1027 (by omega) (by omega) ?_
  rw [swapX (s := s') hL]
  refine ew_callV (d := 89) (as := [aI (f (p + 1)), aI (f (p + 2))]) rfl dL_law_1028 me_level rfl (ci := 1) rfl rfl (mh_o _ _) (Or.inl q1850) q1851 q1852 (Nat.le_of_ble_eq_true rfl) (Nat.zero_le _) (Nat.zero_le _) (S_level (d := 86) H) (fun o h' hq _ => ?_) (fun E i h' q _ => (mQi_no q).elim)
  obtain ⟨n2, m', E2, rfl, e12, H⟩ := hq
  cases E2
  rw [← xh_mh]
  refine ew_icmp_eq (tgt := 1525) dL_law_1031 (by decide) (fun _ => ?_) (fun c9 => absurd e12 c9)
  exact ew_room (Nat.le_refl _) (bsub (by decide)) (bsub (by decide)) (kk _ _ _ _ _ hL.upM H)
/-- case 24: cost -/
theorem L_case_24 {Q : AO → AH → Prop} {V : XV} {N n kc ks : Nat} {s : XS} {m : MS} {g : AH} {p : Int} {f : Int → Int} {KN : XS → MS → Prop} (hS : scr Q n f) (hL : LH V N m g) (hp : 0 ≤ p ∧ p + 6 ≤ n) (hn : n ≤ 144) (b1 : BC ≤ kc) (b2 : BS ≤ ks) (H : C_X1_cost (f (p + 1)) (f (p + 2)) s (fun r s' => C_cost (f (p + 1)) (f (p + 2)) m (fun r' m' => r = r' ∧ KN s' m'))) (kk : goesOn Q kc ks p KN) : EW mm_law 90 kc ks Q 1036 (lvL p) [] (xh V s g) := by
  refine ew_aload_n dL_law_1036 rfl lm1 ?_
  refine ew_aload_n dL_law_1037 rfl lm0 ?_
  refine ew_iload dL_law_1038 lm4 ?_
  refine ew_iconst dL_law_1040 (inI_of rfl) ?_
  refine ew_iadd dL_law_1041 ⟨by omega, by omega⟩ ?_
  refine ew_sld rfl hS dL_law_1042 (by omega) (by omega) ?_
  refine ew_aload_n dL_law_1043 rfl lm0 ?_
  refine ew_iload dL_law_1044 lm4 ?_
  refine ew_iconst dL_law_1046 (inI_of rfl) ?_
  refine ew_iadd dL_law_1047 ⟨by omega, by omega⟩ ?_
  refine ew_sld rfl hS dL_law_1048 (by omega) (by omega) ?_
  refine ew_callV (d := 89) (as := [aI (f (p + 1)), aI (f (p + 2))]) rfl dL_law_1049 me_X1_cost rfl (ci := 0) rfl rfl xh_x (Or.inl q1249) q1250 q1251 (Nat.le_of_ble_eq_true rfl) (Nat.le_trans (by decide) b1) (Nat.le_trans (by decide) b2) (S_X1_cost (d := 83) hL.xfl hL.fr H) (fun o h' hq _ => ?_) (fun E i h' q _ => (xQi_no q).elim)
  obtain ⟨n1, s', E1, rfl, H⟩ := hq
  cases E1
  refine ew_aload_n dL_law_1052 rfl lm2 ?_
  refine ew_aload_n dL_law_1053 rfl lm0 ?_
  refine ew_iload dL_law_1054 lm4 ?_
  refine ew_iconst dL_law_1056 (inI_of rfl) ?_
  refine ew_iadd dL_law_1057 ⟨by omega, by omega⟩ ?_
  refine ew_sld rfl hS dL_law_1058 (by omega) (by omega) ?_
  refine ew_aload_n dL_law_1059 rfl lm0 ?_
  refine ew_iload dL_law_1060 lm4 ?_
  refine ew_iconst dL_law_1062 (inI_of rfl) ?_
  refine ew_iadd dL_law_1063 ⟨by omega, by omega⟩ ?_
  refine ew_sld rfl hS dL_law_1064 (by omega) (by omega) ?_
  rw [swapX (s := s') hL]
  refine ew_callV (d := 89) (as := [aI (f (p + 1)), aI (f (p + 2))]) rfl dL_law_1065 me_cost rfl (ci := 1) rfl rfl (mh_o _ _) (Or.inl q1854) q1855 q1856 (Nat.le_of_ble_eq_true rfl) (Nat.zero_le _) (Nat.zero_le _) (S_cost (d := 85) H) (fun o h' hq _ => ?_) (fun E i h' q _ => (mQi_no q).elim)
  obtain ⟨n2, m', E2, rfl, e12, H⟩ := hq
  cases E2
  rw [← xh_mh]
  refine ew_icmp_eq (tgt := 1525) dL_law_1068 (by decide) (fun _ => ?_) (fun c9 => absurd e12 c9)
  exact ew_room (Nat.le_refl _) (bsub (by decide)) (bsub (by decide)) (kk _ _ _ _ _ hL.upM H)
/-- case 25: way -/
theorem L_case_25 {Q : AO → AH → Prop} {V : XV} {N n kc ks : Nat} {s : XS} {m : MS} {g : AH} {p : Int} {f : Int → Int} {KN : XS → MS → Prop} (hS : scr Q n f) (hL : LH V N m g) (hp : 0 ≤ p ∧ p + 6 ≤ n) (hn : n ≤ 144) (b1 : BC ≤ kc) (b2 : BS ≤ ks) (H : C_X1_way (f (p + 1)) (f (p + 2)) (f (p + 3)) s (fun r s' => C_way (f (p + 1)) (f (p + 2)) (f (p + 3)) m (fun r' m' => r = r' ∧ KN s' m'))) (kk : goesOn Q kc ks p KN) : EW mm_law 90 kc ks Q 1073 (lvL p) [] (xh V s g) := by
  refine ew_aload_n dL_law_1073 rfl lm1 ?_
  refine ew_aload_n dL_law_1074 rfl lm0 ?_
  refine ew_iload dL_law_1075 lm4 ?_
  refine ew_iconst dL_law_1077 (inI_of rfl) ?_
  refine ew_iadd dL_law_1078 ⟨by omega, by omega⟩ ?_
  refine ew_sld rfl hS dL_law_1079 (by omega) (by omega) ?_
  refine ew_aload_n dL_law_1080 rfl lm0 ?_
  refine ew_iload dL_law_1081 lm4 ?_
  refine ew_iconst dL_law_1083 (inI_of rfl) ?_
  refine ew_iadd dL_law_1084 ⟨by omega, by omega⟩ ?_
  refine ew_sld rfl hS dL_law_1085 (by omega) (by omega) ?_
  refine ew_aload_n dL_law_1086 rfl lm0 ?_
  refine ew_iload dL_law_1087 lm4 ?_
  refine ew_iconst dL_law_1089 (inI_of rfl) ?_
  refine ew_iadd dL_law_1090 ⟨by omega, by omega⟩ ?_
  refine ew_sld rfl hS dL_law_1091 (by omega) (by omega) ?_
  refine ew_callV (d := 89) (as := [aI (f (p + 1)), aI (f (p + 2)), aI (f (p + 3))]) rfl dL_law_1092 me_X1_way rfl (ci := 0) rfl rfl xh_x (Or.inl q1277) q1278 q1279 (Nat.le_of_ble_eq_true rfl) (Nat.le_trans (by decide) b1) (Nat.le_trans (by decide) b2) (S_X1_way (d := 83) hL.xfl hL.fr H) (fun o h' hq _ => ?_) (fun E i h' q _ => (xQi_no q).elim)
  obtain ⟨n1, s', E1, rfl, H⟩ := hq
  cases E1
  refine ew_aload_n dL_law_1095 rfl lm2 ?_
  refine ew_aload_n dL_law_1096 rfl lm0 ?_
  refine ew_iload dL_law_1097 lm4 ?_
  refine ew_iconst dL_law_1099 (inI_of rfl) ?_
  refine ew_iadd dL_law_1100 ⟨by omega, by omega⟩ ?_
  refine ew_sld rfl hS dL_law_1101 (by omega) (by omega) ?_
  refine ew_aload_n dL_law_1102 rfl lm0 ?_
  refine ew_iload dL_law_1103 lm4 ?_
  refine ew_iconst dL_law_1105 (inI_of rfl) ?_
  refine ew_iadd dL_law_1106 ⟨by omega, by omega⟩ ?_
  refine ew_sld rfl hS dL_law_1107 (by omega) (by omega) ?_
  refine ew_aload_n dL_law_1108 rfl lm0 ?_
  refine ew_iload dL_law_1109 lm4 ?_
  refine ew_iconst dL_law_1111 (inI_of rfl) ?_
  refine ew_iadd dL_law_1112 ⟨by omega, by omega⟩ ?_
  refine ew_sld rfl hS dL_law_1113 (by omega) (by omega) ?_
  rw [swapX (s := s') hL]
  refine ew_callV (d := 89) (as := [aI (f (p + 1)), aI (f (p + 2)), aI (f (p + 3))]) rfl dL_law_1114 me_way rfl (ci := 1) rfl rfl (mh_o _ _) (Or.inl q1878) q1879 q1880 (Nat.le_of_ble_eq_true rfl) (Nat.zero_le _) (Nat.zero_le _) (S_way (d := 85) H) (fun o h' hq _ => ?_) (fun E i h' q _ => (mQi_no q).elim)
  obtain ⟨n2, m', E2, rfl, e12, H⟩ := hq
  cases E2
  rw [← xh_mh]
  refine ew_icmp_eq (tgt := 1525) dL_law_1117 (by decide) (fun _ => ?_) (fun c9 => absurd e12 c9)
  exact ew_room (Nat.le_refl _) (bsub (by decide)) (bsub (by decide)) (kk _ _ _ _ _ hL.upM H)
/-- case 26: core -/
theorem L_case_26 {Q : AO → AH → Prop} {V : XV} {N n kc ks : Nat} {s : XS} {m : MS} {g : AH} {p : Int} {f : Int → Int} {KN : XS → MS → Prop} (hS : scr Q n f) (hL : LH V N m g) (hp : 0 ≤ p ∧ p + 6 ≤ n) (hn : n ≤ 144) (b1 : BC ≤ kc) (b2 : BS ≤ ks) (H : C_X1_core s (fun r s' => C_core m (fun r' m' => r = r' ∧ KN s' m'))) (kk : goesOn Q kc ks p KN) : EW mm_law 90 kc ks Q 1122 (lvL p) [] (xh V s g) := by
  refine ew_aload_n dL_law_1122 rfl lm1 ?_
  refine ew_callV (d := 89) (as := []) rfl dL_law_1123 me_X1_core rfl (ci := 0) rfl rfl xh_x (Or.inl q1228) q1229 q1230 (Nat.le_of_ble_eq_true rfl) (Nat.le_trans (by decide) b1) (Nat.le_trans (by decide) b2) (S_X1_core (d := 40) hL.xfl hL.fr H) (fun o h' hq _ => ?_) (fun E i h' q _ => (xQi_no q).elim)
  obtain ⟨n1, s', E1, rfl, H⟩ := hq
  cases E1
  refine ew_aload_n dL_law_1126 rfl lm2 ?_
  rw [swapX (s := s') hL]
  refine ew_callV (d := 89) (as := []) rfl dL_law_1127 me_core rfl (ci := 1) rfl rfl (mh_o _ _) (Or.inl q1890) q1891 q1892 (Nat.le_of_ble_eq_true rfl) (Nat.zero_le _) (Nat.zero_le _) (S_core (d := 86) H) (fun o h' hq _ => ?_) (fun E i h' q _ => (mQi_no q).elim)
  obtain ⟨n2, m', E2, rfl, e12, H⟩ := hq
  cases E2
  rw [← xh_mh]
  refine ew_icmp_eq (tgt := 1525) dL_law_1130 (by decide) (fun _ => ?_) (fun c9 => absurd e12 c9)
  exact ew_room (Nat.le_refl _) (bsub (by decide)) (bsub (by decide)) (kk _ _ _ _ _ hL.upM H)
/-- case 27: would -/
theorem L_case_27 {Q : AO → AH → Prop} {V : XV} {N n kc ks : Nat} {s : XS} {m : MS} {g : AH} {p : Int} {f : Int → Int} {KN : XS → MS → Prop} (hS : scr Q n f) (hL : LH V N m g) (hp : 0 ≤ p ∧ p + 6 ≤ n) (hn : n ≤ 144) (b1 : BC ≤ kc) (b2 : BS ≤ ks) (H : C_X1_would (f (p + 1)) (f (p + 2)) (f (p + 3)) s (fun r s' => C_would (f (p + 1)) (f (p + 2)) (f (p + 3)) m (fun r' m' => r = r' ∧ KN s' m'))) (kk : goesOn Q kc ks p KN) : EW mm_law 90 kc ks Q 1135 (lvL p) [] (xh V s g) := by
  refine ew_aload_n dL_law_1135 rfl lm1 ?_
  refine ew_aload_n dL_law_1136 rfl lm0 ?_
  refine ew_iload dL_law_1137 lm4 ?_
  refine ew_iconst dL_law_1139 (inI_of rfl) ?_
  refine ew_iadd dL_law_1140 ⟨by omega, by omega⟩ ?_
  refine ew_sld rfl hS dL_law_1141 (by omega) (by omega) ?_
  refine ew_aload_n dL_law_1142 rfl lm0 ?_
  refine ew_iload dL_law_1143 lm4 ?_
  refine ew_iconst dL_law_1145 (inI_of rfl) ?_
  refine ew_iadd dL_law_1146 ⟨by omega, by omega⟩ ?_
  refine ew_sld rfl hS dL_law_1147 (by omega) (by omega) ?_
  refine ew_aload_n dL_law_1148 rfl lm0 ?_
  refine ew_iload dL_law_1149 lm4 ?_
  refine ew_iconst dL_law_1151 (inI_of rfl) ?_
  refine ew_iadd dL_law_1152 ⟨by omega, by omega⟩ ?_
  refine ew_sld rfl hS dL_law_1153 (by omega) (by omega) ?_
  refine ew_callV (d := 89) (as := [aI (f (p + 1)), aI (f (p + 2)), aI (f (p + 3))]) rfl dL_law_1154 me_X1_would rfl (ci := 0) rfl rfl xh_x (Or.inl q1291) q1292 q1293 (Nat.le_of_ble_eq_true rfl) (Nat.le_trans (by decide) b1) (Nat.le_trans (by decide) b2) (S_X1_would (d := 81) hL.xfl hL.fr H) (fun o h' hq _ => ?_) (fun E i h' q _ => (xQi_no q).elim)
  obtain ⟨n1, s', E1, rfl, H⟩ := hq
  cases E1
  refine ew_aload_n dL_law_1157 rfl lm2 ?_
  refine ew_aload_n dL_law_1158 rfl lm0 ?_
  refine ew_iload dL_law_1159 lm4 ?_
  refine ew_iconst dL_law_1161 (inI_of rfl) ?_
  refine ew_iadd dL_law_1162 ⟨by omega, by omega⟩ ?_
  refine ew_sld rfl hS dL_law_1163 (by omega) (by omega) ?_
  refine ew_aload_n dL_law_1164 rfl lm0 ?_
  refine ew_iload dL_law_1165 lm4 ?_
  refine ew_iconst dL_law_1167 (inI_of rfl) ?_
  refine ew_iadd dL_law_1168 ⟨by omega, by omega⟩ ?_
  refine ew_sld rfl hS dL_law_1169 (by omega) (by omega) ?_
  refine ew_aload_n dL_law_1170 rfl lm0 ?_
  refine ew_iload dL_law_1171 lm4 ?_
  refine ew_iconst dL_law_1173 (inI_of rfl) ?_
  refine ew_iadd dL_law_1174 ⟨by omega, by omega⟩ ?_
  refine ew_sld rfl hS dL_law_1175 (by omega) (by omega) ?_
  rw [swapX (s := s') hL]
  refine ew_callV (d := 89) (as := [aI (f (p + 1)), aI (f (p + 2)), aI (f (p + 3))]) rfl dL_law_1176 me_would rfl (ci := 1) rfl rfl (mh_o _ _) (Or.inl q1894) q1895 q1896 (Nat.le_of_ble_eq_true rfl) (Nat.zero_le _) (Nat.zero_le _) (S_would (d := 85) H) (fun o h' hq _ => ?_) (fun E i h' q _ => (mQi_no q).elim)
  obtain ⟨n2, m', E2, rfl, e12, H⟩ := hq
  cases E2
  rw [← xh_mh]
  refine ew_icmp_eq (tgt := 1525) dL_law_1179 (by decide) (fun _ => ?_) (fun c9 => absurd e12 c9)
  exact ew_room (Nat.le_refl _) (bsub (by decide)) (bsub (by decide)) (kk _ _ _ _ _ hL.upM H)
/-- case 28: next -/
theorem L_case_28 {Q : AO → AH → Prop} {V : XV} {N n kc ks : Nat} {s : XS} {m : MS} {g : AH} {p : Int} {f : Int → Int} {KN : XS → MS → Prop} (hS : scr Q n f) (hL : LH V N m g) (hp : 0 ≤ p ∧ p + 6 ≤ n) (hn : n ≤ 144) (b1 : BC ≤ kc) (b2 : BS ≤ ks) (H : ∃ mc ms, (mc ≤ BC ∧ ms ≤ BS) ∧ C_X1_next_2 mc ms (f (p + 1)) (f (p + 2)) (f (p + 3)) (f (p + 4)) s (fun r s' => C_next (f (p + 1)) (f (p + 2)) (f (p + 3)) (f (p + 4)) m (fun r' m' => r = r' ∧ KN s' m'))) (kk : goesOn Q kc ks p KN) : EW mm_law 90 kc ks Q 1184 (lvL p) [] (xh V s g) := by
  refine ew_aload_n dL_law_1184 rfl lm1 ?_
  refine ew_aload_n dL_law_1185 rfl lm0 ?_
  refine ew_iload dL_law_1186 lm4 ?_
  refine ew_iconst dL_law_1188 (inI_of rfl) ?_
  refine ew_iadd dL_law_1189 ⟨by omega, by omega⟩ ?_
  refine ew_sld rfl hS dL_law_1190 (by omega) (by omega) ?_
  refine ew_aload_n dL_law_1191 rfl lm0 ?_
  refine ew_iload dL_law_1192 lm4 ?_
  refine ew_iconst dL_law_1194 (inI_of rfl) ?_
  refine ew_iadd dL_law_1195 ⟨by omega, by omega⟩ ?_
  refine ew_sld rfl hS dL_law_1196 (by omega) (by omega) ?_
  refine ew_aload_n dL_law_1197 rfl lm0 ?_
  refine ew_iload dL_law_1198 lm4 ?_
  refine ew_iconst dL_law_1200 (inI_of rfl) ?_
  refine ew_iadd dL_law_1201 ⟨by omega, by omega⟩ ?_
  refine ew_sld rfl hS dL_law_1202 (by omega) (by omega) ?_
  refine ew_aload_n dL_law_1203 rfl lm0 ?_
  refine ew_iload dL_law_1204 lm4 ?_
  refine ew_iconst dL_law_1206 (inI_of rfl) ?_
  refine ew_iadd dL_law_1207 ⟨by omega, by omega⟩ ?_
  refine ew_sld rfl hS dL_law_1208 (by omega) (by omega) ?_
  obtain ⟨mc, ms, ⟨h1, h2⟩, H⟩ := H
  refine ew_callV (d := 89) (as := [aI (f (p + 1)), aI (f (p + 2)), aI (f (p + 3)), aI (f (p + 4))]) rfl dL_law_1209 me_X1_next_2 rfl (ci := 0) rfl rfl xh_x (Or.inl q1303) q1304 q1305 (Nat.le_of_ble_eq_true rfl) (Nat.le_trans h1 b1) (Nat.le_trans h2 b2) (S_X1_next_2 (d := 43) hL.xfl hL.fr H) (fun o h' hq _ => ?_) (fun E i h' q _ => (xQi_no q).elim)
  obtain ⟨n1, s', E1, rfl, H⟩ := hq
  cases E1
  refine ew_aload_n dL_law_1212 rfl lm2 ?_
  refine ew_aload_n dL_law_1213 rfl lm0 ?_
  refine ew_iload dL_law_1214 lm4 ?_
  refine ew_iconst dL_law_1216 (inI_of rfl) ?_
  refine ew_iadd dL_law_1217 ⟨by omega, by omega⟩ ?_
  refine ew_sld rfl hS dL_law_1218 (by omega) (by omega) ?_
  refine ew_aload_n dL_law_1219 rfl lm0 ?_
  refine ew_iload dL_law_1220 lm4 ?_
  refine ew_iconst dL_law_1222 (inI_of rfl) ?_
  refine ew_iadd dL_law_1223 ⟨by omega, by omega⟩ ?_
  refine ew_sld rfl hS dL_law_1224 (by omega) (by omega) ?_
  refine ew_aload_n dL_law_1225 rfl lm0 ?_
  refine ew_iload dL_law_1226 lm4 ?_
  refine ew_iconst dL_law_1228 (inI_of rfl) ?_
  refine ew_iadd dL_law_1229 ⟨by omega, by omega⟩ ?_
  refine ew_sld rfl hS dL_law_1230 (by omega) (by omega) ?_
  refine ew_aload_n dL_law_1231 rfl lm0 ?_
  refine ew_iload dL_law_1232 lm4 ?_
  refine ew_iconst dL_law_1234 (inI_of rfl) ?_
  refine ew_iadd dL_law_1235 ⟨by omega, by omega⟩ ?_
  refine ew_sld rfl hS dL_law_1236 (by omega) (by omega) ?_
  rw [swapX (s := s') hL]
  refine ew_callV (d := 89) (as := [aI (f (p + 1)), aI (f (p + 2)), aI (f (p + 3)), aI (f (p + 4))]) rfl dL_law_1237 me_next rfl (ci := 1) rfl rfl (mh_o _ _) (Or.inl q1902) q1903 q1904 (Nat.le_of_ble_eq_true rfl) (Nat.zero_le _) (Nat.zero_le _) (S_next (d := 85) H) (fun o h' hq _ => ?_) (fun E i h' q _ => (mQi_no q).elim)
  obtain ⟨n2, m', E2, rfl, e12, H⟩ := hq
  cases E2
  rw [← xh_mh]
  refine ew_icmp_eq (tgt := 1525) dL_law_1240 (by decide) (fun _ => ?_) (fun c9 => absurd e12 c9)
  exact ew_room (Nat.le_refl _) (bsub h1) (bsub h2) (kk _ _ _ _ _ hL.upM H)
/-- case 29: without -/
theorem L_case_29 {Q : AO → AH → Prop} {V : XV} {N n kc ks : Nat} {s : XS} {m : MS} {g : AH} {p : Int} {f : Int → Int} {KN : XS → MS → Prop} (hS : scr Q n f) (hL : LH V N m g) (hp : 0 ≤ p ∧ p + 6 ≤ n) (hn : n ≤ 144) (b1 : BC ≤ kc) (b2 : BS ≤ ks) (H : C_X1_without (f (p + 1)) (f (p + 2)) s (fun r s' => C_without (f (p + 1)) (f (p + 2)) m (fun r' m' => r = r' ∧ KN s' m'))) (kk : goesOn Q kc ks p KN) : EW mm_law 90 kc ks Q 1245 (lvL p) [] (xh V s g) := by
  refine ew_aload_n dL_law_1245 rfl lm1 ?_
  refine ew_aload_n dL_law_1246 rfl lm0 ?_
  refine ew_iload dL_law_1247 lm4 ?_
  refine ew_iconst dL_law_1249 (inI_of rfl) ?_
  refine ew_iadd dL_law_1250 ⟨by omega, by omega⟩ ?_
  refine ew_sld rfl hS dL_law_1251 (by omega) (by omega) ?_
  refine ew_aload_n dL_law_1252 rfl lm0 ?_
  refine ew_iload dL_law_1253 lm4 ?_
  refine ew_iconst dL_law_1255 (inI_of rfl) ?_
  refine ew_iadd dL_law_1256 ⟨by omega, by omega⟩ ?_
  refine ew_sld rfl hS dL_law_1257 (by omega) (by omega) ?_
  refine ew_callV (d := 89) (as := [aI (f (p + 1)), aI (f (p + 2))]) rfl dL_law_1258 me_X1_without rfl (ci := 0) rfl rfl xh_x (Or.inl q1328) q1329 q1330 (Nat.le_of_ble_eq_true rfl) (Nat.zero_le _) (Nat.zero_le _) (S_X1_without (d := 81) H) (fun o h' hq _ => ?_) (fun E i h' q _ => (xQi_no q).elim)
  obtain ⟨n1, s', E1, rfl, H⟩ := hq
  cases E1
  refine ew_aload_n dL_law_1261 rfl lm2 ?_
  refine ew_aload_n dL_law_1262 rfl lm0 ?_
  refine ew_iload dL_law_1263 lm4 ?_
  refine ew_iconst dL_law_1265 (inI_of rfl) ?_
  refine ew_iadd dL_law_1266 ⟨by omega, by omega⟩ ?_
  refine ew_sld rfl hS dL_law_1267 (by omega) (by omega) ?_
  refine ew_aload_n dL_law_1268 rfl lm0 ?_
  refine ew_iload dL_law_1269 lm4 ?_
  refine ew_iconst dL_law_1271 (inI_of rfl) ?_
  refine ew_iadd dL_law_1272 ⟨by omega, by omega⟩ ?_
  refine ew_sld rfl hS dL_law_1273 (by omega) (by omega) ?_
  rw [swapX (s := s') hL]
  refine ew_callV (d := 89) (as := [aI (f (p + 1)), aI (f (p + 2))]) rfl dL_law_1274 me_without rfl (ci := 1) rfl rfl (mh_o _ _) (Or.inl q1918) q1919 q1920 (Nat.le_of_ble_eq_true rfl) (Nat.zero_le _) (Nat.zero_le _) (S_without (d := 86) H) (fun o h' hq _ => ?_) (fun E i h' q _ => (mQi_no q).elim)
  obtain ⟨n2, m', E2, rfl, e12, H⟩ := hq
  cases E2
  rw [← xh_mh]
  refine ew_icmp_eq (tgt := 1525) dL_law_1277 (by decide) (fun _ => ?_) (fun c9 => absurd e12 c9)
  exact ew_room (Nat.le_refl _) (bsub (by decide)) (bsub (by decide)) (kk _ _ _ _ _ hL.upM H)
/-- case 30: free -/
theorem L_case_30 {Q : AO → AH → Prop} {V : XV} {N n kc ks : Nat} {s : XS} {m : MS} {g : AH} {p : Int} {f : Int → Int} {KN : XS → MS → Prop} (hS : scr Q n f) (hL : LH V N m g) (hp : 0 ≤ p ∧ p + 6 ≤ n) (hn : n ≤ 144) (b1 : BC ≤ kc) (b2 : BS ≤ ks) (H : C_X1_free s (fun r s' => C_free m (fun r' m' => r = r' ∧ KN s' m'))) (kk : goesOn Q kc ks p KN) : EW mm_law 90 kc ks Q 1282 (lvL p) [] (xh V s g) := by
  refine ew_aload_n dL_law_1282 rfl lm1 ?_
  refine ew_callV (d := 89) (as := []) rfl dL_law_1283 me_X1_free rfl (ci := 0) rfl rfl xh_x (Or.inl q1332) q1333 q1334 (Nat.le_of_ble_eq_true rfl) (Nat.zero_le _) (Nat.zero_le _) (S_X1_free (d := 81) H) (fun o h' hq _ => ?_) (fun E i h' q _ => (xQi_no q).elim)
  obtain ⟨n1, s', E1, rfl, H⟩ := hq
  cases E1
  refine ew_aload_n dL_law_1286 rfl lm2 ?_
  rw [swapX (s := s') hL]
  refine ew_callV (d := 89) (as := []) rfl dL_law_1287 me_free rfl (ci := 1) rfl rfl (mh_o _ _) (Or.inl q1922) q1923 q1924 (Nat.le_of_ble_eq_true rfl) (Nat.zero_le _) (Nat.zero_le _) (S_free (d := 85) H) (fun o h' hq _ => ?_) (fun E i h' q _ => (mQi_no q).elim)
  obtain ⟨n2, m', E2, rfl, e12, H⟩ := hq
  cases E2
  rw [← xh_mh]
  refine ew_icmp_eq (tgt := 1525) dL_law_1290 (by decide) (fun _ => ?_) (fun c9 => absurd e12 c9)
  exact ew_room (Nat.le_refl _) (bsub (by decide)) (bsub (by decide)) (kk _ _ _ _ _ hL.upM H)
/-- case 31: join -/
theorem L_case_31 {Q : AO → AH → Prop} {V : XV} {N n kc ks : Nat} {s : XS} {m : MS} {g : AH} {p : Int} {f : Int → Int} {KN : XS → MS → Prop} (hS : scr Q n f) (hL : LH V N m g) (hp : 0 ≤ p ∧ p + 6 ≤ n) (hn : n ≤ 144) (b1 : BC ≤ kc) (b2 : BS ≤ ks) (H : ∃ mc ms, (mc ≤ BC ∧ ms ≤ BS) ∧ C_X1_join mc ms (f (p + 1)) (f (p + 2)) s (fun r s' => C_join (f (p + 1)) (f (p + 2)) m (fun r' m' => r = r' ∧ KN s' m'))) (kk : goesOn Q kc ks p KN) : EW mm_law 90 kc ks Q 1295 (lvL p) [] (xh V s g) := by
  refine ew_aload_n dL_law_1295 rfl lm1 ?_
  refine ew_aload_n dL_law_1296 rfl lm0 ?_
  refine ew_iload dL_law_1297 lm4 ?_
  refine ew_iconst dL_law_1299 (inI_of rfl) ?_
  refine ew_iadd dL_law_1300 ⟨by omega, by omega⟩ ?_
  refine ew_sld rfl hS dL_law_1301 (by omega) (by omega) ?_
  refine ew_aload_n dL_law_1302 rfl lm0 ?_
  refine ew_iload dL_law_1303 lm4 ?_
  refine ew_iconst dL_law_1305 (inI_of rfl) ?_
  refine ew_iadd dL_law_1306 ⟨by omega, by omega⟩ ?_
  refine ew_sld rfl hS dL_law_1307 (by omega) (by omega) ?_
  obtain ⟨mc, ms, ⟨h1, h2⟩, H⟩ := H
  refine ew_callV (d := 89) (as := [aI (f (p + 1)), aI (f (p + 2))]) rfl dL_law_1308 me_X1_join rfl (ci := 0) rfl rfl xh_x (Or.inl q1336) q1337 q1338 (Nat.le_of_ble_eq_true rfl) (Nat.le_trans h1 b1) (Nat.le_trans h2 b2) (S_X1_join (d := 43) hL.xfl hL.fr H) (fun o h' hq _ => ?_) (fun E i h' q _ => (xQi_no q).elim)
  obtain ⟨n1, s', E1, rfl, H⟩ := hq
  cases E1
  refine ew_aload_n dL_law_1311 rfl lm2 ?_
  refine ew_aload_n dL_law_1312 rfl lm0 ?_
  refine ew_iload dL_law_1313 lm4 ?_
  refine ew_iconst dL_law_1315 (inI_of rfl) ?_
  refine ew_iadd dL_law_1316 ⟨by omega, by omega⟩ ?_
  refine ew_sld rfl hS dL_law_1317 (by omega) (by omega) ?_
  refine ew_aload_n dL_law_1318 rfl lm0 ?_
  refine ew_iload dL_law_1319 lm4 ?_
  refine ew_iconst dL_law_1321 (inI_of rfl) ?_
  refine ew_iadd dL_law_1322 ⟨by omega, by omega⟩ ?_
  refine ew_sld rfl hS dL_law_1323 (by omega) (by omega) ?_
  rw [swapX (s := s') hL]
  refine ew_callV (d := 89) (as := [aI (f (p + 1)), aI (f (p + 2))]) rfl dL_law_1324 me_join rfl (ci := 1) rfl rfl (mh_o _ _) (Or.inl q1926) q1927 q1928 (Nat.le_of_ble_eq_true rfl) (Nat.zero_le _) (Nat.zero_le _) (S_join (d := 81) H) (fun o h' hq _ => ?_) (fun E i h' q _ => (mQi_no q).elim)
  obtain ⟨n2, m', E2, rfl, e12, H⟩ := hq
  cases E2
  rw [← xh_mh]
  refine ew_icmp_eq (tgt := 1525) dL_law_1327 (by decide) (fun _ => ?_) (fun c9 => absurd e12 c9)
  exact ew_room (Nat.le_refl _) (bsub h1) (bsub h2) (kk _ _ _ _ _ hL.upM H)
/-- case 32: part -/
theorem L_case_32 {Q : AO → AH → Prop} {V : XV} {N n kc ks : Nat} {s : XS} {m : MS} {g : AH} {p : Int} {f : Int → Int} {KN : XS → MS → Prop} (hS : scr Q n f) (hL : LH V N m g) (hp : 0 ≤ p ∧ p + 6 ≤ n) (hn : n ≤ 144) (b1 : BC ≤ kc) (b2 : BS ≤ ks) (H : ∃ mc ms, (mc ≤ BC ∧ ms ≤ BS) ∧ C_X1_part mc ms (f (p + 1)) (f (p + 2)) s (fun r s' => C_part (f (p + 1)) (f (p + 2)) m (fun r' m' => r = r' ∧ KN s' m'))) (kk : goesOn Q kc ks p KN) : EW mm_law 90 kc ks Q 1332 (lvL p) [] (xh V s g) := by
  refine ew_aload_n dL_law_1332 rfl lm1 ?_
  refine ew_aload_n dL_law_1333 rfl lm0 ?_
  refine ew_iload dL_law_1334 lm4 ?_
  refine ew_iconst dL_law_1336 (inI_of rfl) ?_
  refine ew_iadd dL_law_1337 ⟨by omega, by omega⟩ ?_
  refine ew_sld rfl hS dL_law_1338 (by omega) (by omega) ?_
  refine ew_aload_n dL_law_1339 rfl lm0 ?_
  refine ew_iload dL_law_1340 lm4 ?_
  refine ew_iconst dL_law_1342 (inI_of rfl) ?_
  refine ew_iadd dL_law_1343 ⟨by omega, by omega⟩ ?_
  refine ew_sld rfl hS dL_law_1344 (by omega) (by omega) ?_
  obtain ⟨mc, ms, ⟨h1, h2⟩, H⟩ := H
  refine ew_callV (d := 89) (as := [aI (f (p + 1)), aI (f (p + 2))]) rfl dL_law_1345 me_X1_part rfl (ci := 0) rfl rfl xh_x (Or.inl q1347) q1348 q1349 (Nat.le_of_ble_eq_true rfl) (Nat.le_trans h1 b1) (Nat.le_trans h2 b2) (S_X1_part (d := 82) hL.xfl hL.fr H) (fun o h' hq _ => ?_) (fun E i h' q _ => (xQi_no q).elim)
  obtain ⟨n1, s', E1, rfl, H⟩ := hq
  cases E1
  refine ew_aload_n dL_law_1348 rfl lm2 ?_
  refine ew_aload_n dL_law_1349 rfl lm0 ?_
  refine ew_iload dL_law_1350 lm4 ?_
  refine ew_iconst dL_law_1352 (inI_of rfl) ?_
  refine ew_iadd dL_law_1353 ⟨by omega, by omega⟩ ?_
  refine ew_sld rfl hS dL_law_1354 (by omega) (by omega) ?_
  refine ew_aload_n dL_law_1355 rfl lm0 ?_
  refine ew_iload dL_law_1356 lm4 ?_
  refine ew_iconst dL_law_1358 (inI_of rfl) ?_
  refine ew_iadd dL_law_1359 ⟨by omega, by omega⟩ ?_
  refine ew_sld rfl hS dL_law_1360 (by omega) (by omega) ?_
  rw [swapX (s := s') hL]
  refine ew_callV (d := 89) (as := [aI (f (p + 1)), aI (f (p + 2))]) rfl dL_law_1361 me_part rfl (ci := 1) rfl rfl (mh_o _ _) (Or.inl q1938) q1939 q1940 (Nat.le_of_ble_eq_true rfl) (Nat.zero_le _) (Nat.zero_le _) (S_part (d := 81) H) (fun o h' hq _ => ?_) (fun E i h' q _ => (mQi_no q).elim)
  obtain ⟨n2, m', E2, rfl, e12, H⟩ := hq
  cases E2
  rw [← xh_mh]
  refine ew_icmp_eq (tgt := 1525) dL_law_1364 (by decide) (fun _ => ?_) (fun c9 => absurd e12 c9)
  exact ew_room (Nat.le_refl _) (bsub h1) (bsub h2) (kk _ _ _ _ _ hL.upM H)
/-- case 33: make -/
theorem L_case_33 {Q : AO → AH → Prop} {V : XV} {N n kc ks : Nat} {s : XS} {m : MS} {g : AH} {p : Int} {f : Int → Int} {KN : XS → MS → Prop} (hS : scr Q n f) (hL : LH V N m g) (hp : 0 ≤ p ∧ p + 6 ≤ n) (hn : n ≤ 144) (b1 : BC ≤ kc) (b2 : BS ≤ ks) (H : ∃ mc ms, (mc ≤ BC ∧ ms ≤ BS) ∧ C_X1_make mc ms (f (p + 1)) (f (p + 2)) (f (p + 3)) (f (p + 4)) (s.1.1 41).toNat s (fun r s' => C_make (f (p + 1)) (f (p + 2)) (f (p + 3)) (f (p + 4)) m (fun r' m' => r = r' ∧ KN s' m'))) (kk : goesOn Q kc ks p KN) : EW mm_law 90 kc ks Q 1369 (lvL p) [] (xh V s g) := by
  refine ew_aload_n dL_law_1369 rfl lm1 ?_
  refine ew_aload_n dL_law_1370 rfl lm0 ?_
  refine ew_iload dL_law_1371 lm4 ?_
  refine ew_iconst dL_law_1373 (inI_of rfl) ?_
  refine ew_iadd dL_law_1374 ⟨by omega, by omega⟩ ?_
  refine ew_sld rfl hS dL_law_1375 (by omega) (by omega) ?_
  refine ew_aload_n dL_law_1376 rfl lm0 ?_
  refine ew_iload dL_law_1377 lm4 ?_
  refine ew_iconst dL_law_1379 (inI_of rfl) ?_
  refine ew_iadd dL_law_1380 ⟨by omega, by omega⟩ ?_
  refine ew_sld rfl hS dL_law_1381 (by omega) (by omega) ?_
  refine ew_aload_n dL_law_1382 rfl lm0 ?_
  refine ew_iload dL_law_1383 lm4 ?_
  refine ew_iconst dL_law_1385 (inI_of rfl) ?_
  refine ew_iadd dL_law_1386 ⟨by omega, by omega⟩ ?_
  refine ew_sld rfl hS dL_law_1387 (by omega) (by omega) ?_
  refine ew_aload_n dL_law_1388 rfl lm0 ?_
  refine ew_iload dL_law_1389 lm4 ?_
  refine ew_iconst dL_law_1391 (inI_of rfl) ?_
  refine ew_iadd dL_law_1392 ⟨by omega, by omega⟩ ?_
  refine ew_sld rfl hS dL_law_1393 (by omega) (by omega) ?_
  obtain ⟨mc, ms, ⟨h1, h2⟩, H⟩ := H
  refine ew_callV (d := 89) (as := [aI (f (p + 1)), aI (f (p + 2)), aI (f (p + 3)), aI (f (p + 4))]) rfl dL_law_1394 me_X1_make rfl (ci := 0) rfl rfl xh_x (Or.inl q1351) q1352 q1353 (Nat.le_of_ble_eq_true rfl) (Nat.le_trans h1 b1) (Nat.le_trans h2 b2) (S_X1_make (d := 43) hL.xfl hL.fr H) (fun o h' hq _ => ?_) (fun E i h' q _ => (xQi_no q).elim)
  obtain ⟨n1, s', E1, rfl, H⟩ := hq
  cases E1
  refine ew_aload_n dL_law_1397 rfl lm2 ?_
  refine ew_aload_n dL_law_1398 rfl lm0 ?_
  refine ew_iload dL_law_1399 lm4 ?_
  refine ew_iconst dL_law_1401 (inI_of rfl) ?_
  refine ew_iadd dL_law_1402 ⟨by omega, by omega⟩ ?_
  refine ew_sld rfl hS dL_law_1403 (by omega) (by omega) ?_
  refine ew_aload_n dL_law_1404 rfl lm0 ?_
  refine ew_iload dL_law_1405 lm4 ?_
  refine ew_iconst dL_law_1407 (inI_of rfl) ?_
  refine ew_iadd dL_law_1408 ⟨by omega, by omega⟩ ?_
  refine ew_sld rfl hS dL_law_1409 (by omega) (by omega) ?_
  refine ew_aload_n dL_law_1410 rfl lm0 ?_
  refine ew_iload dL_law_1411 lm4 ?_
  refine ew_iconst dL_law_1413 (inI_of rfl) ?_
  refine ew_iadd dL_law_1414 ⟨by omega, by omega⟩ ?_
  refine ew_sld rfl hS dL_law_1415 (by omega) (by omega) ?_
  refine ew_aload_n dL_law_1416 rfl lm0 ?_
  refine ew_iload dL_law_1417 lm4 ?_
  refine ew_iconst dL_law_1419 (inI_of rfl) ?_
  refine ew_iadd dL_law_1420 ⟨by omega, by omega⟩ ?_
  refine ew_sld rfl hS dL_law_1421 (by omega) (by omega) ?_
  rw [swapX (s := s') hL]
  refine ew_callV (d := 89) (as := [aI (f (p + 1)), aI (f (p + 2)), aI (f (p + 3)), aI (f (p + 4))]) rfl dL_law_1422 me_make rfl (ci := 1) rfl rfl (mh_o _ _) (Or.inl q1942) q1943 q1944 (Nat.le_of_ble_eq_true rfl) (Nat.zero_le _) (Nat.zero_le _) (S_make (d := 81) H) (fun o h' hq _ => ?_) (fun E i h' q _ => (mQi_no q).elim)
  obtain ⟨n2, m', E2, rfl, e12, H⟩ := hq
  cases E2
  rw [← xh_mh]
  refine ew_icmp_eq (tgt := 1525) dL_law_1425 (by decide) (fun _ => ?_) (fun c9 => absurd e12 c9)
  exact ew_room (Nat.le_refl _) (bsub h1) (bsub h2) (kk _ _ _ _ _ hL.upM H)
/-- case 34: undo -/
theorem L_case_34 {Q : AO → AH → Prop} {V : XV} {N n kc ks : Nat} {s : XS} {m : MS} {g : AH} {p : Int} {f : Int → Int} {KN : XS → MS → Prop} (hS : scr Q n f) (hL : LH V N m g) (hp : 0 ≤ p ∧ p + 6 ≤ n) (hn : n ≤ 144) (b1 : BC ≤ kc) (b2 : BS ≤ ks) (H : C_X1_undo s (fun r s' => C_undo m (fun r' m' => r = r' ∧ gck s'.1 ∧ KN (gcs s') m'))) (kk : goesOn Q kc ks p KN) : EW mm_law 90 kc ks Q 1430 (lvL p) [] (xh V s g) := by
  refine ew_aload_n dL_law_1430 rfl lm1 ?_
  refine ew_callV (d := 89) (as := []) rfl dL_law_1431 me_X1_undo rfl (ci := 0) rfl rfl xh_x (Or.inl q1363) q1364 q1365 (Nat.le_of_ble_eq_true rfl) (Nat.zero_le _) (Nat.zero_le _) (S_X1_undo (d := 81) H) (fun o h' hq _ => ?_) (fun E i h' q _ => (xQi_no q).elim)
  obtain ⟨n1, s', E1, rfl, H⟩ := hq
  cases E1
  refine ew_aload_n dL_law_1434 rfl lm2 ?_
  rw [swapX (s := s') hL]
  refine ew_callV (d := 89) (as := []) rfl dL_law_1435 me_undo rfl (ci := 1) rfl rfl (mh_o _ _) (Or.inl q1946) q1947 q1948 (Nat.le_of_ble_eq_true rfl) (Nat.zero_le _) (Nat.zero_le _) (S_undo (d := 81) H) (fun o h' hq _ => ?_) (fun E i h' q _ => (mQi_no q).elim)
  obtain ⟨n2, m', E2, rfl, e12, hgc, H⟩ := hq
  cases E2
  rw [← xh_mh]
  refine ew_icmp_eq (tgt := 1525) dL_law_1438 (by decide) (fun _ => ?_) (fun c9 => absurd e12 c9)
  exact ew_gcl rfl hL.upM hgc ⟨by omega, by omega⟩ (ew_room (Nat.le_refl _) (bsub (by decide)) (bsub (by decide)) (kk _ _ _ _ _ hL.upM.gc H))
/-- case 36: size -/
theorem L_case_36 {Q : AO → AH → Prop} {V : XV} {N n kc ks : Nat} {s : XS} {m : MS} {g : AH} {p : Int} {f : Int → Int} {KN : XS → MS → Prop} (hS : scr Q n f) (hL : LH V N m g) (hp : 0 ≤ p ∧ p + 6 ≤ n) (hn : n ≤ 144) (b1 : BC ≤ kc) (b2 : BS ≤ ks) (H : C_X1_size s (fun r => C_size m (fun r' m' => r = r' ∧ KN s m'))) (kk : goesOn Q kc ks p KN) : EW mm_law 90 kc ks Q 1499 (lvL p) [] (xh V s g) := by
  refine ew_aload_n dL_law_1499 rfl lm1 ?_
  refine ew_callV (d := 89) (as := []) rfl dL_law_1500 me_X1_size rfl (ci := 0) rfl rfl xh_x (Or.inl q1381) q1382 q1383 (Nat.le_of_ble_eq_true rfl) (Nat.zero_le _) (Nat.zero_le _) (S_X1_size (d := 89) H) (fun o h' hq _ => ?_) (fun E i h' q _ => (cQ_no q).elim)
  obtain ⟨n1, E1, rfl, H⟩ := hq
  cases E1
  refine ew_aload_n dL_law_1503 rfl lm2 ?_
  rw [swapX (s := s) hL]
  refine ew_callV (d := 89) (as := []) rfl dL_law_1504 me_size rfl (ci := 1) rfl rfl (mh_o _ _) (Or.inl q1954) q1955 q1956 (Nat.le_of_ble_eq_true rfl) (Nat.zero_le _) (Nat.zero_le _) (S_size (d := 89) H) (fun o h' hq _ => ?_) (fun E i h' q _ => (mQi_no q).elim)
  obtain ⟨n2, m', E2, rfl, e12, H⟩ := hq
  cases E2
  rw [← xh_mh]
  refine ew_icmp_eq (tgt := 1525) dL_law_1507 (by decide) (fun _ => ?_) (fun c9 => absurd e12 c9)
  exact ew_room (Nat.le_refl _) (bsub (by decide)) (bsub (by decide)) (kk _ _ _ _ _ hL.upM H)
/-- case 37: trouble -/
theorem L_case_37 {Q : AO → AH → Prop} {V : XV} {N n kc ks : Nat} {s : XS} {m : MS} {g : AH} {p : Int} {f : Int → Int} {KN : XS → MS → Prop} (hS : scr Q n f) (hL : LH V N m g) (hp : 0 ≤ p ∧ p + 6 ≤ n) (hn : n ≤ 144) (b1 : BC ≤ kc) (b2 : BS ≤ ks) (H : C_X1_trouble s (fun r => C_trouble m (fun r' m' => r = r' ∧ KN s m'))) (kk : goesOn Q kc ks p KN) : EW mm_law 90 kc ks Q 1512 (lvL p) [] (xh V s g) := by
  refine ew_aload_n dL_law_1512 rfl lm1 ?_
  refine ew_callV (d := 89) (as := []) rfl dL_law_1513 me_X1_trouble rfl (ci := 0) rfl rfl xh_x (Or.inl q1385) q1386 q1387 (Nat.le_of_ble_eq_true rfl) (Nat.zero_le _) (Nat.zero_le _) (S_X1_trouble (d := 89) H) (fun o h' hq _ => ?_) (fun E i h' q _ => (cQ_no q).elim)
  obtain ⟨n1, E1, rfl, H⟩ := hq
  cases E1
  refine ew_aload_n dL_law_1516 rfl lm2 ?_
  rw [swapX (s := s) hL]
  refine ew_callV (d := 89) (as := []) rfl dL_law_1517 me_trouble rfl (ci := 1) rfl rfl (mh_o _ _) (Or.inl q1958) q1959 q1960 (Nat.le_of_ble_eq_true rfl) (Nat.zero_le _) (Nat.zero_le _) (S_trouble (d := 89) H) (fun o h' hq _ => ?_) (fun E i h' q _ => (mQi_no q).elim)
  obtain ⟨n2, m', E2, rfl, e12, H⟩ := hq
  cases E2
  rw [← xh_mh]
  refine ew_icmp_eq (tgt := 1525) dL_law_1520 (by decide) (fun _ => ?_) (fun c9 => absurd e12 c9)
  exact ew_room (Nat.le_refl _) (bsub (by decide)) (bsub (by decide)) (kk _ _ _ _ _ hL.upM H)
/-- what a script's step asks: op, its arguments -/
def C_law_35 (a : Int → Int) (s : XS) (m : MS) (KN : XS → MS → Prop) : Prop := C_X1_named (a 1) s (fun r => C_named (a 1) m (fun r' m' => C_thrown m' (fun t m2 => t = 0 ∧ r = r' ∧ KN s m2))) (C_named (a 1) m (fun r' m' => C_thrown m' (fun t m2 => t = 1 ∧ KN s m2)))
def C_law_0 (a : Int → Int) (s : XS) (m : MS) (KN : XS → MS → Prop) : Prop := C_X1_feed (a 1) (a 2) (a 3) (a 4) (a 5) s (fun r s' => C_feed (a 1) (a 2) (a 3) (a 4) (a 5) m (fun r' m' => r = r' ∧ KN s' m'))
def C_law_1 (a : Int → Int) (s : XS) (m : MS) (KN : XS → MS → Prop) : Prop := ∃ kr sr kl sl, (kr + kl + 29 ≤ BC ∧ sr + sl + 624 ≤ BS) ∧ C_X1_text kr sr kl sl (a 1) s (fun r s' => C_text (a 1) m (fun r' m' => r = r' ∧ KN s' m'))
def C_law_2 (a : Int → Int) (s : XS) (m : MS) (KN : XS → MS → Prop) : Prop := C_X1_fault s (fun r => C_fault m (fun r' m' => r = r' ∧ KN s m'))
def C_law_3 (a : Int → Int) (s : XS) (m : MS) (KN : XS → MS → Prop) : Prop := C_X1_where s (fun r => C_where m (fun r' m' => r = r' ∧ KN s m'))
def C_law_4 (a : Int → Int) (s : XS) (m : MS) (KN : XS → MS → Prop) : Prop := C_X1_about (a 1) s (fun r s' => C_about (a 1) m (fun r' m' => r = r' ∧ KN s' m'))
def C_law_5 (a : Int → Int) (s : XS) (m : MS) (KN : XS → MS → Prop) : Prop := C_X1_function (a 1) (a 2) s (fun r s' => C_function (a 1) (a 2) m (fun r' m' => r = r' ∧ KN s' m'))
def C_law_6 (a : Int → Int) (s : XS) (m : MS) (KN : XS → MS → Prop) : Prop := C_X1_term (a 1) (a 2) s (fun r s' => C_term (a 1) (a 2) m (fun r' m' => r = r' ∧ KN s' m'))
def C_law_7 (a : Int → Int) (s : XS) (m : MS) (KN : XS → MS → Prop) : Prop := C_X1_partOf (a 1) (a 2) s (fun r s' => C_partOf (a 1) (a 2) m (fun r' m' => r = r' ∧ KN s' m'))
def C_law_8 (a : Int → Int) (s : XS) (m : MS) (KN : XS → MS → Prop) : Prop := C_X1_sameOf (a 1) (a 2) s (fun r s' => C_sameOf (a 1) (a 2) m (fun r' m' => r = r' ∧ KN s' m'))
def C_law_9 (a : Int → Int) (s : XS) (m : MS) (KN : XS → MS → Prop) : Prop := C_X1_diffOf (a 1) (a 2) s (fun r s' => C_diffOf (a 1) (a 2) m (fun r' m' => r = r' ∧ KN s' m'))
def C_law_10 (a : Int → Int) (s : XS) (m : MS) (KN : XS → MS → Prop) : Prop := C_X1_joinOf (a 1) (a 2) s (fun r s' => C_joinOf (a 1) (a 2) m (fun r' m' => r = r' ∧ KN s' m'))
def C_law_11 (a : Int → Int) (s : XS) (m : MS) (KN : XS → MS → Prop) : Prop := C_X1_height (a 1) s (fun r s' => C_height (a 1) m (fun r' m' => r = r' ∧ KN s' m'))
def C_law_12 (a : Int → Int) (s : XS) (m : MS) (KN : XS → MS → Prop) : Prop := C_X1_hung (a 1) (a 2) s (fun r s' => C_hung (a 1) (a 2) m (fun r' m' => r = r' ∧ KN s' m'))
def C_law_13 (a : Int → Int) (s : XS) (m : MS) (KN : XS → MS → Prop) : Prop := C_X1_equal (a 1) (a 2) s (fun r s' => C_equal (a 1) (a 2) m (fun r' m' => r = r' ∧ KN s' m'))
def C_law_14 (a : Int → Int) (s : XS) (m : MS) (KN : XS → MS → Prop) : Prop := C_X1_apart (a 1) (a 2) s (fun r s' => C_apart (a 1) (a 2) m (fun r' m' => r = r' ∧ KN s' m'))
def C_law_15 (a : Int → Int) (s : XS) (m : MS) (KN : XS → MS → Prop) : Prop := C_X1_reasons (a 1) (a 2) s (fun r s' => C_reasons (a 1) (a 2) m (fun r' m' => r = r' ∧ KN s' m'))
def C_law_16 (a : Int → Int) (s : XS) (m : MS) (KN : XS → MS → Prop) : Prop := C_X1_pruned (a 1) (a 2) s (fun r s' => C_pruned (a 1) (a 2) m (fun r' m' => r = r' ∧ KN s' m'))
def C_law_17 (a : Int → Int) (s : XS) (m : MS) (KN : XS → MS → Prop) : Prop := C_X1_fewest (a 1) (a 2) s (fun r s' => C_fewest (a 1) (a 2) m (fun r' m' => r = r' ∧ KN s' m'))
def C_law_18 (a : Int → Int) (s : XS) (m : MS) (KN : XS → MS → Prop) : Prop := C_X1_proves (a 1) (a 2) (a 3) s (fun r s' => C_proves (a 1) (a 2) (a 3) m (fun r' m' => r = r' ∧ KN s' m'))
def C_law_19 (a : Int → Int) (s : XS) (m : MS) (KN : XS → MS → Prop) : Prop := C_X1_since (a 1) (a 2) s (fun r s' => C_since (a 1) (a 2) m (fun r' m' => r = r' ∧ KN s' m'))
def C_law_20 (a : Int → Int) (s : XS) (m : MS) (KN : XS → MS → Prop) : Prop := C_X1_needed (a 1) (a 2) s (fun r s' => C_needed (a 1) (a 2) m (fun r' m' => r = r' ∧ KN s' m'))
def C_law_21 (a : Int → Int) (s : XS) (m : MS) (KN : XS → MS → Prop) : Prop := C_X1_many (a 1) (a 2) s (fun r s' => C_many (a 1) (a 2) m (fun r' m' => r = r' ∧ KN s' m'))
def C_law_22 (a : Int → Int) (s : XS) (m : MS) (KN : XS → MS → Prop) : Prop := C_X1_base s (fun r s' => C_base m (fun r' m' => r = r' ∧ KN s' m'))
def C_law_23 (a : Int → Int) (s : XS) (m : MS) (KN : XS → MS → Prop) : Prop := C_X1_level (a 1) (a 2) s (fun r s' => C_level (a 1) (a 2) m (fun r' m' => r = r' ∧ KN s' m'))
def C_law_24 (a : Int → Int) (s : XS) (m : MS) (KN : XS → MS → Prop) : Prop := C_X1_cost (a 1) (a 2) s (fun r s' => C_cost (a 1) (a 2) m (fun r' m' => r = r' ∧ KN s' m'))
def C_law_25 (a : Int → Int) (s : XS) (m : MS) (KN : XS → MS → Prop) : Prop := C_X1_way (a 1) (a 2) (a 3) s (fun r s' => C_way (a 1) (a 2) (a 3) m (fun r' m' => r = r' ∧ KN s' m'))
def C_law_26 (a : Int → Int) (s : XS) (m : MS) (KN : XS → MS → Prop) : Prop := C_X1_core s (fun r s' => C_core m (fun r' m' => r = r' ∧ KN s' m'))
def C_law_27 (a : Int → Int) (s : XS) (m : MS) (KN : XS → MS → Prop) : Prop := C_X1_would (a 1) (a 2) (a 3) s (fun r s' => C_would (a 1) (a 2) (a 3) m (fun r' m' => r = r' ∧ KN s' m'))
def C_law_28 (a : Int → Int) (s : XS) (m : MS) (KN : XS → MS → Prop) : Prop := ∃ mc ms, (mc ≤ BC ∧ ms ≤ BS) ∧ C_X1_next_2 mc ms (a 1) (a 2) (a 3) (a 4) s (fun r s' => C_next (a 1) (a 2) (a 3) (a 4) m (fun r' m' => r = r' ∧ KN s' m'))
def C_law_29 (a : Int → Int) (s : XS) (m : MS) (KN : XS → MS → Prop) : Prop := C_X1_without (a 1) (a 2) s (fun r s' => C_without (a 1) (a 2) m (fun r' m' => r = r' ∧ KN s' m'))
def C_law_30 (a : Int → Int) (s : XS) (m : MS) (KN : XS → MS → Prop) : Prop := C_X1_free s (fun r s' => C_free m (fun r' m' => r = r' ∧ KN s' m'))
def C_law_31 (a : Int → Int) (s : XS) (m : MS) (KN : XS → MS → Prop) : Prop := ∃ mc ms, (mc ≤ BC ∧ ms ≤ BS) ∧ C_X1_join mc ms (a 1) (a 2) s (fun r s' => C_join (a 1) (a 2) m (fun r' m' => r = r' ∧ KN s' m'))
def C_law_32 (a : Int → Int) (s : XS) (m : MS) (KN : XS → MS → Prop) : Prop := ∃ mc ms, (mc ≤ BC ∧ ms ≤ BS) ∧ C_X1_part mc ms (a 1) (a 2) s (fun r s' => C_part (a 1) (a 2) m (fun r' m' => r = r' ∧ KN s' m'))
def C_law_33 (a : Int → Int) (s : XS) (m : MS) (KN : XS → MS → Prop) : Prop := ∃ mc ms, (mc ≤ BC ∧ ms ≤ BS) ∧ C_X1_make mc ms (a 1) (a 2) (a 3) (a 4) (s.1.1 41).toNat s (fun r s' => C_make (a 1) (a 2) (a 3) (a 4) m (fun r' m' => r = r' ∧ KN s' m'))
def C_law_34 (a : Int → Int) (s : XS) (m : MS) (KN : XS → MS → Prop) : Prop := C_X1_undo s (fun r s' => C_undo m (fun r' m' => r = r' ∧ gck s'.1 ∧ KN (gcs s') m'))
def C_law_36 (a : Int → Int) (s : XS) (m : MS) (KN : XS → MS → Prop) : Prop := C_X1_size s (fun r => C_size m (fun r' m' => r = r' ∧ KN s m'))
def C_law_37 (a : Int → Int) (s : XS) (m : MS) (KN : XS → MS → Prop) : Prop := C_X1_trouble s (fun r => C_trouble m (fun r' m' => r = r' ∧ KN s m'))
def C_law (op : Int) (a : Int → Int) (s : XS) (m : MS) (KN : XS → MS → Prop) : Prop :=
  (op = 0 → C_law_0 a s m KN) ∧
  (op = 1 → C_law_1 a s m KN) ∧
  (op = 2 → C_law_2 a s m KN) ∧
  (op = 3 → C_law_3 a s m KN) ∧
  (op = 4 → C_law_4 a s m KN) ∧
  (op = 5 → C_law_5 a s m KN) ∧
  (op = 6 → C_law_6 a s m KN) ∧
  (op = 7 → C_law_7 a s m KN) ∧
  (op = 8 → C_law_8 a s m KN) ∧
  (op = 9 → C_law_9 a s m KN) ∧
  (op = 10 → C_law_10 a s m KN) ∧
  (op = 11 → C_law_11 a s m KN) ∧
  (op = 12 → C_law_12 a s m KN) ∧
  (op = 13 → C_law_13 a s m KN) ∧
  (op = 14 → C_law_14 a s m KN) ∧
  (op = 15 → C_law_15 a s m KN) ∧
  (op = 16 → C_law_16 a s m KN) ∧
  (op = 17 → C_law_17 a s m KN) ∧
  (op = 18 → C_law_18 a s m KN) ∧
  (op = 19 → C_law_19 a s m KN) ∧
  (op = 20 → C_law_20 a s m KN) ∧
  (op = 21 → C_law_21 a s m KN) ∧
  (op = 22 → C_law_22 a s m KN) ∧
  (op = 23 → C_law_23 a s m KN) ∧
  (op = 24 → C_law_24 a s m KN) ∧
  (op = 25 → C_law_25 a s m KN) ∧
  (op = 26 → C_law_26 a s m KN) ∧
  (op = 27 → C_law_27 a s m KN) ∧
  (op = 28 → C_law_28 a s m KN) ∧
  (op = 29 → C_law_29 a s m KN) ∧
  (op = 30 → C_law_30 a s m KN) ∧
  (op = 31 → C_law_31 a s m KN) ∧
  (op = 32 → C_law_32 a s m KN) ∧
  (op = 33 → C_law_33 a s m KN) ∧
  (op = 34 → C_law_34 a s m KN) ∧
  (op = 35 → C_law_35 a s m KN) ∧
  (op = 36 → C_law_36 a s m KN) ∧
  (op = 37 → C_law_37 a s m KN)
