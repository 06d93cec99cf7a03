/-! REPORTS: the model goes through guards (printed by wip/D-80403w/tools/m53.py) -/
set_option maxRecDepth 100000
def nextG (y : Wy) : Nat → Nat → Nat
  | 0, g => g
  | m + 1, g => if y g 0 ≠ 0 then g else nextG y m (g + 1)
theorem nextG_le {y : Wy} : ∀ m g, nextG y m g ≤ g + m := by
  intro m
  induction m with
  | zero => intro g; exact Nat.le_refl _
  | succ m ih =>
    intro g
    unfold nextG
    split
    · omega
    · have := ih (g + 1)
      omega
theorem nextG_nz {y : Wy} : ∀ m g, nextG y m g < g + m → y (nextG y m g) 0 ≠ 0 := by
  intro m
  induction m with
  | zero => intro g h; exact absurd h (Nat.lt_irrefl _)
  | succ m ih =>
    intro g h
    unfold nextG at h ⊢
    split
    · next e => exact e
    · next e =>
      rw [if_neg e] at h
      exact ih (g + 1) (by omega)
def TLp (d n : Nat) (F : Nat → Int32) (ρ : RP) (nd : Int32) (w y : Wy) (g : Nat) (F' : Nat → Int32) (A' : Nat → Nat → Int32) : Prop :=
  if nd < 0 then LVp d n F ρ (putW w0 y 0 9) F' A' else if nextG y (9 - g) g = 9 then LVp d n F ρ w F' A' else STp d F nd (y (nextG y (9 - g) g)) 3 F' A' ∧ A' 26 d = nI (nextG y (9 - g) g) ∧ RW 36 d A' w ∧ RW 37 d A' y ∧ RR ρ A'
theorem orAt_0 {A : Nat → Nat → Int32} {d : Nat} {y : Wy} {t : Nat → Int32} (hY : RW 37 d A y) (hT : IR (d + 1) A t) : RW 37 d (joinA A 38 (12 * d + 12) 37 (108 * d) 12) (orAt y 0 t) := by
  intro g s hg hs
  unfold orAt
  by_cases e : g = 0
  · subst e
    have := hY 0 s hg hs
    rw [show 108 * d + 12 * 0 + s = 108 * d + s by omega] at this ⊢
    rw [joinA_on hs, this, show 12 * d + 12 + s = 12 * (d + 1) + s by omega, hT s hs, if_pos rfl]
  · rw [joinA_off (by omega), hY g s hg hs, if_neg e]
theorem putY_s {d f a : Nat} {A : Nat → Nat → Int32} {w v : Wy} (h : RW 37 d A (putW w v a f)) (hv : RW 36 (d + 1) A v) (ha : a ≤ f) (hf : f < 9) : RW 37 d (joinA A 36 (108 * d + 108 + 12 * f) 37 (108 * d + 12 * f) 12) (putW w v a (f + 1)) := by
  intro g s hg hs
  by_cases e : g = f
  · subst e
    rw [joinA_on hs, h g s hg hs, show 108 * d + 108 + 12 * g + s = 108 * (d + 1) + 12 * g + s by omega, hv g s hg hs]
    unfold putW
    rw [if_neg (by omega), if_pos (by omega)]
  · rw [joinA_off (by omega), h g s hg hs]
    unfold putW
    by_cases e2 : a ≤ g ∧ g < f
    · rw [if_pos e2, if_pos (by omega)]
    · rw [if_neg e2, if_neg (by omega)]
set_option maxHeartbeats 4000000 in
theorem guard_te {G : GX} {x : MX} {h : Nat} {ad : Nat → Nat} {F : Nat → Int32} {A0 : Nat → Nat → Int32} {B : Nat → Nat → Int64} {ρ : RP} {Ψ : (Nat → Int32) → (Nat → Nat → Int32) → Prop} (X : Cx G x yX3_throughGuard cX3_throughGuard 7 none (rmm 3 73)) (n d : Nat) (hn : n < 80) (hd : d < 81) (hF : F 27 = nI d) {w y : Wy} {nd : Int32} (hnd : nd < 0) {A1 : Nat → Nat → Int32} {M : Mem} (hM : MRep G h ad F A1 B M) (h15 : A1 15 n = nd) (hW : RW 36 d A1 w) (hw0 : ∀ g s, w g s = 0) (hY : RW 37 d A1 y) (hR : RR ρ A1) (hC : Ch (TT d) A0 A1) (hΨ : ∀ (F' : Nat → Int32) (A' : Nat → Nat → Int32), LVp d n F ρ (putW w0 y 0 9) F' A' → Ch (TT d) A0 A' → Ψ F' A') : WM G x 7 (QM G x (pV G h ad B Ψ) nX (rmm 3 73)) 0 0 M 216 [(3, some (.int (nI (108 * d)))), (4, some (.int (nI (12 * d + 12)))), (0, some (.ref h)), (1, some (.int (nI n))), (2, some (.int (nI d)))] [] := by
  have loop : ∀ (m k : Nat) (A : Nat → Nat → Int32) (M : Mem), k + m = 108 → MRep G h ad F A B M → (∀ j, j < 108 → A 36 (108 * d + j) = if j < k then A1 36 (108 * d + j) ||| A1 37 (108 * d + j) else A1 36 (108 * d + j)) → Ch (fun k l => k = 36 ∧ 108 * d ≤ l ∧ l < 108 * d + 108) A1 A → WM G x 7 (QM G x (pV G h ad B Ψ) nX (rmm 3 73)) 0 0 M 228 [(6, some (.int (nI k))), (3, some (.int (nI (108 * d)))), (4, some (.int (nI (12 * d + 12)))), (0, some (.ref h)), (1, some (.int (nI n))), (2, some (.int (nI d)))] [] := by
    clear hM
    intro m
    induction m with
    | zero =>
      intro k A M hk hM hA hC2
      have hk8 : k = 108 := by omega
      subst hk8
      have hW2 : RW 36 d A (putW w0 y 0 9) := fun g s hg hs => by
        rw [show 108 * d + 12 * g + s = 108 * d + (12 * g + s) by omega, hA _ (by omega), if_pos (by omega), show 108 * d + (12 * g + s) = 108 * d + 12 * g + s by omega, hW g s hg hs, hY g s hg hs, hw0]
        unfold putW
        rw [if_pos (by omega)]
        rfl
      refine m_iload X dX3_throughGuard_228 rfl ?_
      refine m_bipush X dX3_throughGuard_230 (v := 108) (by decide) ?_
      refine m_icmpge X dX3_throughGuard_232 (t := 262) (by decide) (fun c_232 => ?_) (fun c_232 => absurd (by decide) c_232)
      refine m_aload_n X dX3_throughGuard_262 rfl rfl (by first | rfl | exact isR_rf) ?_
      refine m_iload_n X dX3_throughGuard_263 rfl rfl ?_
      refine m_iload_n X dX3_throughGuard_264 rfl rfl ?_
      refine m_callV X cs_X3_321  (c_X3_leave hM n d hn hd hW2 (hR.ch hC2 (by intro k l h1 h2; omega))) hM.1 rfl rfl rfl (Nat.le_of_ble_eq_true rfl) dX3_throughGuard_265 ⟨by decide, by decide, by decide, by decide⟩ (fun v M hp => ?_) (fun _ _ _ _ h => h.elim)
      obtain ⟨rfl, A9, hM, hE9⟩ := hp
      refine m_stn ?_
      exact m_vret X dX3_throughGuard_268 (by decide) (by decide) (by exact ⟨rfl, _, A9, hM, hΨ _ _ ⟨rfl, hW2.ch hE9.2 (by intro l h1 h2; omega), hE9.1⟩ (Ch.tr (U := TT d) (Ch.tr (U := TT d) hC hC2 (by intro k l hu; first | (unfold TT at hu ⊢; omega) | (unfold TT at hu; omega))) hE9.2 (by intro k l hu; first | (unfold TT at hu ⊢; omega) | (unfold TT at hu; omega)))⟩)
    | succ m ih =>
      intro k A M hk hM hA hC2
      refine m_iload X dX3_throughGuard_228 rfl ?_
      refine m_bipush X dX3_throughGuard_230 (v := 108) (by decide) ?_
      refine m_icmpge X dX3_throughGuard_232 (t := 262) (by decide) (fun c_232 => absurd ((nI_leI (a := 108) (by decide) (by omega)).mp c_232) (by omega)) (fun c_232 => ?_)
      refine m_aload_n X dX3_throughGuard_235 rfl rfl (by first | rfl | exact isR_rf) ?_
      refine m_getf X fg_X3_91_X3 hM.1 rfl dX3_throughGuard_236 ?_
      refine m_iload_n X dX3_throughGuard_239 rfl rfl ?_
      refine m_iload X dX3_throughGuard_240 rfl ?_
      refine m_iadd X dX3_throughGuard_242 ?_
      refine m_topi X (nI_add _ _) ?_
      refine m_dup2 X dX3_throughGuard_243 rfl rfl ?_
      refine s_iald X hM rfl rfl (by exact tin (by simp only [alen]; omega) rfl) dX3_throughGuard_244 ?_
      refine m_topi X ((congrArg (A 36) (nI_clamp (by omega))).trans ((hA k (by omega)).trans (if_neg (by omega)))) ?_
      refine m_aload_n X dX3_throughGuard_245 rfl rfl (by first | rfl | exact isR_rf) ?_
      refine m_getf X fg_X3_94_X3 hM.1 rfl dX3_throughGuard_246 ?_
      refine m_iload_n X dX3_throughGuard_249 rfl rfl ?_
      refine m_iload X dX3_throughGuard_250 rfl ?_
      refine m_iadd X dX3_throughGuard_252 ?_
      refine m_topi X (nI_add _ _) ?_
      refine s_iald X hM rfl rfl (by exact tin (by simp only [alen]; omega) rfl) dX3_throughGuard_253 ?_
      refine m_topi X ((congrArg (A 37) (nI_clamp (by omega))).trans (hC2 37 (108 * d + k) (by omega))) ?_
      refine m_ior X dX3_throughGuard_254 ?_
      refine s_iast X hM rfl rfl (by exact tin (by simp only [alen]; omega) rfl) dX3_throughGuard_255 (fun M hM => ?_)
      rw [nI_clamp (by omega)] at hM
      refine m_iinc X dX3_throughGuard_256 rfl (w := 1) (by decide) rfl ?_
      refine m_goto X dX3_throughGuard_259 (t := 228) (by decide) ?_
      exact m_loc [(6, some (.int (nI (k + 1)))), (3, some (.int (nI (108 * d)))), (4, some (.int (nI (12 * d + 12)))), (0, some (.ref h)), (1, some (.int (nI n))), (2, some (.int (nI d)))] ⟨by rw [nI_succ k]; rfl, rfl, rfl, rfl, rfl, rfl, trivial⟩ (ih (k + 1) _ _ (by omega) hM (fun j hj => by
        by_cases e : j = k
        · subst e
          rw [aset_on, if_pos (by omega)]
        · rw [aset_off (by omega), hA j hj]
          by_cases e2 : j < k
          · rw [if_pos e2, if_pos (by omega)]
          · rw [if_neg e2, if_neg (by omega)]) (Ch.tr (U := (fun k l => k = 36 ∧ 108 * d ≤ l ∧ l < 108 * d + 108)) hC2 aset_ch (by intro k l hu; omega)))
  refine m_aload_n X dX3_throughGuard_216 rfl rfl (by first | rfl | exact isR_rf) ?_
  refine m_getf X fg_X3_47_X3 hM.1 rfl dX3_throughGuard_217 ?_
  refine m_iload_n X dX3_throughGuard_220 rfl rfl ?_
  refine s_iald X hM rfl rfl (by exact tin (by simp only [alen]; omega) rfl) dX3_throughGuard_221 ?_
  refine m_topi X ((congrArg _ (nI_clamp (by omega))).trans (h15)) ?_
  refine m_ifge X dX3_throughGuard_222 (t := 269) (by decide) (fun c_222 => absurd hnd (Int32.not_lt.mpr c_222)) (fun c_222 => ?_)
  refine m_iconst X dX3_throughGuard_225 (v := 0) (by decide) ?_
  refine m_istore X dX3_throughGuard_226 rfl rfl ?_
  exact m_loc [(6, some (.int (nI 0))), (3, some (.int (nI (108 * d)))), (4, some (.int (nI (12 * d + 12)))), (0, some (.ref h)), (1, some (.int (nI n))), (2, some (.int (nI d)))] ⟨rfl, rfl, rfl, rfl, rfl, rfl, trivial⟩ (loop 108 0 _ _ rfl hM (fun j hj => (if_neg (Nat.not_lt_zero _)).symm) Ch.rf)
set_option maxHeartbeats 4000000 in
theorem guard_nx {G : GX} {x : MX} {h : Nat} {ad : Nat → Nat} {F : Nat → Int32} {A0 : Nat → Nat → Int32} {B : Nat → Nat → Int64} {ρ : RP} {Ψ : (Nat → Int32) → (Nat → Nat → Int32) → Prop} (X : Cx G x yX3_throughGuard cX3_throughGuard 7 none (rmm 3 73)) (n d : Nat) (hn : n < 80) (hd : d < 81) (hF : F 27 = nI d) {w y : Wy} {nd : Int32} (hnd : ¬ nd < 0) : ∀ (m g : Nat) (A : Nat → Nat → Int32) (M : Mem), g + m = 9 → MRep G h ad F A B M → A 15 n = nd → RW 36 d A w → RW 37 d A y → A 26 d = nI g → RR ρ A → Ch (TT d) A0 A → (∀ (F' : Nat → Int32) (A' : Nat → Nat → Int32), TLp d n F ρ nd w y g F' A' → Ch (TT d) A0 A' → Ψ F' A') → WM G x 7 (QM G x (pV G h ad B Ψ) nX (rmm 3 73)) 0 0 M 269 [(3, some (.int (nI (108 * d)))), (4, some (.int (nI (12 * d + 12)))), (0, some (.ref h)), (1, some (.int (nI n))), (2, some (.int (nI d)))] [] := by
  intro m
  induction m with
  | zero =>
    intro g A M hg hM h15 hW hY h26 hR hC hΨ
    have hg9 : g = 9 := by omega
    subst hg9
    refine m_aload_n X dX3_throughGuard_269 rfl rfl (by first | rfl | exact isR_rf) ?_
    refine m_getf X fg_X3_66_X3 hM.1 rfl dX3_throughGuard_270 ?_
    refine m_aload_n X dX3_throughGuard_273 rfl rfl (by first | rfl | exact isR_rf) ?_
    refine m_getf X fg_X3_228_X3 hM.1 rfl dX3_throughGuard_274 ?_
    refine m_topi X (hF) ?_
    refine s_iald X hM rfl rfl (by exact tin (by simp only [alen]; omega) rfl) dX3_throughGuard_277 ?_
    refine m_topi X ((congrArg (A 26) (nI_clamp (by omega))).trans h26) ?_
    refine m_bipush X dX3_throughGuard_278 (v := 9) (by decide) ?_
    refine m_icmpge X dX3_throughGuard_280 (t := 321) (by decide) (fun c_280 => ?_) (fun c_280 => absurd (by decide) c_280)
    refine m_aload_n X dX3_throughGuard_321 rfl rfl (by first | rfl | exact isR_rf) ?_
    refine m_getf X fg_X3_66_X3 hM.1 rfl dX3_throughGuard_322 ?_
    refine m_aload_n X dX3_throughGuard_325 rfl rfl (by first | rfl | exact isR_rf) ?_
    refine m_getf X fg_X3_228_X3 hM.1 rfl dX3_throughGuard_326 ?_
    refine m_topi X (hF) ?_
    refine s_iald X hM rfl rfl (by exact tin (by simp only [alen]; omega) rfl) dX3_throughGuard_329 ?_
    refine m_topi X ((congrArg (A 26) (nI_clamp (by omega))).trans h26) ?_
    refine m_bipush X dX3_throughGuard_330 (v := 9) (by decide) ?_
    refine m_icmpne X dX3_throughGuard_332 (t := 344) (by decide) (fun c_332 => absurd rfl c_332) (fun c_332 => ?_)
    refine m_aload_n X dX3_throughGuard_335 rfl rfl (by first | rfl | exact isR_rf) ?_
    refine m_iload_n X dX3_throughGuard_336 rfl rfl ?_
    refine m_iload_n X dX3_throughGuard_337 rfl rfl ?_
    refine m_callV X cs_X3_321  (c_X3_leave hM n d hn hd hW hR) hM.1 rfl rfl rfl (Nat.le_of_ble_eq_true rfl) dX3_throughGuard_338 ⟨by decide, by decide, by decide, by decide⟩ (fun v M hp => ?_) (fun _ _ _ _ h => h.elim)
    obtain ⟨rfl, A9, hM, hE9⟩ := hp
    refine m_stn ?_
    refine m_goto X dX3_throughGuard_341 (t := 382) (by decide) ?_
    exact m_vret X dX3_throughGuard_382 (by decide) (by decide) (by exact ⟨rfl, _, A9, hM, hΨ _ _ (by unfold TLp; rw [if_neg hnd, if_pos (show nextG y (9 - 9) 9 = 9 from rfl)]; exact ⟨rfl, hW.ch hE9.2 (by intro l h1 h2; omega), hE9.1⟩) (Ch.tr (U := TT d) hC hE9.2 (by intro k l hu; first | (unfold TT at hu ⊢; omega) | (unfold TT at hu; omega)))⟩)
  | succ m ih =>
    intro g A M hg hM h15 hW hY h26 hR hC hΨ
    have hyg := hY g 0 (by omega) (by decide)
    have hm9 : 9 - g = m + 1 := by omega
    rw [Nat.add_zero] at hyg
    refine m_aload_n X dX3_throughGuard_269 rfl rfl (by first | rfl | exact isR_rf) ?_
    refine m_getf X fg_X3_66_X3 hM.1 rfl dX3_throughGuard_270 ?_
    refine m_aload_n X dX3_throughGuard_273 rfl rfl (by first | rfl | exact isR_rf) ?_
    refine m_getf X fg_X3_228_X3 hM.1 rfl dX3_throughGuard_274 ?_
    refine m_topi X (hF) ?_
    refine s_iald X hM rfl rfl (by exact tin (by simp only [alen]; omega) rfl) dX3_throughGuard_277 ?_
    refine m_topi X ((congrArg (A 26) (nI_clamp (by omega))).trans h26) ?_
    refine m_bipush X dX3_throughGuard_278 (v := 9) (by decide) ?_
    refine m_icmpge X dX3_throughGuard_280 (t := 321) (by decide) (fun c_280 => absurd ((nI_leI (a := 9) (by decide) (by omega)).mp c_280) (by omega)) (fun c_280 => ?_)
    refine m_aload_n X dX3_throughGuard_283 rfl rfl (by first | rfl | exact isR_rf) ?_
    refine m_getf X fg_X3_94_X3 hM.1 rfl dX3_throughGuard_284 ?_
    refine m_iload_n X dX3_throughGuard_287 rfl rfl ?_
    refine m_bipush X dX3_throughGuard_288 (v := 12) (by decide) ?_
    refine m_aload_n X dX3_throughGuard_290 rfl rfl (by first | rfl | exact isR_rf) ?_
    refine m_getf X fg_X3_66_X3 hM.1 rfl dX3_throughGuard_291 ?_
    refine m_aload_n X dX3_throughGuard_294 rfl rfl (by first | rfl | exact isR_rf) ?_
    refine m_getf X fg_X3_228_X3 hM.1 rfl dX3_throughGuard_295 ?_
    refine m_topi X (hF) ?_
    refine s_iald X hM rfl rfl (by exact tin (by simp only [alen]; omega) rfl) dX3_throughGuard_298 ?_
    refine m_topi X ((congrArg (A 26) (nI_clamp (by omega))).trans h26) ?_
    refine m_imul X dX3_throughGuard_299 ?_
    refine m_topi X (pk_mul 12 g) ?_
    refine m_iadd X dX3_throughGuard_300 ?_
    refine m_topi X (nI_add _ _) ?_
    refine s_iald X hM rfl rfl (by exact tin (by simp only [alen]; omega) rfl) dX3_throughGuard_301 ?_
    refine m_topi X ((congrArg _ (nI_clamp (by omega))).trans (hyg)) ?_
    refine m_ifne X dX3_throughGuard_302 (t := 321) (by decide) (fun c_302 => ?_) (fun c_302 => ?_)
    · skip
      try simp only [bI_0, Bool.not_eq_false] at c_302
      have eg : nextG y (m + 1) g = g := if_pos c_302
      refine m_aload_n X dX3_throughGuard_321 rfl rfl (by first | rfl | exact isR_rf) ?_
      refine m_getf X fg_X3_66_X3 hM.1 rfl dX3_throughGuard_322 ?_
      refine m_aload_n X dX3_throughGuard_325 rfl rfl (by first | rfl | exact isR_rf) ?_
      refine m_getf X fg_X3_228_X3 hM.1 rfl dX3_throughGuard_326 ?_
      refine m_topi X (hF) ?_
      refine s_iald X hM rfl rfl (by exact tin (by simp only [alen]; omega) rfl) dX3_throughGuard_329 ?_
      refine m_topi X ((congrArg (A 26) (nI_clamp (by omega))).trans h26) ?_
      refine m_bipush X dX3_throughGuard_330 (v := 9) (by decide) ?_
      refine m_icmpne X dX3_throughGuard_332 (t := 344) (by decide) (fun c_332 => ?_) (fun c_332 => absurd ((nI_eq (b := 9) (by omega) (by decide)).mp c_332) (by omega))
      refine m_aload_n X dX3_throughGuard_344 rfl rfl (by first | rfl | exact isR_rf) ?_
      refine m_getf X fg_X3_94_X3 hM.1 rfl dX3_throughGuard_345 ?_
      refine m_iload_n X dX3_throughGuard_348 rfl rfl ?_
      refine m_bipush X dX3_throughGuard_349 (v := 12) (by decide) ?_
      refine m_aload_n X dX3_throughGuard_351 rfl rfl (by first | rfl | exact isR_rf) ?_
      refine m_getf X fg_X3_66_X3 hM.1 rfl dX3_throughGuard_352 ?_
      refine m_aload_n X dX3_throughGuard_355 rfl rfl (by first | rfl | exact isR_rf) ?_
      refine m_getf X fg_X3_228_X3 hM.1 rfl dX3_throughGuard_356 ?_
      refine m_topi X (hF) ?_
      refine s_iald X hM rfl rfl (by exact tin (by simp only [alen]; omega) rfl) dX3_throughGuard_359 ?_
      refine m_topi X ((congrArg (A 26) (nI_clamp (by omega))).trans h26) ?_
      refine m_imul X dX3_throughGuard_360 ?_
      refine m_topi X (pk_mul 12 g) ?_
      refine m_iadd X dX3_throughGuard_361 ?_
      refine m_topi X (nI_add _ _) ?_
      refine m_aload_n X dX3_throughGuard_362 rfl rfl (by first | rfl | exact isR_rf) ?_
      refine m_getf X fg_X3_97_X3 hM.1 rfl dX3_throughGuard_363 ?_
      refine m_iload X dX3_throughGuard_366 rfl ?_
      refine m_callS X cs_X3_316  (c_X3_lay_2 hM 37 (108 * d + 12 * g) 38 (12 * d + 12) rfl rfl (by simp only [alen]; omega) (by simp only [alen]; omega) (Or.inl (by decide))) rfl rfl (Nat.le_of_ble_eq_true rfl) dX3_throughGuard_368 ⟨by decide, by decide, by decide, by decide⟩ (fun v M hp => ?_) (fun _ _ _ _ h => h.elim)
      obtain ⟨rfl, hM⟩ := hp
      refine m_stn ?_
      refine m_aload_n X dX3_throughGuard_371 rfl rfl (by first | rfl | exact isR_rf) ?_
      refine m_iconst X dX3_throughGuard_372 (v := 3) (by decide) ?_
      refine m_aload_n X dX3_throughGuard_373 rfl rfl (by first | rfl | exact isR_rf) ?_
      refine m_getf X fg_X3_47_X3 hM.1 rfl dX3_throughGuard_374 ?_
      refine m_iload_n X dX3_throughGuard_377 rfl rfl ?_
      refine s_iald X hM rfl rfl (by exact tin (by simp only [alen]; omega) rfl) dX3_throughGuard_378 ?_
      refine m_topi X ((congrArg _ (nI_clamp (by omega))).trans ((layA2_off (by omega)).trans h15)) ?_
      refine m_callV X cs_X3_244  (c_X3_step hM d 3 nd hF (by omega)) hM.1 rfl rfl rfl (Nat.le_of_ble_eq_true rfl) dX3_throughGuard_379 ⟨by decide, by decide, by decide, by decide⟩ (fun v M hp => ?_) (fun _ _ _ _ h => h.elim)
      obtain ⟨rfl, hM⟩ := hp
      refine m_stn ?_
      exact m_vret X dX3_throughGuard_382 (by decide) (by decide) (by exact ⟨rfl, _, _, hM, hΨ _ _ (by unfold TLp; rw [if_neg hnd, hm9, eg, if_neg (by omega)]; exact ⟨stp_mk (fun u hu => by rw [show 12 * (d + 1) + u = 12 * d + 12 + u by omega]; exact lay_way hY (by omega) (t := 12 * d + 12) u hu), (stp_ch _ _ (by omega)).trans ((layA2_off (by omega)).trans h26), ((hW).ch layA2_ch (by intro l h1 h2; omega)).ch stp_ch (by intro l h1 h2; omega), ((hY).ch layA2_ch (by intro l h1 h2; omega)).ch stp_ch (by intro l h1 h2; omega), ((hR).ch layA2_ch (by intro k l h1 h2; omega)).ch stp_ch (by intro k l h1 h2; omega)⟩) (Ch.tr (U := TT d) (Ch.tr (U := TT d) hC layA2_ch (by intro k l hu; first | (unfold TT at hu ⊢; omega) | (unfold TT at hu; omega))) stp_ch (by intro k l hu; first | (unfold TT at hu ⊢; omega) | (unfold TT at hu; omega)))⟩)
    · skip
      try simp only [bI_0, Bool.not_eq_false] at c_302
      have eg : nextG y (m + 1) g = nextG y m (g + 1) := if_neg (fun z => z c_302)
      refine m_aload_n X dX3_throughGuard_305 rfl rfl (by first | rfl | exact isR_rf) ?_
      refine m_getf X fg_X3_66_X3 hM.1 rfl dX3_throughGuard_306 ?_
      refine m_aload_n X dX3_throughGuard_309 rfl rfl (by first | rfl | exact isR_rf) ?_
      refine m_getf X fg_X3_228_X3 hM.1 rfl dX3_throughGuard_310 ?_
      refine m_topi X (hF) ?_
      refine m_dup2 X dX3_throughGuard_313 rfl rfl ?_
      refine s_iald X hM rfl rfl (by exact tin (by simp only [alen]; omega) rfl) dX3_throughGuard_314 ?_
      refine m_topi X ((congrArg (A 26) (nI_clamp (by omega))).trans h26) ?_
      refine m_iconst X dX3_throughGuard_315 (v := 1) (by decide) ?_
      refine m_iadd X dX3_throughGuard_316 ?_
      refine m_topi X ((nI_succ g).symm) ?_
      refine s_iast X hM rfl rfl (by exact tin (by simp only [alen]; omega) rfl) dX3_throughGuard_317 (fun M hM => ?_)
      rw [nI_clamp (by omega)] at hM
      refine m_goto X dX3_throughGuard_318 (t := 269) (by decide) ?_
      refine m_loc [(3, some (.int (nI (108 * d)))), (4, some (.int (nI (12 * d + 12)))), (0, some (.ref h)), (1, some (.int (nI n))), (2, some (.int (nI d)))] ⟨rfl, rfl, rfl, rfl, rfl, trivial⟩ (ih (g + 1) _ _ (by omega) hM ((aset_off (by omega)).trans h15) ((hW).ch aset_ch (by intro l h1 h2; omega)) ((hY).ch aset_ch (by intro l h1 h2; omega)) aset_on ((hR).ch aset_ch (by intro k l h1 h2; omega)) (Ch.tr (U := TT d) hC aset_ch (by intro k l hu; first | (unfold TT at hu ⊢; omega) | (unfold TT at hu; omega))) (fun F' A' ht hc => hΨ F' A' ?_ hc))
      unfold TLp at ht ⊢
      rw [hm9, eg]
      rw [show 9 - (g + 1) = m by omega] at ht
      exact ht
set_option maxHeartbeats 4000000 in
theorem guard_tl {G : GX} {x : MX} {h : Nat} {ad : Nat → Nat} {F : Nat → Int32} {A0 : Nat → Nat → Int32} {B : Nat → Nat → Int64} {ρ : RP} {Ψ : (Nat → Int32) → (Nat → Nat → Int32) → Prop} (X : Cx G x yX3_throughGuard cX3_throughGuard 7 none (rmm 3 73)) (n d : Nat) (hn : n < 80) (hd : d < 81) (hF : F 27 = nI d) {w y : Wy} {nd : Int32} (g : Nat) (hg : g ≤ 9) (hw0 : nd < 0 → ∀ g s, w g s = 0) {A1 : Nat → Nat → Int32} {M : Mem} (hM : MRep G h ad F A1 B M) (h15 : A1 15 n = nd) (h26 : A1 26 d = nI g) (hW : RW 36 d A1 w) (hY : RW 37 d A1 y) (hR : RR ρ A1) (hC : Ch (TT d) A0 A1) (hΨ : ∀ (F' : Nat → Int32) (A' : Nat → Nat → Int32), TLp d n F ρ nd w y g F' A' → Ch (TT d) A0 A' → Ψ F' A') : WM G x 7 (QM G x (pV G h ad B Ψ) nX (rmm 3 73)) 0 0 M 216 [(3, some (.int (nI (108 * d)))), (4, some (.int (nI (12 * d + 12)))), (0, some (.ref h)), (1, some (.int (nI n))), (2, some (.int (nI d)))] [] := by
  by_cases hnd : nd < 0
  · exact guard_te X n d hn hd hF hnd hM h15 hW (hw0 hnd) hY hR hC fun F' A' ht hc => hΨ F' A' (by unfold TLp; rw [if_pos hnd]; exact ht) hc
  · skip
    refine m_aload_n X dX3_throughGuard_216 rfl rfl (by first | rfl | exact isR_rf) ?_
    refine m_getf X fg_X3_47_X3 hM.1 rfl dX3_throughGuard_217 ?_
    refine m_iload_n X dX3_throughGuard_220 rfl rfl ?_
    refine s_iald X hM rfl rfl (by exact tin (by simp only [alen]; omega) rfl) dX3_throughGuard_221 ?_
    refine m_topi X ((congrArg _ (nI_clamp (by omega))).trans (h15)) ?_
    refine m_ifge X dX3_throughGuard_222 (t := 269) (by decide) (fun c_222 => ?_) (fun c_222 => absurd (Int32.not_lt.mp hnd) c_222)
    exact m_loc [(3, some (.int (nI (108 * d)))), (4, some (.int (nI (12 * d + 12)))), (0, some (.ref h)), (1, some (.int (nI n))), (2, some (.int (nI d)))] ⟨rfl, rfl, rfl, rfl, rfl, trivial⟩ (guard_nx X n d hn hd hF hnd (9 - g) g _ _ (by omega) hM h15 hW hY h26 hR hC hΨ)
