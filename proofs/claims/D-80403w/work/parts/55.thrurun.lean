/-! REPORTS: the model goes through nodes (printed by wip/D-80403w/tools/m55.py) -/
set_option maxRecDepth 100000
/-- what going through a node at the depth d may change -/
def TU (d k l : Nat) : Prop := (31 ≤ k ∧ k ≤ 35) ∨ ((k = 36 ∨ k = 37) ∧ 108 * d ≤ l) ∨ (k = 38 ∧ 12 * d + 12 ≤ l) ∨ (24 ≤ k ∧ k ≤ 26 ∧ d ≤ l) ∨ k = 39
theorem TT_TU {d : Nat} {A A' : Nat → Nat → Int32} (h : Ch (TT d) A A') : Ch (TU d) A A' := h.le (by intro k l hu; unfold TU at hu; unfold TT; omega)
theorem TU_s {d : Nat} {A A' : Nat → Nat → Int32} (h : Ch (TU (d + 1)) A A') : Ch (TU d) A A' := h.le (by intro k l hu; unfold TU at hu ⊢; omega)
theorem TU_tr {d : Nat} {A A' A'' : Nat → Nat → Int32} (h : Ch (TU d) A A') (h' : Ch (TU d) A' A'') : Ch (TU d) A A'' := h.tr h' fun _ _ hu => ⟨hu, hu⟩
theorem MN.ch {ν : NS} {d : Nat} {F F' : Nat → Int32} {A A' : Nat → Nat → Int32} (h : MN ν F A) (hF : ∀ k, k ≠ 27 → F' k = F k) (hC : Ch (TU d) A A') : MN ν F' A' := h.to (hF 9 (by decide)) fun k a b => hC.fn fun l => by unfold TU; omega
theorem lastF_skip {E : (Nat → Int32) → RP → Wy × RP} {n : Nat} {y : Wy} : ∀ (m g : Nat) (p : Wy × RP), lastF E n y m g p = lastF E n y (g + m - nextG y m g) (nextG y m g) p := by
  intro m
  induction m with
  | zero => intro g p; show p = lastF E n y (g + 0 - g) g p; rw [show g + 0 - g = 0 by omega]; rfl
  | succ m ih =>
    intro g p
    by_cases h : y g 0 ≠ 0
    · rw [show nextG y (m + 1) g = g from if_pos h, show g + (m + 1) - g = m + 1 by omega]
    · rw [show nextG y (m + 1) g = nextG y m (g + 1) from if_neg h]
      show lastF E n y m (g + 1) (lastS E n y g p) = _
      rw [show lastS E n y g p = p from if_neg h, ih (g + 1) p, show g + 1 + m = g + (m + 1) by omega]
set_option maxHeartbeats 4000000 in
theorem thru_i0 {G : GX} {x : MX} {h n0 : Nat} {ad : Nat → Nat} {Q : State → Prop} (X : Cx G x yX3_through cX3_through 3 none (rmm 7 171)) {F : Nat → Int32} {A : Nat → Nat → Int32} {B : Nat → Nat → Int64} {M : Mem} (hM : MRep G h ad F A B M) {d m : Nat} (hF : F 27 = nI d) (hd : d < 81) (hm : m < 80) (h24 : A 24 d = nI m) (h10 : A 10 m = 0) {Ψ : (Nat → Int32) → (Nat → Nat → Int32) → Prop} (c : Con G yX3_throughAct wX3_throughAct (rmm 6 149) [.ref h, .int (nI m), .int (nI d)] M (pV G h ad B Ψ) nX) (K : ∀ (F' : Nat → Int32) (A' : Nat → Nat → Int32) (M' : Mem), MRep G h ad F' A' B M' → Ψ F' A' → WM G x 3 Q 0 0 M' 10 [(0, some (.ref h)), (1, some (.int (nI n0)))] []) : WM G x 3 Q 0 0 M 10 [(0, some (.ref h)), (1, some (.int (nI n0)))] [] := by
  refine m_aload_n X dX3_through_10 rfl rfl (by first | rfl | exact isR_rf) ?_
  refine m_getf X fg_X3_228_X3 hM.1 rfl dX3_through_11 ?_
  refine m_topi X (hF) ?_
  refine m_iflt X dX3_through_14 (t := 104) (by decide) (fun c_14 => absurd c_14 (nI_pos (by omega))) (fun c_14 => ?_)
  refine m_aload_n X dX3_through_17 rfl rfl (by first | rfl | exact isR_rf) ?_
  refine m_getf X fg_X3_60_X3 hM.1 rfl dX3_through_18 ?_
  refine m_aload_n X dX3_through_21 rfl rfl (by first | rfl | exact isR_rf) ?_
  refine m_getf X fg_X3_228_X3 hM.1 rfl dX3_through_22 ?_
  refine m_topi X (hF) ?_
  refine s_iald X hM rfl rfl (by exact tin (by simp only [alen]; omega) rfl) dX3_through_25 ?_
  refine m_topi X ((congrArg (A 24) (nI_clamp (by omega))).trans h24) ?_
  refine m_istore_n X dX3_through_26 rfl rfl rfl ?_
  refine m_aload_n X dX3_through_27 rfl rfl (by first | rfl | exact isR_rf) ?_
  refine m_getf X fg_X3_32_X3 hM.1 rfl dX3_through_28 ?_
  refine m_iload_n X dX3_through_31 rfl rfl ?_
  refine s_iald X hM rfl rfl (by exact tin (by simp only [alen]; omega) rfl) dX3_through_32 ?_
  refine m_topi X ((congrArg (A 10) (nI_clamp (by omega))).trans h10) ?_
  refine m_ifne X dX3_through_33 (t := 48) (by decide) (fun c_33 => absurd rfl c_33) (fun c_33 => ?_)
  refine m_aload_n X dX3_through_36 rfl rfl (by first | rfl | exact isR_rf) ?_
  refine m_iload_n X dX3_through_37 rfl rfl ?_
  refine m_aload_n X dX3_through_38 rfl rfl (by first | rfl | exact isR_rf) ?_
  refine m_getf X fg_X3_228_X3 hM.1 rfl dX3_through_39 ?_
  refine m_topi X (hF) ?_
  refine m_callV X cs_X3_334  (c ) hM.1 rfl rfl rfl (Nat.le_of_ble_eq_true rfl) dX3_through_42 ⟨by decide, by decide, by decide, by decide⟩ (fun v M hp => ?_) (fun _ _ _ _ h => h.elim)
  obtain ⟨rfl, F', A', hM', hE⟩ := hp
  refine m_stn ?_
  refine m_goto X dX3_through_45 (t := 101) (by decide) ?_
  refine m_goto X dX3_through_101 (t := 10) (by decide) ?_
  exact m_loc [(0, some (.ref h)), (1, some (.int (nI n0)))] ⟨rfl, rfl, trivial⟩ (K F' A' _ hM' hE)
set_option maxHeartbeats 4000000 in
theorem thru_i1 {G : GX} {x : MX} {h n0 : Nat} {ad : Nat → Nat} {Q : State → Prop} (X : Cx G x yX3_through cX3_through 3 none (rmm 7 171)) {F : Nat → Int32} {A : Nat → Nat → Int32} {B : Nat → Nat → Int64} {M : Mem} (hM : MRep G h ad F A B M) {d m : Nat} (hF : F 27 = nI d) (hd : d < 81) (hm : m < 80) (h24 : A 24 d = nI m) (h10 : A 10 m = 1) {Ψ : (Nat → Int32) → (Nat → Nat → Int32) → Prop} (c : Con G yX3_throughBoth wX3_throughBoth (rmm 2 47) [.ref h, .int (nI m), .int (nI d)] M (pV G h ad B Ψ) nX) (K : ∀ (F' : Nat → Int32) (A' : Nat → Nat → Int32) (M' : Mem), MRep G h ad F' A' B M' → Ψ F' A' → WM G x 3 Q 0 0 M' 10 [(0, some (.ref h)), (1, some (.int (nI n0)))] []) : WM G x 3 Q 0 0 M 10 [(0, some (.ref h)), (1, some (.int (nI n0)))] [] := by
  refine m_aload_n X dX3_through_10 rfl rfl (by first | rfl | exact isR_rf) ?_
  refine m_getf X fg_X3_228_X3 hM.1 rfl dX3_through_11 ?_
  refine m_topi X (hF) ?_
  refine m_iflt X dX3_through_14 (t := 104) (by decide) (fun c_14 => absurd c_14 (nI_pos (by omega))) (fun c_14 => ?_)
  refine m_aload_n X dX3_through_17 rfl rfl (by first | rfl | exact isR_rf) ?_
  refine m_getf X fg_X3_60_X3 hM.1 rfl dX3_through_18 ?_
  refine m_aload_n X dX3_through_21 rfl rfl (by first | rfl | exact isR_rf) ?_
  refine m_getf X fg_X3_228_X3 hM.1 rfl dX3_through_22 ?_
  refine m_topi X (hF) ?_
  refine s_iald X hM rfl rfl (by exact tin (by simp only [alen]; omega) rfl) dX3_through_25 ?_
  refine m_topi X ((congrArg (A 24) (nI_clamp (by omega))).trans h24) ?_
  refine m_istore_n X dX3_through_26 rfl rfl rfl ?_
  refine m_aload_n X dX3_through_27 rfl rfl (by first | rfl | exact isR_rf) ?_
  refine m_getf X fg_X3_32_X3 hM.1 rfl dX3_through_28 ?_
  refine m_iload_n X dX3_through_31 rfl rfl ?_
  refine s_iald X hM rfl rfl (by exact tin (by simp only [alen]; omega) rfl) dX3_through_32 ?_
  refine m_topi X ((congrArg (A 10) (nI_clamp (by omega))).trans h10) ?_
  refine m_ifne X dX3_through_33 (t := 48) (by decide) (fun c_33 => ?_) (fun c_33 => absurd c_33 (by decide))
  refine m_aload_n X dX3_through_48 rfl rfl (by first | rfl | exact isR_rf) ?_
  refine m_getf X fg_X3_32_X3 hM.1 rfl dX3_through_49 ?_
  refine m_iload_n X dX3_through_52 rfl rfl ?_
  refine s_iald X hM rfl rfl (by exact tin (by simp only [alen]; omega) rfl) dX3_through_53 ?_
  refine m_topi X ((congrArg (A 10) (nI_clamp (by omega))).trans h10) ?_
  refine m_iconst X dX3_through_54 (v := 1) (by decide) ?_
  refine m_icmpne X dX3_through_55 (t := 70) (by decide) (fun c_55 => absurd rfl c_55) (fun c_55 => ?_)
  refine m_aload_n X dX3_through_58 rfl rfl (by first | rfl | exact isR_rf) ?_
  refine m_iload_n X dX3_through_59 rfl rfl ?_
  refine m_aload_n X dX3_through_60 rfl rfl (by first | rfl | exact isR_rf) ?_
  refine m_getf X fg_X3_228_X3 hM.1 rfl dX3_through_61 ?_
  refine m_topi X (hF) ?_
  refine m_callV X cs_X3_337  (c ) hM.1 rfl rfl rfl (Nat.le_of_ble_eq_true rfl) dX3_through_64 ⟨by decide, by decide, by decide, by decide⟩ (fun v M hp => ?_) (fun _ _ _ _ h => h.elim)
  obtain ⟨rfl, F', A', hM', hE⟩ := hp
  refine m_stn ?_
  refine m_goto X dX3_through_67 (t := 101) (by decide) ?_
  refine m_goto X dX3_through_101 (t := 10) (by decide) ?_
  exact m_loc [(0, some (.ref h)), (1, some (.int (nI n0)))] ⟨rfl, rfl, trivial⟩ (K F' A' _ hM' hE)
set_option maxHeartbeats 4000000 in
theorem thru_i2 {G : GX} {x : MX} {h n0 : Nat} {ad : Nat → Nat} {Q : State → Prop} (X : Cx G x yX3_through cX3_through 3 none (rmm 7 171)) {F : Nat → Int32} {A : Nat → Nat → Int32} {B : Nat → Nat → Int64} {M : Mem} (hM : MRep G h ad F A B M) {d m : Nat} (hF : F 27 = nI d) (hd : d < 81) (hm : m < 80) (h24 : A 24 d = nI m) (h10 : A 10 m = 2) {Ψ : (Nat → Int32) → (Nat → Nat → Int32) → Prop} (c : Con G yX3_throughChoice wX3_throughChoice (rmm 2 47) [.ref h, .int (nI m), .int (nI d)] M (pV G h ad B Ψ) nX) (K : ∀ (F' : Nat → Int32) (A' : Nat → Nat → Int32) (M' : Mem), MRep G h ad F' A' B M' → Ψ F' A' → WM G x 3 Q 0 0 M' 10 [(0, some (.ref h)), (1, some (.int (nI n0)))] []) : WM G x 3 Q 0 0 M 10 [(0, some (.ref h)), (1, some (.int (nI n0)))] [] := by
  refine m_aload_n X dX3_through_10 rfl rfl (by first | rfl | exact isR_rf) ?_
  refine m_getf X fg_X3_228_X3 hM.1 rfl dX3_through_11 ?_
  refine m_topi X (hF) ?_
  refine m_iflt X dX3_through_14 (t := 104) (by decide) (fun c_14 => absurd c_14 (nI_pos (by omega))) (fun c_14 => ?_)
  refine m_aload_n X dX3_through_17 rfl rfl (by first | rfl | exact isR_rf) ?_
  refine m_getf X fg_X3_60_X3 hM.1 rfl dX3_through_18 ?_
  refine m_aload_n X dX3_through_21 rfl rfl (by first | rfl | exact isR_rf) ?_
  refine m_getf X fg_X3_228_X3 hM.1 rfl dX3_through_22 ?_
  refine m_topi X (hF) ?_
  refine s_iald X hM rfl rfl (by exact tin (by simp only [alen]; omega) rfl) dX3_through_25 ?_
  refine m_topi X ((congrArg (A 24) (nI_clamp (by omega))).trans h24) ?_
  refine m_istore_n X dX3_through_26 rfl rfl rfl ?_
  refine m_aload_n X dX3_through_27 rfl rfl (by first | rfl | exact isR_rf) ?_
  refine m_getf X fg_X3_32_X3 hM.1 rfl dX3_through_28 ?_
  refine m_iload_n X dX3_through_31 rfl rfl ?_
  refine s_iald X hM rfl rfl (by exact tin (by simp only [alen]; omega) rfl) dX3_through_32 ?_
  refine m_topi X ((congrArg (A 10) (nI_clamp (by omega))).trans h10) ?_
  refine m_ifne X dX3_through_33 (t := 48) (by decide) (fun c_33 => ?_) (fun c_33 => absurd c_33 (by decide))
  refine m_aload_n X dX3_through_48 rfl rfl (by first | rfl | exact isR_rf) ?_
  refine m_getf X fg_X3_32_X3 hM.1 rfl dX3_through_49 ?_
  refine m_iload_n X dX3_through_52 rfl rfl ?_
  refine s_iald X hM rfl rfl (by exact tin (by simp only [alen]; omega) rfl) dX3_through_53 ?_
  refine m_topi X ((congrArg (A 10) (nI_clamp (by omega))).trans h10) ?_
  refine m_iconst X dX3_through_54 (v := 1) (by decide) ?_
  refine m_icmpne X dX3_through_55 (t := 70) (by decide) (fun c_55 => ?_) (fun c_55 => absurd c_55 (by decide))
  refine m_aload_n X dX3_through_70 rfl rfl (by first | rfl | exact isR_rf) ?_
  refine m_getf X fg_X3_32_X3 hM.1 rfl dX3_through_71 ?_
  refine m_iload_n X dX3_through_74 rfl rfl ?_
  refine s_iald X hM rfl rfl (by exact tin (by simp only [alen]; omega) rfl) dX3_through_75 ?_
  refine m_topi X ((congrArg (A 10) (nI_clamp (by omega))).trans h10) ?_
  refine m_iconst X dX3_through_76 (v := 2) (by decide) ?_
  refine m_icmpne X dX3_through_77 (t := 92) (by decide) (fun c_77 => absurd rfl c_77) (fun c_77 => ?_)
  refine m_aload_n X dX3_through_80 rfl rfl (by first | rfl | exact isR_rf) ?_
  refine m_iload_n X dX3_through_81 rfl rfl ?_
  refine m_aload_n X dX3_through_82 rfl rfl (by first | rfl | exact isR_rf) ?_
  refine m_getf X fg_X3_228_X3 hM.1 rfl dX3_through_83 ?_
  refine m_topi X (hF) ?_
  refine m_callV X cs_X3_340  (c ) hM.1 rfl rfl rfl (Nat.le_of_ble_eq_true rfl) dX3_through_86 ⟨by decide, by decide, by decide, by decide⟩ (fun v M hp => ?_) (fun _ _ _ _ h => h.elim)
  obtain ⟨rfl, F', A', hM', hE⟩ := hp
  refine m_stn ?_
  refine m_goto X dX3_through_89 (t := 101) (by decide) ?_
  refine m_goto X dX3_through_101 (t := 10) (by decide) ?_
  exact m_loc [(0, some (.ref h)), (1, some (.int (nI n0)))] ⟨rfl, rfl, trivial⟩ (K F' A' _ hM' hE)
set_option maxHeartbeats 4000000 in
theorem thru_i3 {G : GX} {x : MX} {h n0 : Nat} {ad : Nat → Nat} {Q : State → Prop} (X : Cx G x yX3_through cX3_through 3 none (rmm 7 171)) {F : Nat → Int32} {A : Nat → Nat → Int32} {B : Nat → Nat → Int64} {M : Mem} (hM : MRep G h ad F A B M) {d m : Nat} (hF : F 27 = nI d) (hd : d < 81) (hm : m < 80) (h24 : A 24 d = nI m) (h10 : A 10 m = 3) {Ψ : (Nat → Int32) → (Nat → Nat → Int32) → Prop} (c : Con G yX3_throughGuard wX3_throughGuard (rmm 3 73) [.ref h, .int (nI m), .int (nI d)] M (pV G h ad B Ψ) nX) (K : ∀ (F' : Nat → Int32) (A' : Nat → Nat → Int32) (M' : Mem), MRep G h ad F' A' B M' → Ψ F' A' → WM G x 3 Q 0 0 M' 10 [(0, some (.ref h)), (1, some (.int (nI n0)))] []) : WM G x 3 Q 0 0 M 10 [(0, some (.ref h)), (1, some (.int (nI n0)))] [] := by
  refine m_aload_n X dX3_through_10 rfl rfl (by first | rfl | exact isR_rf) ?_
  refine m_getf X fg_X3_228_X3 hM.1 rfl dX3_through_11 ?_
  refine m_topi X (hF) ?_
  refine m_iflt X dX3_through_14 (t := 104) (by decide) (fun c_14 => absurd c_14 (nI_pos (by omega))) (fun c_14 => ?_)
  refine m_aload_n X dX3_through_17 rfl rfl (by first | rfl | exact isR_rf) ?_
  refine m_getf X fg_X3_60_X3 hM.1 rfl dX3_through_18 ?_
  refine m_aload_n X dX3_through_21 rfl rfl (by first | rfl | exact isR_rf) ?_
  refine m_getf X fg_X3_228_X3 hM.1 rfl dX3_through_22 ?_
  refine m_topi X (hF) ?_
  refine s_iald X hM rfl rfl (by exact tin (by simp only [alen]; omega) rfl) dX3_through_25 ?_
  refine m_topi X ((congrArg (A 24) (nI_clamp (by omega))).trans h24) ?_
  refine m_istore_n X dX3_through_26 rfl rfl rfl ?_
  refine m_aload_n X dX3_through_27 rfl rfl (by first | rfl | exact isR_rf) ?_
  refine m_getf X fg_X3_32_X3 hM.1 rfl dX3_through_28 ?_
  refine m_iload_n X dX3_through_31 rfl rfl ?_
  refine s_iald X hM rfl rfl (by exact tin (by simp only [alen]; omega) rfl) dX3_through_32 ?_
  refine m_topi X ((congrArg (A 10) (nI_clamp (by omega))).trans h10) ?_
  refine m_ifne X dX3_through_33 (t := 48) (by decide) (fun c_33 => ?_) (fun c_33 => absurd c_33 (by decide))
  refine m_aload_n X dX3_through_48 rfl rfl (by first | rfl | exact isR_rf) ?_
  refine m_getf X fg_X3_32_X3 hM.1 rfl dX3_through_49 ?_
  refine m_iload_n X dX3_through_52 rfl rfl ?_
  refine s_iald X hM rfl rfl (by exact tin (by simp only [alen]; omega) rfl) dX3_through_53 ?_
  refine m_topi X ((congrArg (A 10) (nI_clamp (by omega))).trans h10) ?_
  refine m_iconst X dX3_through_54 (v := 1) (by decide) ?_
  refine m_icmpne X dX3_through_55 (t := 70) (by decide) (fun c_55 => ?_) (fun c_55 => absurd c_55 (by decide))
  refine m_aload_n X dX3_through_70 rfl rfl (by first | rfl | exact isR_rf) ?_
  refine m_getf X fg_X3_32_X3 hM.1 rfl dX3_through_71 ?_
  refine m_iload_n X dX3_through_74 rfl rfl ?_
  refine s_iald X hM rfl rfl (by exact tin (by simp only [alen]; omega) rfl) dX3_through_75 ?_
  refine m_topi X ((congrArg (A 10) (nI_clamp (by omega))).trans h10) ?_
  refine m_iconst X dX3_through_76 (v := 2) (by decide) ?_
  refine m_icmpne X dX3_through_77 (t := 92) (by decide) (fun c_77 => ?_) (fun c_77 => absurd c_77 (by decide))
  refine m_aload_n X dX3_through_92 rfl rfl (by first | rfl | exact isR_rf) ?_
  refine m_iload_n X dX3_through_93 rfl rfl ?_
  refine m_aload_n X dX3_through_94 rfl rfl (by first | rfl | exact isR_rf) ?_
  refine m_getf X fg_X3_228_X3 hM.1 rfl dX3_through_95 ?_
  refine m_topi X (hF) ?_
  refine m_callV X cs_X3_343  (c ) hM.1 rfl rfl rfl (Nat.le_of_ble_eq_true rfl) dX3_through_98 ⟨by decide, by decide, by decide, by decide⟩ (fun v M hp => ?_) (fun _ _ _ _ h => h.elim)
  obtain ⟨rfl, F', A', hM', hE⟩ := hp
  refine m_stn ?_
  refine m_goto X dX3_through_101 (t := 10) (by decide) ?_
  exact m_loc [(0, some (.ref h)), (1, some (.int (nI n0)))] ⟨rfl, rfl, trivial⟩ (K F' A' _ hM' hE)
set_option maxHeartbeats 8000000 in
theorem thru_run {G : GX} {x : MX} {h n0 : Nat} {ad : Nat → Nat} {Q : State → Prop} (X : Cx G x yX3_through cX3_through 3 none (rmm 7 171)) {B : Nat → Nat → Int64} {ν : NS} (hV : VN ν) : ∀ (f d m : Nat) (s : Nat → Int32) (ρ : RP) (F : Nat → Int32) (A : Nat → Nat → Int32) (M : Mem), MRep G h ad F A B M → MN ν F A → RR ρ A → m < f → m < ν.N → d + m < 81 → F 27 = nI d → A 24 d = nI m → A 25 d = 0 → A 26 d = 0 → IR d A s →
    (∀ (F' : Nat → Int32) (A' : Nat → Nat → Int32) (M' : Mem), MRep G h ad F' A' B M' → (∀ k, k ≠ 27 → F' k = F k) → F' 27 = nI d - 1 → RW 36 d A' (thru ν f m s ρ).1 → RR (thru ν f m s ρ).2 A' → Ch (TU d) A A' → WM G x 3 Q 0 0 M' 10 [(0, some (.ref h)), (1, some (.int (nI n0)))] []) → WM G x 3 Q 0 0 M 10 [(0, some (.ref h)), (1, some (.int (nI n0)))] [] := by
  have hNN := hV.1
  intro f
  induction f with
  | zero => intro d m s ρ F A M hM hN hR hm; exact absurd hm (by omega)
  | succ f ih =>
    intro d m s ρ F A M hM hN hR hmf hmN hdm hF h24 h25 h26 hs K
    have hmn := hN.2 m hmN
    have child : ∀ (i : Nat) (s' : Nat → Int32) (ρ' : RP) (F1 : Nat → Int32) (A1 : Nat → Nat → Int32) (M1 : Mem), i < m → MRep G h ad F1 A1 B M1 → MN ν F1 A1 → RR ρ' A1 → F1 27 = nI (d + 1) → A1 24 (d + 1) = nI i → A1 25 (d + 1) = 0 → A1 26 (d + 1) = 0 → IR (d + 1) A1 s' →
        (∀ (F' : Nat → Int32) (A' : Nat → Nat → Int32) (M' : Mem), MRep G h ad F' A' B M' → (∀ k, k ≠ 27 → F' k = F1 k) → F' 27 = nI d → RW 36 (d + 1) A' (thru ν f i s' ρ').1 → RR (thru ν f i s' ρ').2 A' → Ch (TU (d + 1)) A1 A' → WM G x 3 Q 0 0 M' 10 [(0, some (.ref h)), (1, some (.int (nI n0)))] []) → WM G x 3 Q 0 0 M1 10 [(0, some (.ref h)), (1, some (.int (nI n0)))] [] := fun i s' ρ' F1 A1 M1 hi hM hN hR hF h24 h25 h26 hs K => ih (d + 1) i s' ρ' F1 A1 M1 hM hN hR (by omega) (by omega) (by omega) hF h24 h25 h26 hs fun F' A' M' a b c e g k => K F' A' M' a b (c.trans (nI_pred d)) e g k
    have fin : ∀ (Fx : Nat → Int32) (Ax : Nat → Nat → Int32) (ρx : RP) (w : Wy) (F' : Nat → Int32) (A' : Nat → Nat → Int32) (M' : Mem), (∀ k, k ≠ 27 → Fx k = F k) → Fx 27 = nI d → Ch (TU d) A Ax → MRep G h ad F' A' B M' → LVp d m Fx ρx w F' A' → Ch (TT d) Ax A' → thru ν (f + 1) m s ρ = lvW m w ρx → WM G x 3 Q 0 0 M' 10 [(0, some (.ref h)), (1, some (.int (nI n0)))] [] := by
      intro Fx Ax ρx w F' A' M' hFx h27 hC hM' hL hC' e
      rw [e] at K
      obtain ⟨l1, l2, l3⟩ := hL
      exact K F' A' M' hM' (fun k hk => by rw [l1, pk_un hk]; exact hFx k hk) (by rw [l1, pk_us, h27]) l2 l3 (TU_tr hC (TT_TU hC'))
    rcases (hV.2 m hmN).1 with z | z | z | z
    · refine thru_i0 X hM hF (by omega) (by omega) h24 (hmn.1.trans (by rw [z.1]; rfl)) (c_X3_throughAct hM (ν := ν) (s := s) m d (by omega) (by omega) hmn.2.1 hmn.2.2.1 hmn.2.2.2.1 hmn.2.2.2.2.1 hmn.2.2.2.2.2.1 z.2.1 z.2.2.1 hs hR) fun F' A' M' hM' hE => ?_
      exact fin F A _ _ F' A' M' (fun _ _ => rfl) hF Ch.rf hM' hE.1 hE.2 (by rw [thru, if_pos z.1])
    · obtain ⟨zs, i, j, hi, hj, za, zb, -⟩ := z
      have e : thru ν (f + 1) m s ρ = if (thru ν f i s (ρ.enter m s)).1 0 0 ≠ 0 then lvW m (putW (putW w0 (thru ν f i s (ρ.enter m s)).1 1 9) (thru ν f j ((thru ν f i s (ρ.enter m s)).1 0) (thru ν f i s (ρ.enter m s)).2).1 0 9) (thru ν f j ((thru ν f i s (ρ.enter m s)).1 0) (thru ν f i s (ρ.enter m s)).2).2 else lvW m (putW w0 (thru ν f i s (ρ.enter m s)).1 1 9) (thru ν f i s (ρ.enter m s)).2 := by
        rw [thru, if_neg (by rw [zs]; decide), if_pos zs, za, zb, tn_nI (by omega), tn_nI (by omega)]
      have s10 : ∀ (F : Nat → Int32) (A : Nat → Nat → Int32), MN ν F A → A 10 m = 1 := fun F A hn => ((hn.2 m hmN).1).trans (by rw [zs]; rfl)
      refine thru_i1 X hM hF (by omega) (by omega) h24 (s10 F A hN) (c_X3_both0 hM m d (by omega) (by omega) hF h25 (hmn.2.2.1.trans za) hs hR) fun F1 A1 M1 hM1 hE1 => ?_
      obtain ⟨⟨f1, s24, s25, s26, sp, sI⟩, w1, r1, c1⟩ := hE1
      have g1 : ∀ k, k ≠ 27 → F1 k = F k := fun k hk => by rw [f1, pk_un hk]
      refine child i s (ρ.enter m s) F1 A1 M1 hi hM1 (hN.ch g1 (TT_TU c1)) r1 (by rw [f1]; exact pk_us) s24 s25 s26 sI fun F2 A2 M2 hM2 g2 h27 w2 r2 c2 => ?_
      have g12 : ∀ k, k ≠ 27 → F2 k = F k := fun k hk => (g2 k hk).trans (g1 k hk)
      have c12 : Ch (TU d) A A2 := TU_tr (TT_TU c1) (TU_s c2)
      have n2 := hN.ch g12 c12
      have a24 : A2 24 d = nI m := ((c2 _ _ (by unfold TU; omega)).trans (c1 _ _ (by unfold TT; omega))).trans h24
      have a25 : A2 25 d = 1 := (c2 _ _ (by unfold TU; omega)).trans sp
      have w12 : RW 36 d A2 w0 := w1.ch c2 (by intro l h1 h2; unfold TU; omega)
      by_cases hz : (thru ν f i s (ρ.enter m s)).1 0 0 = 0
      · refine thru_i1 X hM2 h27 (by omega) (by omega) a24 (s10 F2 A2 n2) (c_X3_both1e hM2 m d (by omega) (by omega) h27 a25 w12 w2 r2 hz) fun F3 A3 M3 hM3 hE3 => ?_
        exact fin F2 A2 _ _ F3 A3 M3 g12 h27 c12 hM3 hE3.1 hE3.2 (by rw [e, if_neg (fun q => q hz)])
      · refine thru_i1 X hM2 h27 (by omega) (by omega) a24 (s10 F2 A2 n2) (c_X3_both1 hM2 m d (by omega) (by omega) h27 a25 (((n2.2 m hmN).2.2.2.1).trans zb) w12 w2 r2 hz) fun F3 A3 M3 hM3 hE3 => ?_
        obtain ⟨⟨f3, t24, t25, t26, tp, tI⟩, w3, r3, c3⟩ := hE3
        have g3 : ∀ k, k ≠ 27 → F3 k = F k := fun k hk => by rw [f3, pk_un hk]; exact g12 k hk
        refine child j _ _ F3 A3 M3 hj hM3 (hN.ch g3 (TU_tr c12 (TT_TU c3))) r3 (by rw [f3]; exact pk_us) t24 t25 t26 tI fun F4 A4 M4 hM4 g4 k27 w4 r4 c4 => ?_
        have g34 : ∀ k, k ≠ 27 → F4 k = F k := fun k hk => (g4 k hk).trans (g3 k hk)
        have c14 : Ch (TU d) A A4 := TU_tr (TU_tr c12 (TT_TU c3)) (TU_s c4)
        have n4 := hN.ch g34 c14
        have b24 : A4 24 d = nI m := ((c4 _ _ (by unfold TU; omega)).trans (c3 _ _ (by unfold TT; omega))).trans a24
        have b25 : A4 25 d = 2 := (c4 _ _ (by unfold TU; omega)).trans tp
        refine thru_i1 X hM4 k27 (by omega) (by omega) b24 (s10 F4 A4 n4) (c_X3_both2 hM4 m d (by omega) (by omega) k27 b25 (w3.ch c4 (by intro l h1 h2; unfold TU; omega)) w4 r4) fun F5 A5 M5 hM5 hE5 => ?_
        exact fin F4 A4 _ _ F5 A5 M5 g34 k27 c14 hM5 hE5.1 hE5.2 (by rw [e, if_pos hz])
    · obtain ⟨zs, q, k, i, j, hq, hk, hi, hj, za, zb, zc, zd, -⟩ := z
      have e : thru ν (f + 1) m s ρ = lvW m (chT (thru ν f j) q (s q &&& (itsM (ν.nb m) ^^^ (-1))) s (chT (thru ν f i) q (s q &&& itsM (ν.nb m)) s (w0, ρ.enter m s))).1 (chT (thru ν f j) q (s q &&& (itsM (ν.nb m) ^^^ (-1))) s (chT (thru ν f i) q (s q &&& itsM (ν.nb m)) s (w0, ρ.enter m s))).2 := by
        rw [thru, if_neg (by rw [zs]; decide), if_neg (by rw [zs]; decide), if_pos zs, za, zc, zd, tn_nI (by omega), tn_nI (by omega), tn_nI (by omega)]
      have s10 : ∀ (F : Nat → Int32) (A : Nat → Nat → Int32), MN ν F A → A 10 m = 2 := fun F A hn => ((hn.2 m hmN).1).trans (by rw [zs]; rfl)
      have third : ∀ (F2 : Nat → Int32) (A2 : Nat → Nat → Int32) (M2 : Mem) (w2 : Wy) (ρ2 : RP), MRep G h ad F2 A2 B M2 → (∀ k, k ≠ 27 → F2 k = F k) → F2 27 = nI d → Ch (TU d) A A2 → A2 24 d = nI m → A2 25 d = 2 → RR ρ2 A2 → ((A2 26 d = 0 ∧ RW 36 d A2 w2) ∨ (¬ A2 26 d = 0 ∧ ∃ w v, RW 36 d A2 w ∧ RW 36 (d + 1) A2 v ∧ w2 = putW w v 0 9)) → thru ν (f + 1) m s ρ = lvW m w2 ρ2 → WM G x 3 Q 0 0 M2 10 [(0, some (.ref h)), (1, some (.int (nI n0)))] [] := by
        intro F2 A2 M2 w2 ρ2 hM2 g2 h27 c2 a24 a25 r2 ho e2
        have n2 := hN.ch g2 c2
        rcases ho with ⟨hl, hw⟩ | ⟨hl, w, v, hw, hv, rfl⟩
        · exact thru_i2 X hM2 h27 (by omega) (by omega) a24 (s10 F2 A2 n2) (c_X3_ch2 (v := w0) hM2 m d (by omega) (by omega) h27 a25 hw r2 hl) fun F3 A3 M3 hM3 hE3 => fin F2 A2 _ _ F3 A3 M3 g2 h27 c2 hM3 hE3.1 hE3.2 e2
        · exact thru_i2 X hM2 h27 (by omega) (by omega) a24 (s10 F2 A2 n2) (c_X3_ch2h hM2 m d (by omega) (by omega) h27 a25 hw r2 hl hv) fun F3 A3 M3 hM3 hE3 => fin F2 A2 _ _ F3 A3 M3 g2 h27 c2 hM3 hE3.1 hE3.2 e2
      have second : ∀ (F2 : Nat → Int32) (A2 : Nat → Nat → Int32) (M2 : Mem) (w2 : Wy) (ρ2 : RP), MRep G h ad F2 A2 B M2 → (∀ k, k ≠ 27 → F2 k = F k) → F2 27 = nI d → Ch (TU d) A A2 → A2 24 d = nI m → A2 25 d = 1 → IR d A2 s → RR ρ2 A2 → ((A2 26 d = 0 ∧ RW 36 d A2 w2) ∨ (¬ A2 26 d = 0 ∧ ∃ w v, RW 36 d A2 w ∧ RW 36 (d + 1) A2 v ∧ w2 = putW w v 0 9)) → thru ν (f + 1) m s ρ = lvW m (chT (thru ν f j) q (s q &&& (itsM (ν.nb m) ^^^ (-1))) s (w2, ρ2)).1 (chT (thru ν f j) q (s q &&& (itsM (ν.nb m) ^^^ (-1))) s (w2, ρ2)).2 → WM G x 3 Q 0 0 M2 10 [(0, some (.ref h)), (1, some (.int (nI n0)))] [] := by
        intro F2 A2 M2 w2 ρ2 hM2 g2 h27 c2 a24 a25 s2 r2 ho e2
        have n2 := hN.ch g2 c2
        have nm := n2.2 m hmN
        have m12 := nm.2.2.1.trans za
        have m15 := nm.2.2.2.2.2.1.trans zd
        by_cases hv2 : s q &&& (itsM (ν.nb m) ^^^ (-1)) = 0
        · have fi : ∀ (F3 : Nat → Int32) (A3 : Nat → Nat → Int32) (M3 : Mem), MRep G h ad F3 A3 B M3 → (F3 = F2 ∧ A3 25 d = 2 ∧ A3 26 d = 0 ∧ RW 36 d A3 w2 ∧ RR ρ2 A3 ∧ Ch (TT d) A2 A3) → WM G x 3 Q 0 0 M3 10 [(0, some (.ref h)), (1, some (.int (nI n0)))] [] := fun F3 A3 M3 hM3 hE3 => by
            obtain ⟨f3, p3, l3, w3, r3, c3⟩ := hE3
            refine third F3 A3 M3 w2 ρ2 hM3 (fun k hk => by rw [f3]; exact g2 k hk) (by rw [f3]; exact h27) (TU_tr c2 (TT_TU c3)) ((c3 _ _ (by unfold TT; omega)).trans a24) p3 r3 (Or.inl ⟨l3, w3⟩) (e2.trans ?_)
            unfold chT
            rw [if_neg (fun z => z hv2)]
          rcases ho with ⟨hl, hw⟩ | ⟨hl, w, v, hw, hv, rfl⟩
          · exact thru_i2 X hM2 h27 (by omega) (by omega) a24 (s10 F2 A2 n2) (c_X3_ch1n (v := w0) hM2 m d (by omega) (by omega) h27 hq a25 m12 nm.2.2.2.1 m15 s2 r2 hv2 hw hl) fun F3 A3 M3 hM3 hE3 => fi F3 A3 M3 hM3 hE3
          · exact thru_i2 X hM2 h27 (by omega) (by omega) a24 (s10 F2 A2 n2) (c_X3_ch1hn hM2 m d (by omega) (by omega) h27 hq a25 m12 nm.2.2.2.1 m15 s2 r2 hv2 hw hl hv) fun F3 A3 M3 hM3 hE3 => fi F3 A3 M3 hM3 hE3
        · have fi : ∀ (F3 : Nat → Int32) (A3 : Nat → Nat → Int32) (M3 : Mem), MRep G h ad F3 A3 B M3 → (STp d F2 (nI j) (upd s q (s q &&& (itsM (ν.nb m) ^^^ (-1)))) 2 F3 A3 ∧ A3 26 d = (s q &&& (itsM (ν.nb m) ^^^ (-1))) ∧ RW 36 d A3 w2 ∧ RR ρ2 A3 ∧ Ch (TT d) A2 A3) → WM G x 3 Q 0 0 M3 10 [(0, some (.ref h)), (1, some (.int (nI n0)))] [] := fun F3 A3 M3 hM3 hE3 => by
            obtain ⟨⟨f3, t24, t25, t26, tp, tI⟩, l3, w3, r3, c3⟩ := hE3
            have g3 : ∀ k, k ≠ 27 → F3 k = F k := fun k hk => by rw [f3, pk_un hk]; exact g2 k hk
            refine child j _ _ F3 A3 M3 hj hM3 (hN.ch g3 (TU_tr c2 (TT_TU c3))) r3 (by rw [f3]; exact pk_us) t24 t25 t26 tI fun F4 A4 M4 hM4 g4 k27 w4 r4 c4 => ?_
            refine third F4 A4 M4 _ _ hM4 (fun k hk => (g4 k hk).trans (g3 k hk)) k27 (TU_tr (TU_tr c2 (TT_TU c3)) (TU_s c4)) (((c4 _ _ (by unfold TU; omega)).trans (c3 _ _ (by unfold TT; omega))).trans a24) ((c4 _ _ (by unfold TU; omega)).trans tp) r4 (Or.inr ⟨fun z => hv2 (l3.symm.trans ((c4 _ _ (by unfold TU; omega)).symm.trans z)), _, _, w3.ch c4 (by intro l h1 h2; unfold TU; omega), w4, rfl⟩) (e2.trans ?_)
            unfold chT
            rw [if_pos hv2]
          rcases ho with ⟨hl, hw⟩ | ⟨hl, w, v, hw, hv, rfl⟩
          · exact thru_i2 X hM2 h27 (by omega) (by omega) a24 (s10 F2 A2 n2) (c_X3_ch1y (v := w0) hM2 m d (by omega) (by omega) h27 hq a25 m12 nm.2.2.2.1 m15 s2 r2 hv2 hw hl) fun F3 A3 M3 hM3 hE3 => fi F3 A3 M3 hM3 hE3
          · exact thru_i2 X hM2 h27 (by omega) (by omega) a24 (s10 F2 A2 n2) (c_X3_ch1hy hM2 m d (by omega) (by omega) h27 hq a25 m12 nm.2.2.2.1 m15 s2 r2 hv2 hw hl hv) fun F3 A3 M3 hM3 hE3 => fi F3 A3 M3 hM3 hE3
      have m12 := hmn.2.2.1.trans za
      have m14 := hmn.2.2.2.2.1.trans zc
      by_cases hv1 : s q &&& itsM (ν.nb m) = 0
      · refine thru_i2 X hM hF (by omega) (by omega) h24 (s10 F A hN) (c_X3_ch0n hM m d (by omega) (by omega) hF hq h25 m12 hmn.2.2.2.1 m14 hs hR hv1) fun F3 A3 M3 hM3 hE3 => ?_
        obtain ⟨f3, p3, l3, w3, r3, c3⟩ := hE3
        refine second F3 A3 M3 w0 _ hM3 (fun k hk => by rw [f3]) (by rw [f3]; exact hF) (TT_TU c3) ((c3 _ _ (by unfold TT; omega)).trans h24) p3 (hs.ch c3 (by intro l h1 h2; unfold TT; omega)) r3 (Or.inl ⟨l3, w3⟩) (e.trans ?_)
        rw [show chT (thru ν f i) q (s q &&& itsM (ν.nb m)) s (w0, ρ.enter m s) = (w0, ρ.enter m s) from if_neg (fun z => z hv1)]
      · refine thru_i2 X hM hF (by omega) (by omega) h24 (s10 F A hN) (c_X3_ch0y hM m d (by omega) (by omega) hF hq h25 m12 hmn.2.2.2.1 m14 hs hR hv1) fun F3 A3 M3 hM3 hE3 => ?_
        obtain ⟨⟨f3, t24, t25, t26, tp, tI⟩, l3, w3, r3, c3⟩ := hE3
        have g3 : ∀ k, k ≠ 27 → F3 k = F k := fun k hk => by rw [f3, pk_un hk]
        refine child i _ _ F3 A3 M3 hi hM3 (hN.ch g3 (TT_TU c3)) r3 (by rw [f3]; exact pk_us) t24 t25 t26 tI fun F4 A4 M4 hM4 g4 k27 w4 r4 c4 => ?_
        refine second F4 A4 M4 _ _ hM4 (fun k hk => (g4 k hk).trans (g3 k hk)) k27 (TU_tr (TT_TU c3) (TU_s c4)) (((c4 _ _ (by unfold TU; omega)).trans (c3 _ _ (by unfold TT; omega))).trans h24) ((c4 _ _ (by unfold TU; omega)).trans tp) ((hs.ch c3 (by intro l h1 h2; unfold TT; omega)).ch c4 (by intro l h1 h2; unfold TU; omega)) r4 (Or.inr ⟨fun z => hv1 (l3.symm.trans ((c4 _ _ (by unfold TU; omega)).symm.trans z)), _, _, w3.ch c4 (by intro l h1 h2; unfold TU; omega), w4, rfl⟩) (e.trans ?_)
        rw [show chT (thru ν f i) q (s q &&& itsM (ν.nb m)) s (w0, ρ.enter m s) = (putW w0 (thru ν f i (upd s q (s q &&& itsM (ν.nb m))) (ρ.enter m s)).1 0 9, (thru ν f i (upd s q (s q &&& itsM (ν.nb m))) (ρ.enter m s)).2) from if_pos hv1]
    · obtain ⟨zs, i, w, hi, za, zb, zc, zd, -⟩ := z
      have s10 : ∀ (F : Nat → Int32) (A : Nat → Nat → Int32), MN ν F A → A 10 m = 3 := fun F A hn => ((hn.2 m hmN).1).trans (by rw [zs]; rfl)
      have e : thru ν (f + 1) m s ρ = endT (fun v => thru ν f (tn v)) ν m (handT (fun v => thru ν f (tn v)) ν m (thru ν f i s (ρ.enter m s))) := by
        rw [thru, if_neg (by rw [zs]; decide), if_neg (by rw [zs]; decide), if_neg (by rw [zs]; decide), za, tn_nI (by omega)]
      -- the last part, from the way g on
      have tl : ¬ ν.nd m < 0 → ∀ (y : Wy) (u g : Nat) (p : Wy × RP) (F2 : Nat → Int32) (A2 : Nat → Nat → Int32) (F3 : Nat → Int32) (A3 : Nat → Nat → Int32) (M3 : Mem), 9 - g ≤ u → g ≤ 9 → (∀ k, k ≠ 27 → F2 k = F k) → F2 27 = nI d → Ch (TU d) A A2 → A2 24 d = nI m → MRep G h ad F3 A3 B M3 → TLp d m F2 p.2 (ν.nd m) p.1 y g F3 A3 → Ch (TT d) A2 A3 → thru ν (f + 1) m s ρ = lvW m (lastF (thru ν f (tn (ν.nd m))) m y (9 - g) g p).1 (lastF (thru ν f (tn (ν.nd m))) m y (9 - g) g p).2 → WM G x 3 Q 0 0 M3 10 [(0, some (.ref h)), (1, some (.int (nI n0)))] [] := by
        intro hnd y u
        induction u with
        | zero =>
          intro g p F2 A2 F3 A3 M3 hu hg g2 h27 c2 a24 hM3 hT c3 e2
          have hg9 : g = 9 := by omega
          subst hg9
          unfold TLp at hT
          rw [if_neg hnd, if_pos (show nextG y (9 - 9) 9 = 9 from rfl)] at hT
          exact fin F2 A2 _ _ F3 A3 M3 g2 h27 c2 hM3 hT c3 e2
        | succ u ihu =>
          intro g p F2 A2 F3 A3 M3 hu hg g2 h27 c2 a24 hM3 hT c3 e2
          unfold TLp at hT
          rw [if_neg hnd] at hT
          have hle := nextG_le (y := y) (9 - g) g
          rw [lastF_skip, show g + (9 - g) = 9 by omega] at e2
          by_cases h9 : nextG y (9 - g) g = 9
          · rw [if_pos h9] at hT
            rw [h9] at e2
            exact fin F2 A2 _ _ F3 A3 M3 g2 h27 c2 hM3 hT c3 e2
          · rw [if_neg h9] at hT
            have hnz := nextG_nz (y := y) (9 - g) g (by omega)
            have hge : g ≤ nextG y (9 - g) g := by
              have : ∀ m g, g ≤ nextG y m g := by
                intro m
                induction m with
                | zero => intro g; exact Nat.le_refl _
                | succ m ih =>
                  intro g
                  unfold nextG
                  split
                  · exact Nat.le_refl _
                  · have := ih (g + 1)
                    omega
              exact this _ _
            generalize nextG y (9 - g) g = g' at hT e2 hnz hle h9 hge
            obtain ⟨⟨f3, t24, t25, t26, tp, tI⟩, l3, w3, y3, r3⟩ := hT
            have g3 : ∀ k, k ≠ 27 → F3 k = F k := fun k hk => by rw [f3, pk_un hk]; exact g2 k hk
            obtain ⟨l, hl, el⟩ : ∃ l : Nat, l < m ∧ ν.nd m = nI l := by
              rcases zd with q | q
              · exact absurd (by rw [q]; decide) hnd
              · exact q
            rw [el, tn_nI (by omega)] at e2
            refine child l _ _ F3 A3 M3 hl hM3 (hN.ch g3 (TU_tr c2 (TT_TU c3))) r3 (by rw [f3]; exact pk_us) (t24.trans el) t25 t26 tI fun F4 A4 M4 hM4 g4 k27 w4 r4 c4 => ?_
            have g34 : ∀ k, k ≠ 27 → F4 k = F k := fun k hk => (g4 k hk).trans (g3 k hk)
            have c14 : Ch (TU d) A A4 := TU_tr (TU_tr c2 (TT_TU c3)) (TU_s c4)
            have n4 := hN.ch g34 c14
            have b24 : A4 24 d = nI m := ((c4 _ _ (by unfold TU; omega)).trans (c3 _ _ (by unfold TT; omega))).trans a24
            refine thru_i3 X hM4 k27 (by omega) (by omega) b24 (s10 F4 A4 n4) (c_X3_g3 hM4 m d (by omega) (by omega) k27 (nd := ν.nd m) g' (by omega) ((c4 _ _ (by unfold TU; omega)).trans tp) (n4.2 m hmN).2.2.2.2.2.1 hnd ((c4 _ _ (by unfold TU; omega)).trans l3) (w3.ch c4 (by intro l h1 h2; unfold TU; omega)) (y3.ch c4 (by intro l h1 h2; unfold TU; omega)) w4 r4) fun F5 A5 M5 hM5 hE5 => ?_
            refine ihu (g' + 1) (lastS (thru ν f l) m y g' p) F4 A4 F5 A5 M5 (by omega) (by omega) g34 k27 c14 b24 hM5 ?_ hE5.2 ?_
            · rw [show lastS (thru ν f l) m y g' p = (lastW p.1 (thru ν f l (y g') p.2).1 g', (thru ν f l (y g') p.2).2.loOr m (loB (thru ν f l (y g') p.2).1 g')) from if_pos hnz]
              exact hE5.1
            · rw [el, tn_nI (by omega), e2, show 9 - g' = (9 - (g' + 1)) + 1 by omega]
              rfl
      have tail : ∀ (p : Wy × RP) (F2 : Nat → Int32) (A2 : Nat → Nat → Int32) (F3 : Nat → Int32) (A3 : Nat → Nat → Int32) (M3 : Mem), p = handT (fun v => thru ν f (tn v)) ν m (thru ν f i s (ρ.enter m s)) → (∀ k, k ≠ 27 → F2 k = F k) → F2 27 = nI d → Ch (TU d) A A2 → A2 24 d = nI m → MRep G h ad F3 A3 B M3 → TLp d m F2 p.2 (ν.nd m) w0 p.1 0 F3 A3 → Ch (TT d) A2 A3 → WM G x 3 Q 0 0 M3 10 [(0, some (.ref h)), (1, some (.int (nI n0)))] [] := by
        intro p F2 A2 F3 A3 M3 hp g2 h27 c2 a24 hM3 hT c3
        rw [← hp] at e
        by_cases hnd : ν.nd m < 0
        · unfold TLp at hT
          rw [if_pos hnd] at hT
          exact fin F2 A2 _ _ F3 A3 M3 g2 h27 c2 hM3 hT c3 (by rw [e, endT, if_pos hnd])
        · exact tl hnd p.1 9 0 (w0, p.2) F2 A2 F3 A3 M3 (by omega) (by omega) g2 h27 c2 a24 hM3 hT c3 (by rw [e, endT, if_neg hnd])
      have hw0 : ν.nd m < 0 → ∀ g s, w0 g s = 0 := fun _ _ _ => rfl
      refine thru_i3 X hM hF (by omega) (by omega) h24 (s10 F A hN) (c_X3_g0 hM m d (by omega) (by omega) hF h25 (hmn.2.2.1.trans za) hs hR) fun F1 A1 M1 hM1 hE1 => ?_
      obtain ⟨⟨f1, s24, s25, s26, sp, sI⟩, w1, y1, l1, r1, c1⟩ := hE1
      have g1 : ∀ k, k ≠ 27 → F1 k = F k := fun k hk => by rw [f1, pk_un hk]
      refine child i s (ρ.enter m s) F1 A1 M1 hi hM1 (hN.ch g1 (TT_TU c1)) r1 (by rw [f1]; exact pk_us) s24 s25 s26 sI fun F2 A2 M2 hM2 g2 h27 w2 r2 c2 => ?_
      have g12 : ∀ k, k ≠ 27 → F2 k = F k := fun k hk => (g2 k hk).trans (g1 k hk)
      have c12 : Ch (TU d) A A2 := TU_tr (TT_TU c1) (TU_s c2)
      have n2 := hN.ch g12 c12
      have nm := n2.2 m hmN
      have a24 : A2 24 d = nI m := ((c2 _ _ (by unfold TU; omega)).trans (c1 _ _ (by unfold TT; omega))).trans h24
      have a25 : A2 25 d = 1 := (c2 _ _ (by unfold TU; omega)).trans sp
      have a26 : A2 26 d = nI 0 := ((c2 _ _ (by unfold TU; omega)).trans l1).trans (h26.trans nI_0.symm)
      have w12 : RW 36 d A2 w0 := w1.ch c2 (by intro l h1 h2; unfold TU; omega)
      have y12 : RW 37 d A2 w0 := y1.ch c2 (by intro l h1 h2; unfold TU; omega)
      by_cases ht : tkW (ν.nb m) (thru ν f i s (ρ.enter m s)).1 9 0 ≠ 0 ∧ ¬ ν.nc m < 0
      · obtain ⟨j, hj, ej⟩ : ∃ j : Nat, j < m ∧ ν.nc m = nI j := by
          rcases zc with q | q
          · exact absurd (by rw [q]; decide) ht.2
          · exact q
        refine thru_i3 X hM2 h27 (by omega) (by omega) a24 (s10 F2 A2 n2) (c_X3_g1a hM2 m d (by omega) (by omega) h27 a25 nm.2.2.2.1 nm.2.2.2.2.1 w12 y12 w2 r2 ht) fun F3 A3 M3 hM3 hE3 => ?_
        obtain ⟨⟨f3, t24, t25, t26, tp, tI⟩, w3, y3, l3, r3, c3⟩ := hE3
        have g3 : ∀ k, k ≠ 27 → F3 k = F k := fun k hk => by rw [f3, pk_un hk]; exact g12 k hk
        refine child j _ _ F3 A3 M3 hj hM3 (hN.ch g3 (TU_tr c12 (TT_TU c3))) r3 (by rw [f3]; exact pk_us) (t24.trans ej) t25 t26 tI fun F4 A4 M4 hM4 g4 k27 w4 r4 c4 => ?_
        have g34 : ∀ k, k ≠ 27 → F4 k = F k := fun k hk => (g4 k hk).trans (g3 k hk)
        have c14 : Ch (TU d) A A4 := TU_tr (TU_tr c12 (TT_TU c3)) (TU_s c4)
        have n4 := hN.ch g34 c14
        have b24 : A4 24 d = nI m := ((c4 _ _ (by unfold TU; omega)).trans (c3 _ _ (by unfold TT; omega))).trans a24
        refine thru_i3 X hM4 k27 (by omega) (by omega) b24 (s10 F4 A4 n4) (c_X3_g2 hM4 m d (by omega) (by omega) k27 ((c4 _ _ (by unfold TU; omega)).trans tp) (w3.ch c4 (by intro l h1 h2; unfold TU; omega)) (y3.ch c4 (by intro l h1 h2; unfold TU; omega)) w4 r4 (n4.2 m hmN).2.2.2.2.2.1 hw0 ((c4 _ _ (by unfold TU; omega)).trans (l3.trans a26))) fun F5 A5 M5 hM5 hE5 => ?_
        exact tail (putW (wyW (ν.nb m) (thru ν f i s (ρ.enter m s)).1 w0 9) (thru ν f j (tkW (ν.nb m) (thru ν f i s (ρ.enter m s)).1 9) ((thru ν f i s (ρ.enter m s)).2.boOr m (bitsN (thru ν f i s (ρ.enter m s)).1 9))).1 0 9, (thru ν f j (tkW (ν.nb m) (thru ν f i s (ρ.enter m s)).1 9) ((thru ν f i s (ρ.enter m s)).2.boOr m (bitsN (thru ν f i s (ρ.enter m s)).1 9))).2) F4 A4 F5 A5 M5 (by unfold handT; rw [if_pos ht, ej]; dsimp only; rw [tn_nI (by omega)]) g34 k27 c14 b24 hM5 hE5.1 hE5.2
      · refine thru_i3 X hM2 h27 (by omega) (by omega) a24 (s10 F2 A2 n2) (c_X3_g1b hM2 m d (by omega) (by omega) h27 a25 nm.2.2.2.1 nm.2.2.2.2.1 w12 y12 w2 r2 nm.2.2.2.2.2.1 hw0 a26 ht) fun F3 A3 M3 hM3 hE3 => ?_
        exact tail (orAt (wyW (ν.nb m) (thru ν f i s (ρ.enter m s)).1 w0 9) 0 (tkW (ν.nb m) (thru ν f i s (ρ.enter m s)).1 9), (thru ν f i s (ρ.enter m s)).2.boOr m (bitsN (thru ν f i s (ρ.enter m s)).1 9)) F2 A2 F3 A3 M3 (by unfold handT; rw [if_neg ht]) g12 h27 c12 a24 hM3 hE3.1 hE3.2
