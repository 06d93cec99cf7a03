/-! REPORTS: the model goes through guards, by phases (printed by wip/D-80403w/tools/m54.py) -/
set_option maxRecDepth 100000
set_option maxHeartbeats 4000000 in
theorem c_X3_g0 {G : GX} {h : Nat} {ad : Nat → Nat} {F : Nat → Int32} {A0 : Nat → Nat → Int32} {B : Nat → Nat → Int64} {M : Mem} (hM : MRep G h ad F A0 B M) {ρ : RP} (n d : Nat) (hn : n < 80) (hd : d < 81) (hF : F 27 = nI d) {a : Int32} {s : Nat → Int32} (h25 : A0 25 d = 0) (h12 : A0 12 n = a) (hs : IR d A0 s) (hR : RR ρ A0) : Con G yX3_throughGuard wX3_throughGuard (rmm 3 73) [.ref h, .int (nI n), .int (nI d)] M (pV G h ad B fun F' A => STp d F a s 1 F' A ∧ RW 36 d A w0 ∧ RW 37 d A w0 ∧ A 26 d = A0 26 d ∧ RR (ρ.enter n s) A ∧ Ch (TT d) A0 A) nX := by
  refine Con.mk (by decide) rfl [(0, some (.ref h)), (1, some (.int (nI n))), (2, some (.int (nI d)))] rfl fun x X hno => ?_
  refine m_bipush X dX3_throughGuard_0 (v := 108) (by decide) ?_
  refine m_iload_n X dX3_throughGuard_2 rfl rfl ?_
  refine m_imul X dX3_throughGuard_3 ?_
  refine m_topi X (pk_mul 108 d) ?_
  refine m_istore_n X dX3_throughGuard_4 rfl rfl rfl ?_
  refine m_bipush X dX3_throughGuard_5 (v := 12) (by decide) ?_
  refine m_iload_n X dX3_throughGuard_7 rfl rfl ?_
  refine m_imul X dX3_throughGuard_8 ?_
  refine m_topi X (pk_mul 12 d) ?_
  refine m_bipush X dX3_throughGuard_9 (v := 12) (by decide) ?_
  refine m_iadd X dX3_throughGuard_11 ?_
  refine m_topi X (nI_add _ 12) ?_
  refine m_istore X dX3_throughGuard_12 rfl rfl ?_
  refine m_aload_n X dX3_throughGuard_14 rfl rfl (by first | rfl | exact isR_rf) ?_
  refine m_getf X fg_X3_63_X3 hM.1 rfl dX3_throughGuard_15 ?_
  refine m_aload_n X dX3_throughGuard_18 rfl rfl (by first | rfl | exact isR_rf) ?_
  refine m_getf X fg_X3_228_X3 hM.1 rfl dX3_throughGuard_19 ?_
  refine m_topi X (hF) ?_
  refine s_iald X hM rfl rfl (by exact tin (by simp only [alen]; omega) rfl) dX3_throughGuard_22 ?_
  refine m_topi X ((congrArg (A0 25) (nI_clamp (by omega))).trans h25) ?_
  refine m_istore X dX3_throughGuard_23 rfl rfl ?_
  refine m_iload X dX3_throughGuard_25 rfl ?_
  refine m_ifne X dX3_throughGuard_27 (t := 75) (by decide) (fun c_27 => absurd rfl c_27) (fun c_27 => ?_)
  refine m_aload_n X dX3_throughGuard_30 rfl rfl (by first | rfl | exact isR_rf) ?_
  refine m_iload_n X dX3_throughGuard_31 rfl rfl ?_
  refine m_iload_n X dX3_throughGuard_32 rfl rfl ?_
  refine m_callV X cs_X3_313  (c_X3_enter hM n d hn hd hs hR) hM.1 rfl rfl rfl (Nat.le_of_ble_eq_true rfl) dX3_throughGuard_33 ⟨by decide, by decide, by decide, by decide⟩ (fun v M hp => ?_) (fun _ _ _ _ h => h.elim)
  obtain ⟨rfl, A, hM, hE⟩ := hp
  have hC := hE.2.2
  have hR1 := hE.2.1
  refine m_stn ?_
  refine m_aload_n X dX3_throughGuard_36 rfl rfl (by first | rfl | exact isR_rf) ?_
  refine m_getf X fg_X3_94_X3 hM.1 rfl dX3_throughGuard_37 ?_
  refine m_iload_n X dX3_throughGuard_40 rfl rfl ?_
  refine m_bipush X dX3_throughGuard_41 (v := 108) (by decide) ?_
  refine m_callS X cs_X3_309  (c_X3_wipe hM 37 (108 * d) 108 rfl (by simp only [alen]; omega)) rfl rfl (Nat.le_of_ble_eq_true rfl) dX3_throughGuard_43 ⟨by decide, by decide, by decide, by decide⟩ (fun v M hp => ?_) (fun _ _ _ _ h => h.elim)
  obtain ⟨rfl, hM⟩ := hp
  refine m_stn ?_
  refine m_aload_n X dX3_throughGuard_46 rfl rfl (by first | rfl | exact isR_rf) ?_
  refine m_getf X fg_X3_97_X3 hM.1 rfl dX3_throughGuard_47 ?_
  refine m_bipush X dX3_throughGuard_50 (v := 12) (by decide) ?_
  refine m_iload_n X dX3_throughGuard_52 rfl rfl ?_
  refine m_imul X dX3_throughGuard_53 ?_
  refine m_topi X (pk_mul 12 d) ?_
  refine m_aload_n X dX3_throughGuard_54 rfl rfl (by first | rfl | exact isR_rf) ?_
  refine m_getf X fg_X3_97_X3 hM.1 rfl dX3_throughGuard_55 ?_
  refine m_iload X dX3_throughGuard_58 rfl ?_
  refine m_callS X cs_X3_316  (c_X3_lay_2 hM 38 (12 * d) 38 (12 * d + 12) rfl rfl (by simp only [alen]; omega) (by simp only [alen]; omega) (Or.inr (Or.inl (by omega)))) rfl rfl (Nat.le_of_ble_eq_true rfl) dX3_throughGuard_60 ⟨by decide, by decide, by decide, by decide⟩ (fun v M hp => ?_) (fun _ _ _ _ h => h.elim)
  obtain ⟨rfl, hM⟩ := hp
  refine m_stn ?_
  refine m_aload_n X dX3_throughGuard_63 rfl rfl (by first | rfl | exact isR_rf) ?_
  refine m_iconst X dX3_throughGuard_64 (v := 1) (by decide) ?_
  refine m_aload_n X dX3_throughGuard_65 rfl rfl (by first | rfl | exact isR_rf) ?_
  refine m_getf X fg_X3_38_X3 hM.1 rfl dX3_throughGuard_66 ?_
  refine m_iload_n X dX3_throughGuard_69 rfl rfl ?_
  refine s_iald X hM rfl rfl (by exact tin (by simp only [alen]; omega) rfl) dX3_throughGuard_70 ?_
  refine m_topi X ((congrArg _ (nI_clamp (by omega))).trans ((layA2_off (by omega)).trans ((wipeA_off (by omega)).trans ((hC 12 n (by omega)).trans h12)))) ?_
  refine m_callV X cs_X3_244  (c_X3_step hM d 1 a hF (by omega)) hM.1 rfl rfl rfl (Nat.le_of_ble_eq_true rfl) dX3_throughGuard_71 ⟨by decide, by decide, by decide, by decide⟩ (fun v M hp => ?_) (fun _ _ _ _ h => h.elim)
  obtain ⟨rfl, hM⟩ := hp
  refine m_stn ?_
  exact m_vret X dX3_throughGuard_74 (by decide) (by decide) (by exact ⟨rfl, _, _, hM, stp_mk (lay_ins ((hs.ch hC (by intro l h1 h2; omega)).ch wipeA_ch (by intro l h1 h2; omega))), (((hE.1).ch wipeA_ch (by intro l h1 h2; omega)).ch layA2_ch (by intro l h1 h2; omega)).ch stp_ch (by intro l h1 h2; omega), (RW.ch (fun g u hg hu => (layA2_off (by omega)).trans ((wipeA_on (by omega)).trans rfl)) stp_ch (by intro l h1 h2; omega)), (stp_ch _ _ (by omega)).trans ((layA2_off (by omega)).trans ((wipeA_off (by omega)).trans (hC _ _ (by omega)))), (((hR1).ch wipeA_ch (by intro k l h1 h2; omega)).ch layA2_ch (by intro k l h1 h2; omega)).ch stp_ch (by intro k l h1 h2; omega), (Ch.tr (U := TT d) (Ch.tr (U := TT d) (Ch.tr (U := TT d) (Ch.le hC (by intro k l hu; first | (unfold TT at hu ⊢; omega) | (unfold TT at hu; omega)) : Ch (TT d) A0 _) wipeA_ch (by intro k l hu; first | (unfold TT at hu ⊢; omega) | (unfold TT at hu; omega))) layA2_ch (by intro k l hu; first | (unfold TT at hu ⊢; omega) | (unfold TT at hu; omega))) stp_ch (by intro k l hu; first | (unfold TT at hu ⊢; omega) | (unfold TT at hu; omega)))⟩)
set_option maxHeartbeats 4000000 in
theorem c_X3_g1a {G : GX} {h : Nat} {ad : Nat → Nat} {F : Nat → Int32} {A0 : Nat → Nat → Int32} {B : Nat → Nat → Int64} {M : Mem} (hM : MRep G h ad F A0 B M) {ρ : RP} (n d : Nat) (hn : n < 80) (hd : d < 81) (hF : F 27 = nI d) {b c : Int32} {w y v : Wy} (h25 : A0 25 d = 1) (h13 : A0 13 n = b) (h14 : A0 14 n = c) (hW : RW 36 d A0 w) (hY : RW 37 d A0 y) (hv : RW 36 (d + 1) A0 v) (hR : RR ρ A0) (ht : tkW b v 9 0 ≠ 0 ∧ ¬ c < 0) : Con G yX3_throughGuard wX3_throughGuard (rmm 3 73) [.ref h, .int (nI n), .int (nI d)] M (pV G h ad B fun F' A => STp d F c (tkW b v 9) 2 F' A ∧ RW 36 d A w ∧ RW 37 d A (wyW b v y 9) ∧ A 26 d = A0 26 d ∧ RR (ρ.boOr n (bitsN v 9)) A ∧ Ch (TT d) A0 A) nX := by
  refine Con.mk (by decide) rfl [(0, some (.ref h)), (1, some (.int (nI n))), (2, some (.int (nI d)))] rfl fun x X hno => ?_
  refine m_bipush X dX3_throughGuard_0 (v := 108) (by decide) ?_
  refine m_iload_n X dX3_throughGuard_2 rfl rfl ?_
  refine m_imul X dX3_throughGuard_3 ?_
  refine m_topi X (pk_mul 108 d) ?_
  refine m_istore_n X dX3_throughGuard_4 rfl rfl rfl ?_
  refine m_bipush X dX3_throughGuard_5 (v := 12) (by decide) ?_
  refine m_iload_n X dX3_throughGuard_7 rfl rfl ?_
  refine m_imul X dX3_throughGuard_8 ?_
  refine m_topi X (pk_mul 12 d) ?_
  refine m_bipush X dX3_throughGuard_9 (v := 12) (by decide) ?_
  refine m_iadd X dX3_throughGuard_11 ?_
  refine m_topi X (nI_add _ 12) ?_
  refine m_istore X dX3_throughGuard_12 rfl rfl ?_
  refine m_aload_n X dX3_throughGuard_14 rfl rfl (by first | rfl | exact isR_rf) ?_
  refine m_getf X fg_X3_63_X3 hM.1 rfl dX3_throughGuard_15 ?_
  refine m_aload_n X dX3_throughGuard_18 rfl rfl (by first | rfl | exact isR_rf) ?_
  refine m_getf X fg_X3_228_X3 hM.1 rfl dX3_throughGuard_19 ?_
  refine m_topi X (hF) ?_
  refine s_iald X hM rfl rfl (by exact tin (by simp only [alen]; omega) rfl) dX3_throughGuard_22 ?_
  refine m_topi X ((congrArg (A0 25) (nI_clamp (by omega))).trans h25) ?_
  refine m_istore X dX3_throughGuard_23 rfl rfl ?_
  refine m_iload X dX3_throughGuard_25 rfl ?_
  refine m_ifne X dX3_throughGuard_27 (t := 75) (by decide) (fun c_27 => ?_) (fun c_27 => absurd c_27 (by decide))
  refine m_iload X dX3_throughGuard_75 rfl ?_
  refine m_iconst X dX3_throughGuard_77 (v := 1) (by decide) ?_
  refine m_icmpne X dX3_throughGuard_78 (t := 132) (by decide) (fun c_78 => absurd rfl c_78) (fun c_78 => ?_)
  refine m_aload_n X dX3_throughGuard_81 rfl rfl (by first | rfl | exact isR_rf) ?_
  refine m_iload_n X dX3_throughGuard_82 rfl rfl ?_
  refine m_iload_n X dX3_throughGuard_83 rfl rfl ?_
  refine m_callV X cs_X3_327  (c_X3_part hM n d hn hd h13 hv hY hR) hM.1 rfl rfl rfl (Nat.le_of_ble_eq_true rfl) dX3_throughGuard_84 ⟨by decide, by decide, by decide, by decide⟩ (fun v M hp => ?_) (fun _ _ _ _ h => h.elim)
  obtain ⟨rfl, A, hM, hE⟩ := hp
  have hC := hE.2.2.2
  have hR1 := hE.1
  have hT0 : A 38 (12 * d + 12) = tkW b v 9 0 := by have := hE.2.1 0 (by decide); rw [show 12 * (d + 1) + 0 = 12 * d + 12 by omega] at this; exact this
  refine m_stn ?_
  refine m_aload_n X dX3_throughGuard_87 rfl rfl (by first | rfl | exact isR_rf) ?_
  refine m_getf X fg_X3_97_X3 hM.1 rfl dX3_throughGuard_88 ?_
  refine m_iload X dX3_throughGuard_91 rfl ?_
  refine s_iald X hM rfl rfl (by exact tin (by simp only [alen]; omega) rfl) dX3_throughGuard_93 ?_
  refine m_topi X ((congrArg _ (nI_clamp (by omega))).trans (hT0)) ?_
  refine m_ifeq X dX3_throughGuard_94 (t := 118) (by decide) (fun c_94 => absurd c_94 ht.1) (fun c_94 => ?_)
  refine m_aload_n X dX3_throughGuard_97 rfl rfl (by first | rfl | exact isR_rf) ?_
  refine m_getf X fg_X3_44_X3 hM.1 rfl dX3_throughGuard_98 ?_
  refine m_iload_n X dX3_throughGuard_101 rfl rfl ?_
  refine s_iald X hM rfl rfl (by exact tin (by simp only [alen]; omega) rfl) dX3_throughGuard_102 ?_
  refine m_topi X ((congrArg _ (nI_clamp (by omega))).trans ((hC 14 n (by omega)).trans h14)) ?_
  refine m_iflt X dX3_throughGuard_103 (t := 118) (by decide) (fun c_103 => absurd c_103 ht.2) (fun c_103 => ?_)
  refine m_aload_n X dX3_throughGuard_106 rfl rfl (by first | rfl | exact isR_rf) ?_
  refine m_iconst X dX3_throughGuard_107 (v := 2) (by decide) ?_
  refine m_aload_n X dX3_throughGuard_108 rfl rfl (by first | rfl | exact isR_rf) ?_
  refine m_getf X fg_X3_44_X3 hM.1 rfl dX3_throughGuard_109 ?_
  refine m_iload_n X dX3_throughGuard_112 rfl rfl ?_
  refine s_iald X hM rfl rfl (by exact tin (by simp only [alen]; omega) rfl) dX3_throughGuard_113 ?_
  refine m_topi X ((congrArg _ (nI_clamp (by omega))).trans ((hC 14 n (by omega)).trans h14)) ?_
  refine m_callV X cs_X3_244  (c_X3_step hM d 2 c hF (by omega)) hM.1 rfl rfl rfl (Nat.le_of_ble_eq_true rfl) dX3_throughGuard_114 ⟨by decide, by decide, by decide, by decide⟩ (fun v M hp => ?_) (fun _ _ _ _ h => h.elim)
  obtain ⟨rfl, hM⟩ := hp
  refine m_stn ?_
  exact m_vret X dX3_throughGuard_117 (by decide) (by decide) (by exact ⟨rfl, _, _, hM, stp_mk hE.2.1, (hW.ch hC (by intro l h1 h2; omega)).ch stp_ch (by intro l h1 h2; omega), (hE.2.2.1).ch stp_ch (by intro l h1 h2; omega), (stp_ch _ _ (by omega)).trans (hC _ _ (by omega)), (hR1).ch stp_ch (by intro k l h1 h2; omega), (Ch.tr (U := TT d) (Ch.le hC (by intro k l hu; first | (unfold TT at hu ⊢; omega) | (unfold TT at hu; omega)) : Ch (TT d) A0 _) stp_ch (by intro k l hu; first | (unfold TT at hu ⊢; omega) | (unfold TT at hu; omega)))⟩)
set_option maxHeartbeats 4000000 in
theorem c_X3_g1b {G : GX} {h : Nat} {ad : Nat → Nat} {F : Nat → Int32} {A0 : Nat → Nat → Int32} {B : Nat → Nat → Int64} {M : Mem} (hM : MRep G h ad F A0 B M) {ρ : RP} (n d : Nat) (hn : n < 80) (hd : d < 81) (hF : F 27 = nI d) {b c : Int32} {w y v : Wy} (h25 : A0 25 d = 1) (h13 : A0 13 n = b) (h14 : A0 14 n = c) (hW : RW 36 d A0 w) (hY : RW 37 d A0 y) (hv : RW 36 (d + 1) A0 v) (hR : RR ρ A0) {nd : Int32} (h15 : A0 15 n = nd) (hw0 : nd < 0 → ∀ g s, w g s = 0) (h26 : A0 26 d = nI 0) (ht : ¬ (tkW b v 9 0 ≠ 0 ∧ ¬ c < 0)) : Con G yX3_throughGuard wX3_throughGuard (rmm 3 73) [.ref h, .int (nI n), .int (nI d)] M (pV G h ad B fun F' A => TLp d n F (ρ.boOr n (bitsN v 9)) nd w (orAt (wyW b v y 9) 0 (tkW b v 9)) 0 F' A ∧ Ch (TT d) A0 A) nX := by
  refine Con.mk (by decide) rfl [(0, some (.ref h)), (1, some (.int (nI n))), (2, some (.int (nI d)))] rfl fun x X hno => ?_
  refine m_bipush X dX3_throughGuard_0 (v := 108) (by decide) ?_
  refine m_iload_n X dX3_throughGuard_2 rfl rfl ?_
  refine m_imul X dX3_throughGuard_3 ?_
  refine m_topi X (pk_mul 108 d) ?_
  refine m_istore_n X dX3_throughGuard_4 rfl rfl rfl ?_
  refine m_bipush X dX3_throughGuard_5 (v := 12) (by decide) ?_
  refine m_iload_n X dX3_throughGuard_7 rfl rfl ?_
  refine m_imul X dX3_throughGuard_8 ?_
  refine m_topi X (pk_mul 12 d) ?_
  refine m_bipush X dX3_throughGuard_9 (v := 12) (by decide) ?_
  refine m_iadd X dX3_throughGuard_11 ?_
  refine m_topi X (nI_add _ 12) ?_
  refine m_istore X dX3_throughGuard_12 rfl rfl ?_
  refine m_aload_n X dX3_throughGuard_14 rfl rfl (by first | rfl | exact isR_rf) ?_
  refine m_getf X fg_X3_63_X3 hM.1 rfl dX3_throughGuard_15 ?_
  refine m_aload_n X dX3_throughGuard_18 rfl rfl (by first | rfl | exact isR_rf) ?_
  refine m_getf X fg_X3_228_X3 hM.1 rfl dX3_throughGuard_19 ?_
  refine m_topi X (hF) ?_
  refine s_iald X hM rfl rfl (by exact tin (by simp only [alen]; omega) rfl) dX3_throughGuard_22 ?_
  refine m_topi X ((congrArg (A0 25) (nI_clamp (by omega))).trans h25) ?_
  refine m_istore X dX3_throughGuard_23 rfl rfl ?_
  refine m_iload X dX3_throughGuard_25 rfl ?_
  refine m_ifne X dX3_throughGuard_27 (t := 75) (by decide) (fun c_27 => ?_) (fun c_27 => absurd c_27 (by decide))
  refine m_iload X dX3_throughGuard_75 rfl ?_
  refine m_iconst X dX3_throughGuard_77 (v := 1) (by decide) ?_
  refine m_icmpne X dX3_throughGuard_78 (t := 132) (by decide) (fun c_78 => absurd rfl c_78) (fun c_78 => ?_)
  refine m_aload_n X dX3_throughGuard_81 rfl rfl (by first | rfl | exact isR_rf) ?_
  refine m_iload_n X dX3_throughGuard_82 rfl rfl ?_
  refine m_iload_n X dX3_throughGuard_83 rfl rfl ?_
  refine m_callV X cs_X3_327  (c_X3_part hM n d hn hd h13 hv hY hR) hM.1 rfl rfl rfl (Nat.le_of_ble_eq_true rfl) dX3_throughGuard_84 ⟨by decide, by decide, by decide, by decide⟩ (fun v M hp => ?_) (fun _ _ _ _ h => h.elim)
  obtain ⟨rfl, A, hM, hE⟩ := hp
  have hC := hE.2.2.2
  have hR1 := hE.1
  have hT0 : A 38 (12 * d + 12) = tkW b v 9 0 := by have := hE.2.1 0 (by decide); rw [show 12 * (d + 1) + 0 = 12 * d + 12 by omega] at this; exact this
  refine m_stn ?_
  refine m_aload_n X dX3_throughGuard_87 rfl rfl (by first | rfl | exact isR_rf) ?_
  refine m_getf X fg_X3_97_X3 hM.1 rfl dX3_throughGuard_88 ?_
  refine m_iload X dX3_throughGuard_91 rfl ?_
  refine s_iald X hM rfl rfl (by exact tin (by simp only [alen]; omega) rfl) dX3_throughGuard_93 ?_
  refine m_topi X ((congrArg _ (nI_clamp (by omega))).trans (hT0)) ?_
  refine m_ifeq X dX3_throughGuard_94 (t := 118) (by decide) (fun c_94 => ?_) (fun c_94 => ?_)
  · skip
    try simp only [bI_0, Bool.not_eq_false] at c_94
    refine m_aload_n X dX3_throughGuard_118 rfl rfl (by first | rfl | exact isR_rf) ?_
    refine m_getf X fg_X3_97_X3 hM.1 rfl dX3_throughGuard_119 ?_
    refine m_iload X dX3_throughGuard_122 rfl ?_
    refine m_aload_n X dX3_throughGuard_124 rfl rfl (by first | rfl | exact isR_rf) ?_
    refine m_getf X fg_X3_94_X3 hM.1 rfl dX3_throughGuard_125 ?_
    refine m_iload_n X dX3_throughGuard_128 rfl rfl ?_
    refine m_callS X cs_X3_275  (c_X3_join hM 38 (12 * d + 12) 37 (108 * d) rfl rfl (by simp only [alen]; omega) (by simp only [alen]; omega) (Or.inl (by decide))) rfl rfl (Nat.le_of_ble_eq_true rfl) dX3_throughGuard_129 ⟨by decide, by decide, by decide, by decide⟩ (fun v M hp => ?_) (fun _ _ _ _ h => h.elim)
    obtain ⟨rfl, hM⟩ := hp
    refine m_stn ?_
    refine m_iload X dX3_throughGuard_132 rfl ?_
    refine m_iconst X dX3_throughGuard_134 (v := 2) (by decide) ?_
    refine m_icmpne X dX3_throughGuard_135 (t := 182) (by decide) (fun c_135 => ?_) (fun c_135 => absurd c_135 (by decide))
    refine m_iload X dX3_throughGuard_182 rfl ?_
    refine m_iconst X dX3_throughGuard_184 (v := 3) (by decide) ?_
    refine m_icmpne X dX3_throughGuard_185 (t := 216) (by decide) (fun c_185 => ?_) (fun c_185 => absurd c_185 (by decide))
    exact m_loc [(3, some (.int (nI (108 * d)))), (4, some (.int (nI (12 * d + 12)))), (0, some (.ref h)), (1, some (.int (nI n))), (2, some (.int (nI d)))] ⟨rfl, rfl, rfl, rfl, rfl, trivial⟩ (guard_tl X n d hn hd hF 0 (by omega) hw0 hM ((joinA_off (by omega)).trans ((hC 15 n (by omega)).trans h15)) ((joinA_off (by omega)).trans ((hC 26 d (by omega)).trans h26)) ((hW.ch hC (by intro l h1 h2; omega)).ch joinA_ch (by intro l h1 h2; omega)) (orAt_0 hE.2.2.1 hE.2.1) ((hR1).ch joinA_ch (by intro k l h1 h2; omega)) (Ch.tr (U := TT d) (Ch.le hC (by intro k l hu; first | (unfold TT at hu ⊢; omega) | (unfold TT at hu; omega)) : Ch (TT d) A0 _) joinA_ch (by intro k l hu; first | (unfold TT at hu ⊢; omega) | (unfold TT at hu; omega))) fun F' A' ht hc => ⟨ht, hc⟩)
  · skip
    try simp only [bI_0, Bool.not_eq_false] at c_94
    refine m_aload_n X dX3_throughGuard_97 rfl rfl (by first | rfl | exact isR_rf) ?_
    refine m_getf X fg_X3_44_X3 hM.1 rfl dX3_throughGuard_98 ?_
    refine m_iload_n X dX3_throughGuard_101 rfl rfl ?_
    refine s_iald X hM rfl rfl (by exact tin (by simp only [alen]; omega) rfl) dX3_throughGuard_102 ?_
    refine m_topi X ((congrArg _ (nI_clamp (by omega))).trans ((hC 14 n (by omega)).trans h14)) ?_
    refine m_iflt X dX3_throughGuard_103 (t := 118) (by decide) (fun c_103 => ?_) (fun c_103 => ?_)
    · skip
      try simp only [bI_0, Bool.not_eq_false] at c_103
      have c_103 := c_103
      refine m_aload_n X dX3_throughGuard_118 rfl rfl (by first | rfl | exact isR_rf) ?_
      refine m_getf X fg_X3_97_X3 hM.1 rfl dX3_throughGuard_119 ?_
      refine m_iload X dX3_throughGuard_122 rfl ?_
      refine m_aload_n X dX3_throughGuard_124 rfl rfl (by first | rfl | exact isR_rf) ?_
      refine m_getf X fg_X3_94_X3 hM.1 rfl dX3_throughGuard_125 ?_
      refine m_iload_n X dX3_throughGuard_128 rfl rfl ?_
      refine m_callS X cs_X3_275  (c_X3_join hM 38 (12 * d + 12) 37 (108 * d) rfl rfl (by simp only [alen]; omega) (by simp only [alen]; omega) (Or.inl (by decide))) rfl rfl (Nat.le_of_ble_eq_true rfl) dX3_throughGuard_129 ⟨by decide, by decide, by decide, by decide⟩ (fun v M hp => ?_) (fun _ _ _ _ h => h.elim)
      obtain ⟨rfl, hM⟩ := hp
      refine m_stn ?_
      refine m_iload X dX3_throughGuard_132 rfl ?_
      refine m_iconst X dX3_throughGuard_134 (v := 2) (by decide) ?_
      refine m_icmpne X dX3_throughGuard_135 (t := 182) (by decide) (fun c_135 => ?_) (fun c_135 => absurd c_135 (by decide))
      refine m_iload X dX3_throughGuard_182 rfl ?_
      refine m_iconst X dX3_throughGuard_184 (v := 3) (by decide) ?_
      refine m_icmpne X dX3_throughGuard_185 (t := 216) (by decide) (fun c_185 => ?_) (fun c_185 => absurd c_185 (by decide))
      exact m_loc [(3, some (.int (nI (108 * d)))), (4, some (.int (nI (12 * d + 12)))), (0, some (.ref h)), (1, some (.int (nI n))), (2, some (.int (nI d)))] ⟨rfl, rfl, rfl, rfl, rfl, trivial⟩ (guard_tl X n d hn hd hF 0 (by omega) hw0 hM ((joinA_off (by omega)).trans ((hC 15 n (by omega)).trans h15)) ((joinA_off (by omega)).trans ((hC 26 d (by omega)).trans h26)) ((hW.ch hC (by intro l h1 h2; omega)).ch joinA_ch (by intro l h1 h2; omega)) (orAt_0 hE.2.2.1 hE.2.1) ((hR1).ch joinA_ch (by intro k l h1 h2; omega)) (Ch.tr (U := TT d) (Ch.le hC (by intro k l hu; first | (unfold TT at hu ⊢; omega) | (unfold TT at hu; omega)) : Ch (TT d) A0 _) joinA_ch (by intro k l hu; first | (unfold TT at hu ⊢; omega) | (unfold TT at hu; omega))) fun F' A' ht hc => ⟨ht, hc⟩)
    · skip
      try simp only [bI_0, Bool.not_eq_false] at c_103
      exact absurd ⟨c_94, c_103⟩ ht
set_option maxHeartbeats 4000000 in
theorem c_X3_g2 {G : GX} {h : Nat} {ad : Nat → Nat} {F : Nat → Int32} {A0 : Nat → Nat → Int32} {B : Nat → Nat → Int64} {M : Mem} (hM : MRep G h ad F A0 B M) {ρ : RP} (n d : Nat) (hn : n < 80) (hd : d < 81) (hF : F 27 = nI d) {w y v : Wy} (h25 : A0 25 d = 2) (hW : RW 36 d A0 w) (hY : RW 37 d A0 y) (hv : RW 36 (d + 1) A0 v) (hR : RR ρ A0) {nd : Int32} (h15 : A0 15 n = nd) (hw0 : nd < 0 → ∀ g s, w g s = 0) (h26 : A0 26 d = nI 0) : Con G yX3_throughGuard wX3_throughGuard (rmm 3 73) [.ref h, .int (nI n), .int (nI d)] M (pV G h ad B fun F' A => TLp d n F ρ nd w (putW y v 0 9) 0 F' A ∧ Ch (TT d) A0 A) nX := by
  refine Con.mk (by decide) rfl [(0, some (.ref h)), (1, some (.int (nI n))), (2, some (.int (nI d)))] rfl fun x X hno => ?_
  have loop : ∀ (m k : Nat) (A : Nat → Nat → Int32) (M : Mem), k + m = 9 → MRep G h ad F A B M → RW 37 d A (putW y v 0 k) → Ch (fun k l => k = 37 ∧ 108 * d ≤ l ∧ l < 108 * d + 108) A0 A → WM G x 7 (QM G x (pV G h ad B fun F' A => TLp d n F ρ nd w (putW y v 0 9) 0 F' A ∧ Ch (TT d) A0 A) nX (rmm 3 73)) 0 0 M 141 [(6, some (.int (nI k))), (5, some (.int 2)), (3, some (.int (nI (108 * d)))), (4, some (.int (nI (12 * d + 12)))), (0, some (.ref h)), (1, some (.int (nI n))), (2, some (.int (nI d)))] [] := by
    clear hM
    intro m
    induction m with
    | zero =>
      intro k A M hk hM hA hC
      have hk8 : k = 9 := by omega
      subst hk8
      refine m_iload X dX3_throughGuard_141 rfl ?_
      refine m_bipush X dX3_throughGuard_143 (v := 9) (by decide) ?_
      refine m_icmpge X dX3_throughGuard_145 (t := 182) (by decide) (fun c_145 => ?_) (fun c_145 => absurd (by decide) c_145)
      refine m_iload X dX3_throughGuard_182 rfl ?_
      refine m_iconst X dX3_throughGuard_184 (v := 3) (by decide) ?_
      refine m_icmpne X dX3_throughGuard_185 (t := 216) (by decide) (fun c_185 => ?_) (fun c_185 => absurd c_185 (by decide))
      exact m_loc [(3, some (.int (nI (108 * d)))), (4, some (.int (nI (12 * d + 12)))), (0, some (.ref h)), (1, some (.int (nI n))), (2, some (.int (nI d)))] ⟨rfl, rfl, rfl, rfl, rfl, trivial⟩ (guard_tl X n d hn hd hF 0 (by omega) hw0 hM ((hC 15 n (by omega)).trans h15) ((hC 26 d (by omega)).trans h26) (hW.ch hC (by intro l h1 h2; omega)) hA (hR.ch hC (by intro k l h1 h2; omega)) (Ch.le hC (by intro k l hu; first | (unfold TT at hu ⊢; omega) | (unfold TT at hu; omega)) : Ch (TT d) A0 _) fun F' A' ht hc => ⟨ht, hc⟩)
    | succ m ih =>
      intro k A M hk hM hA hC
      refine m_iload X dX3_throughGuard_141 rfl ?_
      refine m_bipush X dX3_throughGuard_143 (v := 9) (by decide) ?_
      refine m_icmpge X dX3_throughGuard_145 (t := 182) (by decide) (fun c_145 => absurd ((nI_leI (a := 9) (by decide) (by omega)).mp c_145) (by omega)) (fun c_145 => ?_)
      refine m_aload_n X dX3_throughGuard_148 rfl rfl (by first | rfl | exact isR_rf) ?_
      refine m_getf X fg_X3_91_X3 hM.1 rfl dX3_throughGuard_149 ?_
      refine m_iload_n X dX3_throughGuard_152 rfl rfl ?_
      refine m_bipush X dX3_throughGuard_153 (v := 108) (by decide) ?_
      refine m_iadd X dX3_throughGuard_155 ?_
      refine m_topi X (nI_add _ 108) ?_
      refine m_bipush X dX3_throughGuard_156 (v := 12) (by decide) ?_
      refine m_iload X dX3_throughGuard_158 rfl ?_
      refine m_imul X dX3_throughGuard_160 ?_
      refine m_topi X (pk_mul 12 k) ?_
      refine m_iadd X dX3_throughGuard_161 ?_
      refine m_topi X (nI_add _ _) ?_
      refine m_aload_n X dX3_throughGuard_162 rfl rfl (by first | rfl | exact isR_rf) ?_
      refine m_getf X fg_X3_94_X3 hM.1 rfl dX3_throughGuard_163 ?_
      refine m_iload_n X dX3_throughGuard_166 rfl rfl ?_
      refine m_bipush X dX3_throughGuard_167 (v := 12) (by decide) ?_
      refine m_iload X dX3_throughGuard_169 rfl ?_
      refine m_imul X dX3_throughGuard_171 ?_
      refine m_topi X (pk_mul 12 k) ?_
      refine m_iadd X dX3_throughGuard_172 ?_
      refine m_topi X (nI_add _ _) ?_
      refine m_callS X cs_X3_275  (c_X3_join hM 36 (108 * d + 108 + 12 * k) 37 (108 * d + 12 * k) rfl rfl (by simp only [alen]; omega) (by simp only [alen]; omega) (Or.inl (by decide))) rfl rfl (Nat.le_of_ble_eq_true rfl) dX3_throughGuard_173 ⟨by decide, by decide, by decide, by decide⟩ (fun v M hp => ?_) (fun _ _ _ _ h => h.elim)
      obtain ⟨rfl, hM⟩ := hp
      refine m_stn ?_
      refine m_iinc X dX3_throughGuard_176 rfl (w := 1) (by decide) rfl ?_
      refine m_goto X dX3_throughGuard_179 (t := 141) (by decide) ?_
      exact m_loc [(6, some (.int (nI (k + 1)))), (5, some (.int 2)), (3, some (.int (nI (108 * d)))), (4, some (.int (nI (12 * d + 12)))), (0, some (.ref h)), (1, some (.int (nI n))), (2, some (.int (nI d)))] ⟨by rw [nI_succ k]; rfl, rfl, rfl, rfl, rfl, rfl, rfl, trivial⟩ (ih (k + 1) _ _ (by omega) hM (putY_s hA (hv.ch hC (by intro l h1 h2; omega)) (Nat.zero_le _) (by omega)) (Ch.tr (U := (fun k l => k = 37 ∧ 108 * d ≤ l ∧ l < 108 * d + 108)) hC joinA_ch (by intro k l hu; omega)))
  refine m_bipush X dX3_throughGuard_0 (v := 108) (by decide) ?_
  refine m_iload_n X dX3_throughGuard_2 rfl rfl ?_
  refine m_imul X dX3_throughGuard_3 ?_
  refine m_topi X (pk_mul 108 d) ?_
  refine m_istore_n X dX3_throughGuard_4 rfl rfl rfl ?_
  refine m_bipush X dX3_throughGuard_5 (v := 12) (by decide) ?_
  refine m_iload_n X dX3_throughGuard_7 rfl rfl ?_
  refine m_imul X dX3_throughGuard_8 ?_
  refine m_topi X (pk_mul 12 d) ?_
  refine m_bipush X dX3_throughGuard_9 (v := 12) (by decide) ?_
  refine m_iadd X dX3_throughGuard_11 ?_
  refine m_topi X (nI_add _ 12) ?_
  refine m_istore X dX3_throughGuard_12 rfl rfl ?_
  refine m_aload_n X dX3_throughGuard_14 rfl rfl (by first | rfl | exact isR_rf) ?_
  refine m_getf X fg_X3_63_X3 hM.1 rfl dX3_throughGuard_15 ?_
  refine m_aload_n X dX3_throughGuard_18 rfl rfl (by first | rfl | exact isR_rf) ?_
  refine m_getf X fg_X3_228_X3 hM.1 rfl dX3_throughGuard_19 ?_
  refine m_topi X (hF) ?_
  refine s_iald X hM rfl rfl (by exact tin (by simp only [alen]; omega) rfl) dX3_throughGuard_22 ?_
  refine m_topi X ((congrArg (A0 25) (nI_clamp (by omega))).trans h25) ?_
  refine m_istore X dX3_throughGuard_23 rfl rfl ?_
  refine m_iload X dX3_throughGuard_25 rfl ?_
  refine m_ifne X dX3_throughGuard_27 (t := 75) (by decide) (fun c_27 => ?_) (fun c_27 => absurd c_27 (by decide))
  refine m_iload X dX3_throughGuard_75 rfl ?_
  refine m_iconst X dX3_throughGuard_77 (v := 1) (by decide) ?_
  refine m_icmpne X dX3_throughGuard_78 (t := 132) (by decide) (fun c_78 => ?_) (fun c_78 => absurd c_78 (by decide))
  refine m_iload X dX3_throughGuard_132 rfl ?_
  refine m_iconst X dX3_throughGuard_134 (v := 2) (by decide) ?_
  refine m_icmpne X dX3_throughGuard_135 (t := 182) (by decide) (fun c_135 => absurd rfl c_135) (fun c_135 => ?_)
  refine m_iconst X dX3_throughGuard_138 (v := 0) (by decide) ?_
  refine m_istore X dX3_throughGuard_139 rfl rfl ?_
  exact m_loc [(6, some (.int (nI 0))), (5, some (.int 2)), (3, some (.int (nI (108 * d)))), (4, some (.int (nI (12 * d + 12)))), (0, some (.ref h)), (1, some (.int (nI n))), (2, some (.int (nI d)))] ⟨rfl, rfl, rfl, rfl, rfl, rfl, rfl, trivial⟩ (loop 9 0 _ _ rfl hM (by rw [putW_n]; exact hY) Ch.rf)
set_option maxHeartbeats 4000000 in
theorem c_X3_g3 {G : GX} {h : Nat} {ad : Nat → Nat} {F : Nat → Int32} {A0 : Nat → Nat → Int32} {B : Nat → Nat → Int64} {M : Mem} (hM : MRep G h ad F A0 B M) {ρ : RP} (n d : Nat) (hn : n < 80) (hd : d < 81) (hF : F 27 = nI d) {w y v : Wy} {nd : Int32} (g : Nat) (hg : g < 9) (h25 : A0 25 d = 3) (h15 : A0 15 n = nd) (hnd : ¬ nd < 0) (h26 : A0 26 d = nI g) (hW : RW 36 d A0 w) (hY : RW 37 d A0 y) (hv : RW 36 (d + 1) A0 v) (hR : RR ρ A0) : Con G yX3_throughGuard wX3_throughGuard (rmm 3 73) [.ref h, .int (nI n), .int (nI d)] M (pV G h ad B fun F' A => TLp d n F (ρ.loOr n (loB v g)) nd (lastW w v g) y (g + 1) F' A ∧ Ch (TT d) A0 A) nX := by
  refine Con.mk (by decide) rfl [(0, some (.ref h)), (1, some (.int (nI n))), (2, some (.int (nI d)))] rfl fun x X hno => ?_
  refine m_bipush X dX3_throughGuard_0 (v := 108) (by decide) ?_
  refine m_iload_n X dX3_throughGuard_2 rfl rfl ?_
  refine m_imul X dX3_throughGuard_3 ?_
  refine m_topi X (pk_mul 108 d) ?_
  refine m_istore_n X dX3_throughGuard_4 rfl rfl rfl ?_
  refine m_bipush X dX3_throughGuard_5 (v := 12) (by decide) ?_
  refine m_iload_n X dX3_throughGuard_7 rfl rfl ?_
  refine m_imul X dX3_throughGuard_8 ?_
  refine m_topi X (pk_mul 12 d) ?_
  refine m_bipush X dX3_throughGuard_9 (v := 12) (by decide) ?_
  refine m_iadd X dX3_throughGuard_11 ?_
  refine m_topi X (nI_add _ 12) ?_
  refine m_istore X dX3_throughGuard_12 rfl rfl ?_
  refine m_aload_n X dX3_throughGuard_14 rfl rfl (by first | rfl | exact isR_rf) ?_
  refine m_getf X fg_X3_63_X3 hM.1 rfl dX3_throughGuard_15 ?_
  refine m_aload_n X dX3_throughGuard_18 rfl rfl (by first | rfl | exact isR_rf) ?_
  refine m_getf X fg_X3_228_X3 hM.1 rfl dX3_throughGuard_19 ?_
  refine m_topi X (hF) ?_
  refine s_iald X hM rfl rfl (by exact tin (by simp only [alen]; omega) rfl) dX3_throughGuard_22 ?_
  refine m_topi X ((congrArg (A0 25) (nI_clamp (by omega))).trans h25) ?_
  refine m_istore X dX3_throughGuard_23 rfl rfl ?_
  refine m_iload X dX3_throughGuard_25 rfl ?_
  refine m_ifne X dX3_throughGuard_27 (t := 75) (by decide) (fun c_27 => ?_) (fun c_27 => absurd c_27 (by decide))
  refine m_iload X dX3_throughGuard_75 rfl ?_
  refine m_iconst X dX3_throughGuard_77 (v := 1) (by decide) ?_
  refine m_icmpne X dX3_throughGuard_78 (t := 132) (by decide) (fun c_78 => ?_) (fun c_78 => absurd c_78 (by decide))
  refine m_iload X dX3_throughGuard_132 rfl ?_
  refine m_iconst X dX3_throughGuard_134 (v := 2) (by decide) ?_
  refine m_icmpne X dX3_throughGuard_135 (t := 182) (by decide) (fun c_135 => ?_) (fun c_135 => absurd c_135 (by decide))
  refine m_iload X dX3_throughGuard_182 rfl ?_
  refine m_iconst X dX3_throughGuard_184 (v := 3) (by decide) ?_
  refine m_icmpne X dX3_throughGuard_185 (t := 216) (by decide) (fun c_185 => absurd rfl c_185) (fun c_185 => ?_)
  refine m_aload_n X dX3_throughGuard_188 rfl rfl (by first | rfl | exact isR_rf) ?_
  refine m_iload_n X dX3_throughGuard_189 rfl rfl ?_
  refine m_iload_n X dX3_throughGuard_190 rfl rfl ?_
  refine m_aload_n X dX3_throughGuard_191 rfl rfl (by first | rfl | exact isR_rf) ?_
  refine m_getf X fg_X3_66_X3 hM.1 rfl dX3_throughGuard_192 ?_
  refine m_aload_n X dX3_throughGuard_195 rfl rfl (by first | rfl | exact isR_rf) ?_
  refine m_getf X fg_X3_228_X3 hM.1 rfl dX3_throughGuard_196 ?_
  refine m_topi X (hF) ?_
  refine s_iald X hM rfl rfl (by exact tin (by simp only [alen]; omega) rfl) dX3_throughGuard_199 ?_
  refine m_topi X ((congrArg (A0 26) (nI_clamp (by omega))).trans h26) ?_
  refine m_callV X cs_X3_330  (c_X3_last hM n d g hn hd hg hW hv hR) hM.1 rfl rfl rfl (Nat.le_of_ble_eq_true rfl) dX3_throughGuard_200 ⟨by decide, by decide, by decide, by decide⟩ (fun v M hp => ?_) (fun _ _ _ _ h => h.elim)
  obtain ⟨rfl, A, hM, hE⟩ := hp
  have hC := hE.2.2
  refine m_stn ?_
  refine m_aload_n X dX3_throughGuard_203 rfl rfl (by first | rfl | exact isR_rf) ?_
  refine m_getf X fg_X3_66_X3 hM.1 rfl dX3_throughGuard_204 ?_
  refine m_aload_n X dX3_throughGuard_207 rfl rfl (by first | rfl | exact isR_rf) ?_
  refine m_getf X fg_X3_228_X3 hM.1 rfl dX3_throughGuard_208 ?_
  refine m_topi X (hF) ?_
  refine m_dup2 X dX3_throughGuard_211 rfl rfl ?_
  refine s_iald X hM rfl rfl (by exact tin (by simp only [alen]; omega) rfl) dX3_throughGuard_212 ?_
  refine m_topi X ((congrArg _ (nI_clamp (by omega))).trans ((hC 26 d (by omega)).trans h26)) ?_
  refine m_iconst X dX3_throughGuard_213 (v := 1) (by decide) ?_
  refine m_iadd X dX3_throughGuard_214 ?_
  refine m_topi X ((nI_succ g).symm) ?_
  refine s_iast X hM rfl rfl (by exact tin (by simp only [alen]; omega) rfl) dX3_throughGuard_215 (fun M hM => ?_)
  rw [nI_clamp (by omega)] at hM
  exact m_loc [(3, some (.int (nI (108 * d)))), (4, some (.int (nI (12 * d + 12)))), (0, some (.ref h)), (1, some (.int (nI n))), (2, some (.int (nI d)))] ⟨rfl, rfl, rfl, rfl, rfl, trivial⟩ (guard_tl X n d hn hd hF (g + 1) (by omega) (fun z => absurd z hnd) hM ((aset_off (by omega)).trans ((hC 15 n (by omega)).trans h15)) aset_on ((hE.1).ch aset_ch (by intro l h1 h2; omega)) ((hY.ch hC (by intro l h1 h2; omega)).ch aset_ch (by intro l h1 h2; omega)) ((hE.2.1).ch aset_ch (by intro k l h1 h2; omega)) (Ch.tr (U := TT d) (Ch.le hC (by intro k l hu; first | (unfold TT at hu ⊢; omega) | (unfold TT at hu; omega)) : Ch (TT d) A0 _) aset_ch (by intro k l hu; first | (unfold TT at hu ⊢; omega) | (unfold TT at hu; omega))) fun F' A' ht hc => ⟨ht, hc⟩)
