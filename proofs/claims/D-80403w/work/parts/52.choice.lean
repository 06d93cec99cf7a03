/-! REPORTS: the model goes through choices (printed by wip/D-80403w/tools/m52.py) -/
set_option maxRecDepth 100000
theorem ins_upd {A : Nat → Nat → Int32} {d a : Nat} {s : Nat → Int32} {v : Int32} (h : IR d A s) (ha : a < 12) : IR (d + 1) (aset (layA2 A 38 (12 * d) 38 (12 * d + 12) 12) 38 (12 * d + 12 + a) v) (upd s a v) := by
  intro u hu
  unfold upd
  by_cases e : u = a
  · subst e
    rw [if_pos rfl, show 12 * (d + 1) + u = 12 * d + 12 + u by omega, aset_on]
  · rw [if_neg e, aset_off (by omega)]
    exact lay_ins h u hu
set_option maxHeartbeats 4000000 in
theorem c_X3_ch0y {G : GX} {h : Nat} {ad : Nat → Nat} {F : Nat → Int32} {A0 : Nat → Nat → Int32} {B : Nat → Nat → Int64} {M : Mem} (hM : MRep G h ad F A0 B M) {ρ : RP} (n d : Nat) (hn : n < 80) (hd : d < 81) (hF : F 27 = nI d) {s : Nat → Int32} {a : Nat} {b c : Int32} (ha : a < 12) (h25 : A0 25 d = 0) (h12 : A0 12 n = nI a) (h13 : A0 13 n = b) (h14 : A0 14 n = c) (hs : IR d A0 s) (hR : RR ρ A0) (hv0 : ¬ (s a &&& itsM b) = 0) : Con G yX3_throughChoice wX3_throughChoice (rmm 2 47) [.ref h, .int (nI n), .int (nI d)] M (pV G h ad B fun F' A => STp d F c (upd s a (s a &&& itsM b)) 1 F' A ∧ A 26 d = (s a &&& itsM b) ∧ RW 36 d A w0 ∧ RR (ρ.enter n s) A ∧ Ch (TT d) A0 A) nX := by
  refine Con.mk (by decide) rfl [(0, some (.ref h)), (1, some (.int (nI n))), (2, some (.int (nI d)))] rfl fun x X hno => ?_
  refine m_aload_n X dX3_throughChoice_0 rfl rfl (by first | rfl | exact isR_rf) ?_
  refine m_getf X fg_X3_63_X3 hM.1 rfl dX3_throughChoice_1 ?_
  refine m_aload_n X dX3_throughChoice_4 rfl rfl (by first | rfl | exact isR_rf) ?_
  refine m_getf X fg_X3_228_X3 hM.1 rfl dX3_throughChoice_5 ?_
  refine m_topi X (hF) ?_
  refine s_iald X hM rfl rfl (by exact tin (by simp only [alen]; omega) rfl) dX3_throughChoice_8 ?_
  refine m_topi X ((congrArg (A0 25) (nI_clamp (by omega))).trans h25) ?_
  refine m_istore_n X dX3_throughChoice_9 rfl rfl rfl ?_
  refine m_iload_n X dX3_throughChoice_10 rfl rfl ?_
  refine m_ifne X dX3_throughChoice_11 (t := 23) (by decide) (fun c_11 => absurd rfl c_11) (fun c_11 => ?_)
  refine m_aload_n X dX3_throughChoice_14 rfl rfl (by first | rfl | exact isR_rf) ?_
  refine m_iload_n X dX3_throughChoice_15 rfl rfl ?_
  refine m_iload_n X dX3_throughChoice_16 rfl rfl ?_
  refine m_callV X cs_X3_313  (c_X3_enter hM n d hn hd hs hR) hM.1 rfl rfl rfl (Nat.le_of_ble_eq_true rfl) dX3_throughChoice_17 ⟨by decide, by decide, by decide, by decide⟩ (fun v M hp => ?_) (fun _ _ _ _ h => h.elim)
  obtain ⟨rfl, A, hM, hE⟩ := hp
  have hC := hE.2.2
  have hR1 := hE.2.1
  refine m_stn ?_
  refine m_goto X dX3_throughChoice_20 (t := 41) (by decide) ?_
  refine m_iload_n X dX3_throughChoice_41 rfl rfl ?_
  refine m_iconst X dX3_throughChoice_42 (v := 2) (by decide) ?_
  refine m_icmpne X dX3_throughChoice_43 (t := 53) (by decide) (fun c_43 => ?_) (fun c_43 => absurd c_43 (by decide))
  refine m_aload_n X dX3_throughChoice_53 rfl rfl (by first | rfl | exact isR_rf) ?_
  refine m_getf X fg_X3_41_X3 hM.1 rfl dX3_throughChoice_54 ?_
  refine m_iload_n X dX3_throughChoice_57 rfl rfl ?_
  refine s_iald X hM rfl rfl (by exact tin (by simp only [alen]; omega) rfl) dX3_throughChoice_58 ?_
  refine m_topi X ((congrArg _ (nI_clamp (by omega))).trans ((hC 13 n (by omega)).trans h13)) ?_
  refine m_ifne X dX3_throughChoice_59 (t := 66) (by decide) (fun c_59 => ?_) (fun c_59 => ?_)
  · skip
    try simp only [bI_0, Bool.not_eq_false] at c_59
    have eI : itsM b = maskI b := if_neg c_59
    refine m_aload_n X dX3_throughChoice_66 rfl rfl (by first | rfl | exact isR_rf) ?_
    refine m_getf X fg_X3_41_X3 hM.1 rfl dX3_throughChoice_67 ?_
    refine m_iload_n X dX3_throughChoice_70 rfl rfl ?_
    refine s_iald X hM rfl rfl (by exact tin (by simp only [alen]; omega) rfl) dX3_throughChoice_71 ?_
    refine m_topi X ((congrArg _ (nI_clamp (by omega))).trans ((hC 13 n (by omega)).trans h13)) ?_
    refine m_callS X cs_X3_107  (c_X3_mask _ _ _) rfl rfl (Nat.le_of_ble_eq_true rfl) dX3_throughChoice_72 ⟨by decide, by decide, by decide, by decide⟩ (fun v M hp => ?_) (fun _ _ _ _ h => h.elim)
    obtain ⟨rfl, rfl⟩ := hp
    refine m_sti ?_
    refine m_istore X dX3_throughChoice_75 rfl rfl ?_
    refine m_aload_n X dX3_throughChoice_77 rfl rfl (by first | rfl | exact isR_rf) ?_
    refine m_getf X fg_X3_97_X3 hM.1 rfl dX3_throughChoice_78 ?_
    refine m_bipush X dX3_throughChoice_81 (v := 12) (by decide) ?_
    refine m_iload_n X dX3_throughChoice_83 rfl rfl ?_
    refine m_imul X dX3_throughChoice_84 ?_
    refine m_topi X (pk_mul 12 d) ?_
    refine m_aload_n X dX3_throughChoice_85 rfl rfl (by first | rfl | exact isR_rf) ?_
    refine m_getf X fg_X3_38_X3 hM.1 rfl dX3_throughChoice_86 ?_
    refine m_iload_n X dX3_throughChoice_89 rfl rfl ?_
    refine s_iald X hM rfl rfl (by exact tin (by simp only [alen]; omega) rfl) dX3_throughChoice_90 ?_
    refine m_topi X ((congrArg _ (nI_clamp (by omega))).trans ((hC 12 n (by omega)).trans h12)) ?_
    refine m_iadd X dX3_throughChoice_91 ?_
    refine m_topi X (nI_add _ _) ?_
    refine s_iald X hM rfl rfl (by exact tin (by simp only [alen]; omega) rfl) dX3_throughChoice_92 ?_
    refine m_topi X ((congrArg _ (nI_clamp (by omega))).trans ((hC 38 (12 * d + a) (by omega)).trans (hs a ha))) ?_
    refine m_iload_n X dX3_throughChoice_93 rfl rfl ?_
    refine m_ifne X dX3_throughChoice_94 (t := 102) (by decide) (fun c_94 => absurd rfl c_94) (fun c_94 => ?_)
    refine m_iload X dX3_throughChoice_97 rfl ?_
    refine m_goto X dX3_throughChoice_99 (t := 106) (by decide) ?_
    refine m_iand X dX3_throughChoice_106 ?_
    refine m_topi X ((show _ = (s a &&& itsM b) by rw [eI])) ?_
    refine m_istore X dX3_throughChoice_107 rfl rfl ?_
    refine m_aload_n X dX3_throughChoice_109 rfl rfl (by first | rfl | exact isR_rf) ?_
    refine m_getf X fg_X3_66_X3 hM.1 rfl dX3_throughChoice_110 ?_
    refine m_aload_n X dX3_throughChoice_113 rfl rfl (by first | rfl | exact isR_rf) ?_
    refine m_getf X fg_X3_228_X3 hM.1 rfl dX3_throughChoice_114 ?_
    refine m_topi X (hF) ?_
    refine m_iload X dX3_throughChoice_117 rfl ?_
    refine s_iast X hM rfl rfl (by exact tin (by simp only [alen]; omega) rfl) dX3_throughChoice_119 (fun M hM => ?_)
    rw [nI_clamp (by omega)] at hM
    refine m_aload_n X dX3_throughChoice_120 rfl rfl (by first | rfl | exact isR_rf) ?_
    refine m_getf X fg_X3_63_X3 hM.1 rfl dX3_throughChoice_121 ?_
    refine m_aload_n X dX3_throughChoice_124 rfl rfl (by first | rfl | exact isR_rf) ?_
    refine m_getf X fg_X3_228_X3 hM.1 rfl dX3_throughChoice_125 ?_
    refine m_topi X (hF) ?_
    refine m_iload_n X dX3_throughChoice_128 rfl rfl ?_
    refine m_iconst X dX3_throughChoice_129 (v := 1) (by decide) ?_
    refine m_iadd X dX3_throughChoice_130 ?_
    refine m_topi X ((show (0 : Int32) + 1 = 1 by decide)) ?_
    refine s_iast X hM rfl rfl (by exact tin (by simp only [alen]; omega) rfl) dX3_throughChoice_131 (fun M hM => ?_)
    rw [nI_clamp (by omega)] at hM
    refine m_iload X dX3_throughChoice_132 rfl ?_
    refine m_ifeq X dX3_throughChoice_134 (t := 206) (by decide) (fun c_134 => absurd c_134 hv0) (fun c_134 => ?_)
    refine m_aload_n X dX3_throughChoice_137 rfl rfl (by first | rfl | exact isR_rf) ?_
    refine m_getf X fg_X3_97_X3 hM.1 rfl dX3_throughChoice_138 ?_
    refine m_bipush X dX3_throughChoice_141 (v := 12) (by decide) ?_
    refine m_iload_n X dX3_throughChoice_143 rfl rfl ?_
    refine m_imul X dX3_throughChoice_144 ?_
    refine m_topi X (pk_mul 12 d) ?_
    refine m_aload_n X dX3_throughChoice_145 rfl rfl (by first | rfl | exact isR_rf) ?_
    refine m_getf X fg_X3_97_X3 hM.1 rfl dX3_throughChoice_146 ?_
    refine m_bipush X dX3_throughChoice_149 (v := 12) (by decide) ?_
    refine m_iload_n X dX3_throughChoice_151 rfl rfl ?_
    refine m_imul X dX3_throughChoice_152 ?_
    refine m_topi X (pk_mul 12 d) ?_
    refine m_bipush X dX3_throughChoice_153 (v := 12) (by decide) ?_
    refine m_iadd X dX3_throughChoice_155 ?_
    refine m_topi X (nI_add _ 12) ?_
    refine m_callS X cs_X3_316  (c_X3_lay_2 hM 38 (12 * d) 38 (12 * d + 12) rfl rfl (by simp only [alen]; omega) (by simp only [alen]; omega) (Or.inr (Or.inl (by omega)))) rfl rfl (Nat.le_of_ble_eq_true rfl) dX3_throughChoice_156 ⟨by decide, by decide, by decide, by decide⟩ (fun v M hp => ?_) (fun _ _ _ _ h => h.elim)
    obtain ⟨rfl, hM⟩ := hp
    refine m_stn ?_
    refine m_aload_n X dX3_throughChoice_159 rfl rfl (by first | rfl | exact isR_rf) ?_
    refine m_getf X fg_X3_97_X3 hM.1 rfl dX3_throughChoice_160 ?_
    refine m_bipush X dX3_throughChoice_163 (v := 12) (by decide) ?_
    refine m_iload_n X dX3_throughChoice_165 rfl rfl ?_
    refine m_imul X dX3_throughChoice_166 ?_
    refine m_topi X (pk_mul 12 d) ?_
    refine m_bipush X dX3_throughChoice_167 (v := 12) (by decide) ?_
    refine m_iadd X dX3_throughChoice_169 ?_
    refine m_topi X (nI_add _ 12) ?_
    refine m_aload_n X dX3_throughChoice_170 rfl rfl (by first | rfl | exact isR_rf) ?_
    refine m_getf X fg_X3_38_X3 hM.1 rfl dX3_throughChoice_171 ?_
    refine m_iload_n X dX3_throughChoice_174 rfl rfl ?_
    refine s_iald X hM rfl rfl (by exact tin (by simp only [alen]; omega) rfl) dX3_throughChoice_175 ?_
    refine m_topi X ((congrArg _ (nI_clamp (by omega))).trans ((layA2_off (by omega)).trans ((aset_off (by omega)).trans ((aset_off (by omega)).trans ((hC 12 n (by omega)).trans h12))))) ?_
    refine m_iadd X dX3_throughChoice_176 ?_
    refine m_topi X (nI_add _ _) ?_
    refine m_iload X dX3_throughChoice_177 rfl ?_
    refine s_iast X hM rfl rfl (by exact tin (by simp only [alen]; omega) rfl) dX3_throughChoice_179 (fun M hM => ?_)
    rw [nI_clamp (by omega)] at hM
    refine m_aload_n X dX3_throughChoice_180 rfl rfl (by first | rfl | exact isR_rf) ?_
    refine m_iload_n X dX3_throughChoice_181 rfl rfl ?_
    refine m_iconst X dX3_throughChoice_182 (v := 1) (by decide) ?_
    refine m_iadd X dX3_throughChoice_183 ?_
    refine m_topi X ((show (0 : Int32) + 1 = 1 by decide)) ?_
    refine m_iload_n X dX3_throughChoice_184 rfl rfl ?_
    refine m_ifne X dX3_throughChoice_185 (t := 197) (by decide) (fun c_185 => absurd rfl c_185) (fun c_185 => ?_)
    refine m_aload_n X dX3_throughChoice_188 rfl rfl (by first | rfl | exact isR_rf) ?_
    refine m_getf X fg_X3_44_X3 hM.1 rfl dX3_throughChoice_189 ?_
    refine m_iload_n X dX3_throughChoice_192 rfl rfl ?_
    refine s_iald X hM rfl rfl (by exact tin (by simp only [alen]; omega) rfl) dX3_throughChoice_193 ?_
    refine m_topi X ((congrArg _ (nI_clamp (by omega))).trans ((aset_off (by omega)).trans ((layA2_off (by omega)).trans ((aset_off (by omega)).trans ((aset_off (by omega)).trans ((hC 14 n (by omega)).trans h14)))))) ?_
    refine m_goto X dX3_throughChoice_194 (t := 203) (by decide) ?_
    refine m_callV X cs_X3_244  (c_X3_step hM d 1 c hF (by omega)) hM.1 rfl rfl rfl (Nat.le_of_ble_eq_true rfl) dX3_throughChoice_203 ⟨by decide, by decide, by decide, by decide⟩ (fun v M hp => ?_) (fun _ _ _ _ h => h.elim)
    obtain ⟨rfl, hM⟩ := hp
    refine m_stn ?_
    exact m_vret X dX3_throughChoice_206 (by decide) (by decide) (by exact ⟨rfl, _, _, hM, stp_mk (ins_upd (((hs.ch hC (by intro l h1 h2; omega)).ch aset_ch (by intro l h1 h2; omega)).ch aset_ch (by intro l h1 h2; omega)) ha), (stp_ch _ _ (by omega)).trans ((aset_off (by omega)).trans ((layA2_off (by omega)).trans ((aset_off (by omega)).trans aset_on))), (((((hE.1).ch aset_ch (by intro l h1 h2; omega)).ch aset_ch (by intro l h1 h2; omega)).ch layA2_ch (by intro l h1 h2; omega)).ch aset_ch (by intro l h1 h2; omega)).ch stp_ch (by intro l h1 h2; omega), (((((hR1).ch aset_ch (by intro k l h1 h2; omega)).ch aset_ch (by intro k l h1 h2; omega)).ch layA2_ch (by intro k l h1 h2; omega)).ch aset_ch (by intro k l h1 h2; omega)).ch stp_ch (by intro k l h1 h2; omega), (Ch.tr (U := TT d) (Ch.tr (U := TT d) (Ch.tr (U := TT d) (Ch.tr (U := TT d) (Ch.tr (U := TT d) (Ch.le hC (by intro k l hu; first | (unfold TT at hu ⊢; omega) | (unfold TT at hu; omega)) : Ch (TT d) A0 _) aset_ch (by intro k l hu; first | (unfold TT at hu ⊢; omega) | (unfold TT at hu; omega))) aset_ch (by intro k l hu; first | (unfold TT at hu ⊢; omega) | (unfold TT at hu; omega))) layA2_ch (by intro k l hu; first | (unfold TT at hu ⊢; omega) | (unfold TT at hu; omega))) aset_ch (by intro k l hu; first | (unfold TT at hu ⊢; omega) | (unfold TT at hu; omega))) stp_ch (by intro k l hu; first | (unfold TT at hu ⊢; omega) | (unfold TT at hu; omega)))⟩)
  · skip
    try simp only [bI_0, Bool.not_eq_false] at c_59
    have eI : itsM b = 1 := if_pos c_59
    refine m_iconst X dX3_throughChoice_62 (v := 1) (by decide) ?_
    refine m_goto X dX3_throughChoice_63 (t := 75) (by decide) ?_
    refine m_istore X dX3_throughChoice_75 rfl rfl ?_
    refine m_aload_n X dX3_throughChoice_77 rfl rfl (by first | rfl | exact isR_rf) ?_
    refine m_getf X fg_X3_97_X3 hM.1 rfl dX3_throughChoice_78 ?_
    refine m_bipush X dX3_throughChoice_81 (v := 12) (by decide) ?_
    refine m_iload_n X dX3_throughChoice_83 rfl rfl ?_
    refine m_imul X dX3_throughChoice_84 ?_
    refine m_topi X (pk_mul 12 d) ?_
    refine m_aload_n X dX3_throughChoice_85 rfl rfl (by first | rfl | exact isR_rf) ?_
    refine m_getf X fg_X3_38_X3 hM.1 rfl dX3_throughChoice_86 ?_
    refine m_iload_n X dX3_throughChoice_89 rfl rfl ?_
    refine s_iald X hM rfl rfl (by exact tin (by simp only [alen]; omega) rfl) dX3_throughChoice_90 ?_
    refine m_topi X ((congrArg _ (nI_clamp (by omega))).trans ((hC 12 n (by omega)).trans h12)) ?_
    refine m_iadd X dX3_throughChoice_91 ?_
    refine m_topi X (nI_add _ _) ?_
    refine s_iald X hM rfl rfl (by exact tin (by simp only [alen]; omega) rfl) dX3_throughChoice_92 ?_
    refine m_topi X ((congrArg _ (nI_clamp (by omega))).trans ((hC 38 (12 * d + a) (by omega)).trans (hs a ha))) ?_
    refine m_iload_n X dX3_throughChoice_93 rfl rfl ?_
    refine m_ifne X dX3_throughChoice_94 (t := 102) (by decide) (fun c_94 => absurd rfl c_94) (fun c_94 => ?_)
    refine m_iload X dX3_throughChoice_97 rfl ?_
    refine m_goto X dX3_throughChoice_99 (t := 106) (by decide) ?_
    refine m_iand X dX3_throughChoice_106 ?_
    refine m_topi X ((show _ = (s a &&& itsM b) by rw [eI])) ?_
    refine m_istore X dX3_throughChoice_107 rfl rfl ?_
    refine m_aload_n X dX3_throughChoice_109 rfl rfl (by first | rfl | exact isR_rf) ?_
    refine m_getf X fg_X3_66_X3 hM.1 rfl dX3_throughChoice_110 ?_
    refine m_aload_n X dX3_throughChoice_113 rfl rfl (by first | rfl | exact isR_rf) ?_
    refine m_getf X fg_X3_228_X3 hM.1 rfl dX3_throughChoice_114 ?_
    refine m_topi X (hF) ?_
    refine m_iload X dX3_throughChoice_117 rfl ?_
    refine s_iast X hM rfl rfl (by exact tin (by simp only [alen]; omega) rfl) dX3_throughChoice_119 (fun M hM => ?_)
    rw [nI_clamp (by omega)] at hM
    refine m_aload_n X dX3_throughChoice_120 rfl rfl (by first | rfl | exact isR_rf) ?_
    refine m_getf X fg_X3_63_X3 hM.1 rfl dX3_throughChoice_121 ?_
    refine m_aload_n X dX3_throughChoice_124 rfl rfl (by first | rfl | exact isR_rf) ?_
    refine m_getf X fg_X3_228_X3 hM.1 rfl dX3_throughChoice_125 ?_
    refine m_topi X (hF) ?_
    refine m_iload_n X dX3_throughChoice_128 rfl rfl ?_
    refine m_iconst X dX3_throughChoice_129 (v := 1) (by decide) ?_
    refine m_iadd X dX3_throughChoice_130 ?_
    refine m_topi X ((show (0 : Int32) + 1 = 1 by decide)) ?_
    refine s_iast X hM rfl rfl (by exact tin (by simp only [alen]; omega) rfl) dX3_throughChoice_131 (fun M hM => ?_)
    rw [nI_clamp (by omega)] at hM
    refine m_iload X dX3_throughChoice_132 rfl ?_
    refine m_ifeq X dX3_throughChoice_134 (t := 206) (by decide) (fun c_134 => absurd c_134 hv0) (fun c_134 => ?_)
    refine m_aload_n X dX3_throughChoice_137 rfl rfl (by first | rfl | exact isR_rf) ?_
    refine m_getf X fg_X3_97_X3 hM.1 rfl dX3_throughChoice_138 ?_
    refine m_bipush X dX3_throughChoice_141 (v := 12) (by decide) ?_
    refine m_iload_n X dX3_throughChoice_143 rfl rfl ?_
    refine m_imul X dX3_throughChoice_144 ?_
    refine m_topi X (pk_mul 12 d) ?_
    refine m_aload_n X dX3_throughChoice_145 rfl rfl (by first | rfl | exact isR_rf) ?_
    refine m_getf X fg_X3_97_X3 hM.1 rfl dX3_throughChoice_146 ?_
    refine m_bipush X dX3_throughChoice_149 (v := 12) (by decide) ?_
    refine m_iload_n X dX3_throughChoice_151 rfl rfl ?_
    refine m_imul X dX3_throughChoice_152 ?_
    refine m_topi X (pk_mul 12 d) ?_
    refine m_bipush X dX3_throughChoice_153 (v := 12) (by decide) ?_
    refine m_iadd X dX3_throughChoice_155 ?_
    refine m_topi X (nI_add _ 12) ?_
    refine m_callS X cs_X3_316  (c_X3_lay_2 hM 38 (12 * d) 38 (12 * d + 12) rfl rfl (by simp only [alen]; omega) (by simp only [alen]; omega) (Or.inr (Or.inl (by omega)))) rfl rfl (Nat.le_of_ble_eq_true rfl) dX3_throughChoice_156 ⟨by decide, by decide, by decide, by decide⟩ (fun v M hp => ?_) (fun _ _ _ _ h => h.elim)
    obtain ⟨rfl, hM⟩ := hp
    refine m_stn ?_
    refine m_aload_n X dX3_throughChoice_159 rfl rfl (by first | rfl | exact isR_rf) ?_
    refine m_getf X fg_X3_97_X3 hM.1 rfl dX3_throughChoice_160 ?_
    refine m_bipush X dX3_throughChoice_163 (v := 12) (by decide) ?_
    refine m_iload_n X dX3_throughChoice_165 rfl rfl ?_
    refine m_imul X dX3_throughChoice_166 ?_
    refine m_topi X (pk_mul 12 d) ?_
    refine m_bipush X dX3_throughChoice_167 (v := 12) (by decide) ?_
    refine m_iadd X dX3_throughChoice_169 ?_
    refine m_topi X (nI_add _ 12) ?_
    refine m_aload_n X dX3_throughChoice_170 rfl rfl (by first | rfl | exact isR_rf) ?_
    refine m_getf X fg_X3_38_X3 hM.1 rfl dX3_throughChoice_171 ?_
    refine m_iload_n X dX3_throughChoice_174 rfl rfl ?_
    refine s_iald X hM rfl rfl (by exact tin (by simp only [alen]; omega) rfl) dX3_throughChoice_175 ?_
    refine m_topi X ((congrArg _ (nI_clamp (by omega))).trans ((layA2_off (by omega)).trans ((aset_off (by omega)).trans ((aset_off (by omega)).trans ((hC 12 n (by omega)).trans h12))))) ?_
    refine m_iadd X dX3_throughChoice_176 ?_
    refine m_topi X (nI_add _ _) ?_
    refine m_iload X dX3_throughChoice_177 rfl ?_
    refine s_iast X hM rfl rfl (by exact tin (by simp only [alen]; omega) rfl) dX3_throughChoice_179 (fun M hM => ?_)
    rw [nI_clamp (by omega)] at hM
    refine m_aload_n X dX3_throughChoice_180 rfl rfl (by first | rfl | exact isR_rf) ?_
    refine m_iload_n X dX3_throughChoice_181 rfl rfl ?_
    refine m_iconst X dX3_throughChoice_182 (v := 1) (by decide) ?_
    refine m_iadd X dX3_throughChoice_183 ?_
    refine m_topi X ((show (0 : Int32) + 1 = 1 by decide)) ?_
    refine m_iload_n X dX3_throughChoice_184 rfl rfl ?_
    refine m_ifne X dX3_throughChoice_185 (t := 197) (by decide) (fun c_185 => absurd rfl c_185) (fun c_185 => ?_)
    refine m_aload_n X dX3_throughChoice_188 rfl rfl (by first | rfl | exact isR_rf) ?_
    refine m_getf X fg_X3_44_X3 hM.1 rfl dX3_throughChoice_189 ?_
    refine m_iload_n X dX3_throughChoice_192 rfl rfl ?_
    refine s_iald X hM rfl rfl (by exact tin (by simp only [alen]; omega) rfl) dX3_throughChoice_193 ?_
    refine m_topi X ((congrArg _ (nI_clamp (by omega))).trans ((aset_off (by omega)).trans ((layA2_off (by omega)).trans ((aset_off (by omega)).trans ((aset_off (by omega)).trans ((hC 14 n (by omega)).trans h14)))))) ?_
    refine m_goto X dX3_throughChoice_194 (t := 203) (by decide) ?_
    refine m_callV X cs_X3_244  (c_X3_step hM d 1 c hF (by omega)) hM.1 rfl rfl rfl (Nat.le_of_ble_eq_true rfl) dX3_throughChoice_203 ⟨by decide, by decide, by decide, by decide⟩ (fun v M hp => ?_) (fun _ _ _ _ h => h.elim)
    obtain ⟨rfl, hM⟩ := hp
    refine m_stn ?_
    exact m_vret X dX3_throughChoice_206 (by decide) (by decide) (by exact ⟨rfl, _, _, hM, stp_mk (ins_upd (((hs.ch hC (by intro l h1 h2; omega)).ch aset_ch (by intro l h1 h2; omega)).ch aset_ch (by intro l h1 h2; omega)) ha), (stp_ch _ _ (by omega)).trans ((aset_off (by omega)).trans ((layA2_off (by omega)).trans ((aset_off (by omega)).trans aset_on))), (((((hE.1).ch aset_ch (by intro l h1 h2; omega)).ch aset_ch (by intro l h1 h2; omega)).ch layA2_ch (by intro l h1 h2; omega)).ch aset_ch (by intro l h1 h2; omega)).ch stp_ch (by intro l h1 h2; omega), (((((hR1).ch aset_ch (by intro k l h1 h2; omega)).ch aset_ch (by intro k l h1 h2; omega)).ch layA2_ch (by intro k l h1 h2; omega)).ch aset_ch (by intro k l h1 h2; omega)).ch stp_ch (by intro k l h1 h2; omega), (Ch.tr (U := TT d) (Ch.tr (U := TT d) (Ch.tr (U := TT d) (Ch.tr (U := TT d) (Ch.tr (U := TT d) (Ch.le hC (by intro k l hu; first | (unfold TT at hu ⊢; omega) | (unfold TT at hu; omega)) : Ch (TT d) A0 _) aset_ch (by intro k l hu; first | (unfold TT at hu ⊢; omega) | (unfold TT at hu; omega))) aset_ch (by intro k l hu; first | (unfold TT at hu ⊢; omega) | (unfold TT at hu; omega))) layA2_ch (by intro k l hu; first | (unfold TT at hu ⊢; omega) | (unfold TT at hu; omega))) aset_ch (by intro k l hu; first | (unfold TT at hu ⊢; omega) | (unfold TT at hu; omega))) stp_ch (by intro k l hu; first | (unfold TT at hu ⊢; omega) | (unfold TT at hu; omega)))⟩)
set_option maxHeartbeats 4000000 in
theorem c_X3_ch0n {G : GX} {h : Nat} {ad : Nat → Nat} {F : Nat → Int32} {A0 : Nat → Nat → Int32} {B : Nat → Nat → Int64} {M : Mem} (hM : MRep G h ad F A0 B M) {ρ : RP} (n d : Nat) (hn : n < 80) (hd : d < 81) (hF : F 27 = nI d) {s : Nat → Int32} {a : Nat} {b c : Int32} (ha : a < 12) (h25 : A0 25 d = 0) (h12 : A0 12 n = nI a) (h13 : A0 13 n = b) (h14 : A0 14 n = c) (hs : IR d A0 s) (hR : RR ρ A0) (hv0 : (s a &&& itsM b) = 0) : Con G yX3_throughChoice wX3_throughChoice (rmm 2 47) [.ref h, .int (nI n), .int (nI d)] M (pV G h ad B fun F' A => F' = F ∧ A 25 d = 1 ∧ A 26 d = 0 ∧ RW 36 d A w0 ∧ RR (ρ.enter n s) A ∧ Ch (TT d) A0 A) nX := by
  refine Con.mk (by decide) rfl [(0, some (.ref h)), (1, some (.int (nI n))), (2, some (.int (nI d)))] rfl fun x X hno => ?_
  refine m_aload_n X dX3_throughChoice_0 rfl rfl (by first | rfl | exact isR_rf) ?_
  refine m_getf X fg_X3_63_X3 hM.1 rfl dX3_throughChoice_1 ?_
  refine m_aload_n X dX3_throughChoice_4 rfl rfl (by first | rfl | exact isR_rf) ?_
  refine m_getf X fg_X3_228_X3 hM.1 rfl dX3_throughChoice_5 ?_
  refine m_topi X (hF) ?_
  refine s_iald X hM rfl rfl (by exact tin (by simp only [alen]; omega) rfl) dX3_throughChoice_8 ?_
  refine m_topi X ((congrArg (A0 25) (nI_clamp (by omega))).trans h25) ?_
  refine m_istore_n X dX3_throughChoice_9 rfl rfl rfl ?_
  refine m_iload_n X dX3_throughChoice_10 rfl rfl ?_
  refine m_ifne X dX3_throughChoice_11 (t := 23) (by decide) (fun c_11 => absurd rfl c_11) (fun c_11 => ?_)
  refine m_aload_n X dX3_throughChoice_14 rfl rfl (by first | rfl | exact isR_rf) ?_
  refine m_iload_n X dX3_throughChoice_15 rfl rfl ?_
  refine m_iload_n X dX3_throughChoice_16 rfl rfl ?_
  refine m_callV X cs_X3_313  (c_X3_enter hM n d hn hd hs hR) hM.1 rfl rfl rfl (Nat.le_of_ble_eq_true rfl) dX3_throughChoice_17 ⟨by decide, by decide, by decide, by decide⟩ (fun v M hp => ?_) (fun _ _ _ _ h => h.elim)
  obtain ⟨rfl, A, hM, hE⟩ := hp
  have hC := hE.2.2
  have hR1 := hE.2.1
  refine m_stn ?_
  refine m_goto X dX3_throughChoice_20 (t := 41) (by decide) ?_
  refine m_iload_n X dX3_throughChoice_41 rfl rfl ?_
  refine m_iconst X dX3_throughChoice_42 (v := 2) (by decide) ?_
  refine m_icmpne X dX3_throughChoice_43 (t := 53) (by decide) (fun c_43 => ?_) (fun c_43 => absurd c_43 (by decide))
  refine m_aload_n X dX3_throughChoice_53 rfl rfl (by first | rfl | exact isR_rf) ?_
  refine m_getf X fg_X3_41_X3 hM.1 rfl dX3_throughChoice_54 ?_
  refine m_iload_n X dX3_throughChoice_57 rfl rfl ?_
  refine s_iald X hM rfl rfl (by exact tin (by simp only [alen]; omega) rfl) dX3_throughChoice_58 ?_
  refine m_topi X ((congrArg _ (nI_clamp (by omega))).trans ((hC 13 n (by omega)).trans h13)) ?_
  refine m_ifne X dX3_throughChoice_59 (t := 66) (by decide) (fun c_59 => ?_) (fun c_59 => ?_)
  · skip
    try simp only [bI_0, Bool.not_eq_false] at c_59
    have eI : itsM b = maskI b := if_neg c_59
    refine m_aload_n X dX3_throughChoice_66 rfl rfl (by first | rfl | exact isR_rf) ?_
    refine m_getf X fg_X3_41_X3 hM.1 rfl dX3_throughChoice_67 ?_
    refine m_iload_n X dX3_throughChoice_70 rfl rfl ?_
    refine s_iald X hM rfl rfl (by exact tin (by simp only [alen]; omega) rfl) dX3_throughChoice_71 ?_
    refine m_topi X ((congrArg _ (nI_clamp (by omega))).trans ((hC 13 n (by omega)).trans h13)) ?_
    refine m_callS X cs_X3_107  (c_X3_mask _ _ _) rfl rfl (Nat.le_of_ble_eq_true rfl) dX3_throughChoice_72 ⟨by decide, by decide, by decide, by decide⟩ (fun v M hp => ?_) (fun _ _ _ _ h => h.elim)
    obtain ⟨rfl, rfl⟩ := hp
    refine m_sti ?_
    refine m_istore X dX3_throughChoice_75 rfl rfl ?_
    refine m_aload_n X dX3_throughChoice_77 rfl rfl (by first | rfl | exact isR_rf) ?_
    refine m_getf X fg_X3_97_X3 hM.1 rfl dX3_throughChoice_78 ?_
    refine m_bipush X dX3_throughChoice_81 (v := 12) (by decide) ?_
    refine m_iload_n X dX3_throughChoice_83 rfl rfl ?_
    refine m_imul X dX3_throughChoice_84 ?_
    refine m_topi X (pk_mul 12 d) ?_
    refine m_aload_n X dX3_throughChoice_85 rfl rfl (by first | rfl | exact isR_rf) ?_
    refine m_getf X fg_X3_38_X3 hM.1 rfl dX3_throughChoice_86 ?_
    refine m_iload_n X dX3_throughChoice_89 rfl rfl ?_
    refine s_iald X hM rfl rfl (by exact tin (by simp only [alen]; omega) rfl) dX3_throughChoice_90 ?_
    refine m_topi X ((congrArg _ (nI_clamp (by omega))).trans ((hC 12 n (by omega)).trans h12)) ?_
    refine m_iadd X dX3_throughChoice_91 ?_
    refine m_topi X (nI_add _ _) ?_
    refine s_iald X hM rfl rfl (by exact tin (by simp only [alen]; omega) rfl) dX3_throughChoice_92 ?_
    refine m_topi X ((congrArg _ (nI_clamp (by omega))).trans ((hC 38 (12 * d + a) (by omega)).trans (hs a ha))) ?_
    refine m_iload_n X dX3_throughChoice_93 rfl rfl ?_
    refine m_ifne X dX3_throughChoice_94 (t := 102) (by decide) (fun c_94 => absurd rfl c_94) (fun c_94 => ?_)
    refine m_iload X dX3_throughChoice_97 rfl ?_
    refine m_goto X dX3_throughChoice_99 (t := 106) (by decide) ?_
    refine m_iand X dX3_throughChoice_106 ?_
    refine m_topi X ((show _ = (s a &&& itsM b) by rw [eI])) ?_
    refine m_istore X dX3_throughChoice_107 rfl rfl ?_
    refine m_aload_n X dX3_throughChoice_109 rfl rfl (by first | rfl | exact isR_rf) ?_
    refine m_getf X fg_X3_66_X3 hM.1 rfl dX3_throughChoice_110 ?_
    refine m_aload_n X dX3_throughChoice_113 rfl rfl (by first | rfl | exact isR_rf) ?_
    refine m_getf X fg_X3_228_X3 hM.1 rfl dX3_throughChoice_114 ?_
    refine m_topi X (hF) ?_
    refine m_iload X dX3_throughChoice_117 rfl ?_
    refine s_iast X hM rfl rfl (by exact tin (by simp only [alen]; omega) rfl) dX3_throughChoice_119 (fun M hM => ?_)
    rw [nI_clamp (by omega)] at hM
    refine m_aload_n X dX3_throughChoice_120 rfl rfl (by first | rfl | exact isR_rf) ?_
    refine m_getf X fg_X3_63_X3 hM.1 rfl dX3_throughChoice_121 ?_
    refine m_aload_n X dX3_throughChoice_124 rfl rfl (by first | rfl | exact isR_rf) ?_
    refine m_getf X fg_X3_228_X3 hM.1 rfl dX3_throughChoice_125 ?_
    refine m_topi X (hF) ?_
    refine m_iload_n X dX3_throughChoice_128 rfl rfl ?_
    refine m_iconst X dX3_throughChoice_129 (v := 1) (by decide) ?_
    refine m_iadd X dX3_throughChoice_130 ?_
    refine m_topi X ((show (0 : Int32) + 1 = 1 by decide)) ?_
    refine s_iast X hM rfl rfl (by exact tin (by simp only [alen]; omega) rfl) dX3_throughChoice_131 (fun M hM => ?_)
    rw [nI_clamp (by omega)] at hM
    refine m_iload X dX3_throughChoice_132 rfl ?_
    refine m_ifeq X dX3_throughChoice_134 (t := 206) (by decide) (fun c_134 => ?_) (fun c_134 => absurd hv0 c_134)
    exact m_vret X dX3_throughChoice_206 (by decide) (by decide) (by exact ⟨rfl, _, _, hM, rfl, aset_on, (aset_off (by omega)).trans (aset_on.trans hv0), ((hE.1).ch aset_ch (by intro l h1 h2; omega)).ch aset_ch (by intro l h1 h2; omega), ((hR1).ch aset_ch (by intro k l h1 h2; omega)).ch aset_ch (by intro k l h1 h2; omega), (Ch.tr (U := TT d) (Ch.tr (U := TT d) (Ch.le hC (by intro k l hu; first | (unfold TT at hu ⊢; omega) | (unfold TT at hu; omega)) : Ch (TT d) A0 _) aset_ch (by intro k l hu; first | (unfold TT at hu ⊢; omega) | (unfold TT at hu; omega))) aset_ch (by intro k l hu; first | (unfold TT at hu ⊢; omega) | (unfold TT at hu; omega)))⟩)
  · skip
    try simp only [bI_0, Bool.not_eq_false] at c_59
    have eI : itsM b = 1 := if_pos c_59
    refine m_iconst X dX3_throughChoice_62 (v := 1) (by decide) ?_
    refine m_goto X dX3_throughChoice_63 (t := 75) (by decide) ?_
    refine m_istore X dX3_throughChoice_75 rfl rfl ?_
    refine m_aload_n X dX3_throughChoice_77 rfl rfl (by first | rfl | exact isR_rf) ?_
    refine m_getf X fg_X3_97_X3 hM.1 rfl dX3_throughChoice_78 ?_
    refine m_bipush X dX3_throughChoice_81 (v := 12) (by decide) ?_
    refine m_iload_n X dX3_throughChoice_83 rfl rfl ?_
    refine m_imul X dX3_throughChoice_84 ?_
    refine m_topi X (pk_mul 12 d) ?_
    refine m_aload_n X dX3_throughChoice_85 rfl rfl (by first | rfl | exact isR_rf) ?_
    refine m_getf X fg_X3_38_X3 hM.1 rfl dX3_throughChoice_86 ?_
    refine m_iload_n X dX3_throughChoice_89 rfl rfl ?_
    refine s_iald X hM rfl rfl (by exact tin (by simp only [alen]; omega) rfl) dX3_throughChoice_90 ?_
    refine m_topi X ((congrArg _ (nI_clamp (by omega))).trans ((hC 12 n (by omega)).trans h12)) ?_
    refine m_iadd X dX3_throughChoice_91 ?_
    refine m_topi X (nI_add _ _) ?_
    refine s_iald X hM rfl rfl (by exact tin (by simp only [alen]; omega) rfl) dX3_throughChoice_92 ?_
    refine m_topi X ((congrArg _ (nI_clamp (by omega))).trans ((hC 38 (12 * d + a) (by omega)).trans (hs a ha))) ?_
    refine m_iload_n X dX3_throughChoice_93 rfl rfl ?_
    refine m_ifne X dX3_throughChoice_94 (t := 102) (by decide) (fun c_94 => absurd rfl c_94) (fun c_94 => ?_)
    refine m_iload X dX3_throughChoice_97 rfl ?_
    refine m_goto X dX3_throughChoice_99 (t := 106) (by decide) ?_
    refine m_iand X dX3_throughChoice_106 ?_
    refine m_topi X ((show _ = (s a &&& itsM b) by rw [eI])) ?_
    refine m_istore X dX3_throughChoice_107 rfl rfl ?_
    refine m_aload_n X dX3_throughChoice_109 rfl rfl (by first | rfl | exact isR_rf) ?_
    refine m_getf X fg_X3_66_X3 hM.1 rfl dX3_throughChoice_110 ?_
    refine m_aload_n X dX3_throughChoice_113 rfl rfl (by first | rfl | exact isR_rf) ?_
    refine m_getf X fg_X3_228_X3 hM.1 rfl dX3_throughChoice_114 ?_
    refine m_topi X (hF) ?_
    refine m_iload X dX3_throughChoice_117 rfl ?_
    refine s_iast X hM rfl rfl (by exact tin (by simp only [alen]; omega) rfl) dX3_throughChoice_119 (fun M hM => ?_)
    rw [nI_clamp (by omega)] at hM
    refine m_aload_n X dX3_throughChoice_120 rfl rfl (by first | rfl | exact isR_rf) ?_
    refine m_getf X fg_X3_63_X3 hM.1 rfl dX3_throughChoice_121 ?_
    refine m_aload_n X dX3_throughChoice_124 rfl rfl (by first | rfl | exact isR_rf) ?_
    refine m_getf X fg_X3_228_X3 hM.1 rfl dX3_throughChoice_125 ?_
    refine m_topi X (hF) ?_
    refine m_iload_n X dX3_throughChoice_128 rfl rfl ?_
    refine m_iconst X dX3_throughChoice_129 (v := 1) (by decide) ?_
    refine m_iadd X dX3_throughChoice_130 ?_
    refine m_topi X ((show (0 : Int32) + 1 = 1 by decide)) ?_
    refine s_iast X hM rfl rfl (by exact tin (by simp only [alen]; omega) rfl) dX3_throughChoice_131 (fun M hM => ?_)
    rw [nI_clamp (by omega)] at hM
    refine m_iload X dX3_throughChoice_132 rfl ?_
    refine m_ifeq X dX3_throughChoice_134 (t := 206) (by decide) (fun c_134 => ?_) (fun c_134 => absurd hv0 c_134)
    exact m_vret X dX3_throughChoice_206 (by decide) (by decide) (by exact ⟨rfl, _, _, hM, rfl, aset_on, (aset_off (by omega)).trans (aset_on.trans hv0), ((hE.1).ch aset_ch (by intro l h1 h2; omega)).ch aset_ch (by intro l h1 h2; omega), ((hR1).ch aset_ch (by intro k l h1 h2; omega)).ch aset_ch (by intro k l h1 h2; omega), (Ch.tr (U := TT d) (Ch.tr (U := TT d) (Ch.le hC (by intro k l hu; first | (unfold TT at hu ⊢; omega) | (unfold TT at hu; omega)) : Ch (TT d) A0 _) aset_ch (by intro k l hu; first | (unfold TT at hu ⊢; omega) | (unfold TT at hu; omega))) aset_ch (by intro k l hu; first | (unfold TT at hu ⊢; omega) | (unfold TT at hu; omega)))⟩)
set_option maxHeartbeats 4000000 in
theorem c_X3_ch1hy {G : GX} {h : Nat} {ad : Nat → Nat} {F : Nat → Int32} {A0 : Nat → Nat → Int32} {B : Nat → Nat → Int64} {M : Mem} (hM : MRep G h ad F A0 B M) {ρ : RP} (n d : Nat) (hn : n < 80) (hd : d < 81) (hF : F 27 = nI d) {s : Nat → Int32} {a : Nat} {b c : Int32} {w v : Wy} (ha : a < 12) (h25 : A0 25 d = 1) (h12 : A0 12 n = nI a) (h13 : A0 13 n = b) (h15 : A0 15 n = c) (hs : IR d A0 s) (hR : RR ρ A0) (hv0 : ¬ (s a &&& (itsM b ^^^ (-1))) = 0) (hW : RW 36 d A0 w) (hl : ¬ A0 26 d = 0) (hv : RW 36 (d + 1) A0 v) : Con G yX3_throughChoice wX3_throughChoice (rmm 2 47) [.ref h, .int (nI n), .int (nI d)] M (pV G h ad B fun F' A => STp d F c (upd s a (s a &&& (itsM b ^^^ (-1)))) 2 F' A ∧ A 26 d = (s a &&& (itsM b ^^^ (-1))) ∧ RW 36 d A (putW w v 0 9) ∧ RR ρ A ∧ Ch (TT d) A0 A) nX := by
  refine Con.mk (by decide) rfl [(0, some (.ref h)), (1, some (.int (nI n))), (2, some (.int (nI d)))] rfl fun x X hno => ?_
  refine m_aload_n X dX3_throughChoice_0 rfl rfl (by first | rfl | exact isR_rf) ?_
  refine m_getf X fg_X3_63_X3 hM.1 rfl dX3_throughChoice_1 ?_
  refine m_aload_n X dX3_throughChoice_4 rfl rfl (by first | rfl | exact isR_rf) ?_
  refine m_getf X fg_X3_228_X3 hM.1 rfl dX3_throughChoice_5 ?_
  refine m_topi X (hF) ?_
  refine s_iald X hM rfl rfl (by exact tin (by simp only [alen]; omega) rfl) dX3_throughChoice_8 ?_
  refine m_topi X ((congrArg (A0 25) (nI_clamp (by omega))).trans h25) ?_
  refine m_istore_n X dX3_throughChoice_9 rfl rfl rfl ?_
  refine m_iload_n X dX3_throughChoice_10 rfl rfl ?_
  refine m_ifne X dX3_throughChoice_11 (t := 23) (by decide) (fun c_11 => ?_) (fun c_11 => absurd c_11 (by decide))
  refine m_aload_n X dX3_throughChoice_23 rfl rfl (by first | rfl | exact isR_rf) ?_
  refine m_getf X fg_X3_66_X3 hM.1 rfl dX3_throughChoice_24 ?_
  refine m_aload_n X dX3_throughChoice_27 rfl rfl (by first | rfl | exact isR_rf) ?_
  refine m_getf X fg_X3_228_X3 hM.1 rfl dX3_throughChoice_28 ?_
  refine m_topi X (hF) ?_
  refine s_iald X hM rfl rfl (by exact tin (by simp only [alen]; omega) rfl) dX3_throughChoice_31 ?_
  refine m_topi X (congrArg (A0 26) (nI_clamp (by omega))) ?_
  refine m_ifeq X dX3_throughChoice_32 (t := 41) (by decide) (fun c_32 => absurd c_32 hl) (fun c_32 => ?_)
  refine m_aload_n X dX3_throughChoice_35 rfl rfl (by first | rfl | exact isR_rf) ?_
  refine m_iload_n X dX3_throughChoice_36 rfl rfl ?_
  refine m_iconst X dX3_throughChoice_37 (v := 0) (by decide) ?_
  refine m_callV X cs_X3_324  (c_X3_put hM d 0 hd (by decide) hW hv) hM.1 rfl rfl rfl (Nat.le_of_ble_eq_true rfl) dX3_throughChoice_38 ⟨by decide, by decide, by decide, by decide⟩ (fun v M hp => ?_) (fun _ _ _ _ h => h.elim)
  obtain ⟨rfl, A, hM, hE⟩ := hp
  have hC := hE.2
  have hR1 := hR.ch hC (by intro k l h1 h2; omega)
  refine m_stn ?_
  refine m_iload_n X dX3_throughChoice_41 rfl rfl ?_
  refine m_iconst X dX3_throughChoice_42 (v := 2) (by decide) ?_
  refine m_icmpne X dX3_throughChoice_43 (t := 53) (by decide) (fun c_43 => ?_) (fun c_43 => absurd c_43 (by decide))
  refine m_aload_n X dX3_throughChoice_53 rfl rfl (by first | rfl | exact isR_rf) ?_
  refine m_getf X fg_X3_41_X3 hM.1 rfl dX3_throughChoice_54 ?_
  refine m_iload_n X dX3_throughChoice_57 rfl rfl ?_
  refine s_iald X hM rfl rfl (by exact tin (by simp only [alen]; omega) rfl) dX3_throughChoice_58 ?_
  refine m_topi X ((congrArg _ (nI_clamp (by omega))).trans ((hC 13 n (by omega)).trans h13)) ?_
  refine m_ifne X dX3_throughChoice_59 (t := 66) (by decide) (fun c_59 => ?_) (fun c_59 => ?_)
  · skip
    try simp only [bI_0, Bool.not_eq_false] at c_59
    have eI : itsM b = maskI b := if_neg c_59
    refine m_aload_n X dX3_throughChoice_66 rfl rfl (by first | rfl | exact isR_rf) ?_
    refine m_getf X fg_X3_41_X3 hM.1 rfl dX3_throughChoice_67 ?_
    refine m_iload_n X dX3_throughChoice_70 rfl rfl ?_
    refine s_iald X hM rfl rfl (by exact tin (by simp only [alen]; omega) rfl) dX3_throughChoice_71 ?_
    refine m_topi X ((congrArg _ (nI_clamp (by omega))).trans ((hC 13 n (by omega)).trans h13)) ?_
    refine m_callS X cs_X3_107  (c_X3_mask _ _ _) rfl rfl (Nat.le_of_ble_eq_true rfl) dX3_throughChoice_72 ⟨by decide, by decide, by decide, by decide⟩ (fun v M hp => ?_) (fun _ _ _ _ h => h.elim)
    obtain ⟨rfl, rfl⟩ := hp
    refine m_sti ?_
    refine m_istore X dX3_throughChoice_75 rfl rfl ?_
    refine m_aload_n X dX3_throughChoice_77 rfl rfl (by first | rfl | exact isR_rf) ?_
    refine m_getf X fg_X3_97_X3 hM.1 rfl dX3_throughChoice_78 ?_
    refine m_bipush X dX3_throughChoice_81 (v := 12) (by decide) ?_
    refine m_iload_n X dX3_throughChoice_83 rfl rfl ?_
    refine m_imul X dX3_throughChoice_84 ?_
    refine m_topi X (pk_mul 12 d) ?_
    refine m_aload_n X dX3_throughChoice_85 rfl rfl (by first | rfl | exact isR_rf) ?_
    refine m_getf X fg_X3_38_X3 hM.1 rfl dX3_throughChoice_86 ?_
    refine m_iload_n X dX3_throughChoice_89 rfl rfl ?_
    refine s_iald X hM rfl rfl (by exact tin (by simp only [alen]; omega) rfl) dX3_throughChoice_90 ?_
    refine m_topi X ((congrArg _ (nI_clamp (by omega))).trans ((hC 12 n (by omega)).trans h12)) ?_
    refine m_iadd X dX3_throughChoice_91 ?_
    refine m_topi X (nI_add _ _) ?_
    refine s_iald X hM rfl rfl (by exact tin (by simp only [alen]; omega) rfl) dX3_throughChoice_92 ?_
    refine m_topi X ((congrArg _ (nI_clamp (by omega))).trans ((hC 38 (12 * d + a) (by omega)).trans (hs a ha))) ?_
    refine m_iload_n X dX3_throughChoice_93 rfl rfl ?_
    refine m_ifne X dX3_throughChoice_94 (t := 102) (by decide) (fun c_94 => ?_) (fun c_94 => absurd c_94 (by decide))
    refine m_iload X dX3_throughChoice_102 rfl ?_
    refine m_iconst X dX3_throughChoice_104 (v := (-1)) (by decide) ?_
    refine m_ixor X dX3_throughChoice_105 ?_
    refine m_iand X dX3_throughChoice_106 ?_
    refine m_topi X ((show _ = (s a &&& (itsM b ^^^ (-1))) by rw [eI])) ?_
    refine m_istore X dX3_throughChoice_107 rfl rfl ?_
    refine m_aload_n X dX3_throughChoice_109 rfl rfl (by first | rfl | exact isR_rf) ?_
    refine m_getf X fg_X3_66_X3 hM.1 rfl dX3_throughChoice_110 ?_
    refine m_aload_n X dX3_throughChoice_113 rfl rfl (by first | rfl | exact isR_rf) ?_
    refine m_getf X fg_X3_228_X3 hM.1 rfl dX3_throughChoice_114 ?_
    refine m_topi X (hF) ?_
    refine m_iload X dX3_throughChoice_117 rfl ?_
    refine s_iast X hM rfl rfl (by exact tin (by simp only [alen]; omega) rfl) dX3_throughChoice_119 (fun M hM => ?_)
    rw [nI_clamp (by omega)] at hM
    refine m_aload_n X dX3_throughChoice_120 rfl rfl (by first | rfl | exact isR_rf) ?_
    refine m_getf X fg_X3_63_X3 hM.1 rfl dX3_throughChoice_121 ?_
    refine m_aload_n X dX3_throughChoice_124 rfl rfl (by first | rfl | exact isR_rf) ?_
    refine m_getf X fg_X3_228_X3 hM.1 rfl dX3_throughChoice_125 ?_
    refine m_topi X (hF) ?_
    refine m_iload_n X dX3_throughChoice_128 rfl rfl ?_
    refine m_iconst X dX3_throughChoice_129 (v := 1) (by decide) ?_
    refine m_iadd X dX3_throughChoice_130 ?_
    refine m_topi X ((show (1 : Int32) + 1 = 2 by decide)) ?_
    refine s_iast X hM rfl rfl (by exact tin (by simp only [alen]; omega) rfl) dX3_throughChoice_131 (fun M hM => ?_)
    rw [nI_clamp (by omega)] at hM
    refine m_iload X dX3_throughChoice_132 rfl ?_
    refine m_ifeq X dX3_throughChoice_134 (t := 206) (by decide) (fun c_134 => absurd c_134 hv0) (fun c_134 => ?_)
    refine m_aload_n X dX3_throughChoice_137 rfl rfl (by first | rfl | exact isR_rf) ?_
    refine m_getf X fg_X3_97_X3 hM.1 rfl dX3_throughChoice_138 ?_
    refine m_bipush X dX3_throughChoice_141 (v := 12) (by decide) ?_
    refine m_iload_n X dX3_throughChoice_143 rfl rfl ?_
    refine m_imul X dX3_throughChoice_144 ?_
    refine m_topi X (pk_mul 12 d) ?_
    refine m_aload_n X dX3_throughChoice_145 rfl rfl (by first | rfl | exact isR_rf) ?_
    refine m_getf X fg_X3_97_X3 hM.1 rfl dX3_throughChoice_146 ?_
    refine m_bipush X dX3_throughChoice_149 (v := 12) (by decide) ?_
    refine m_iload_n X dX3_throughChoice_151 rfl rfl ?_
    refine m_imul X dX3_throughChoice_152 ?_
    refine m_topi X (pk_mul 12 d) ?_
    refine m_bipush X dX3_throughChoice_153 (v := 12) (by decide) ?_
    refine m_iadd X dX3_throughChoice_155 ?_
    refine m_topi X (nI_add _ 12) ?_
    refine m_callS X cs_X3_316  (c_X3_lay_2 hM 38 (12 * d) 38 (12 * d + 12) rfl rfl (by simp only [alen]; omega) (by simp only [alen]; omega) (Or.inr (Or.inl (by omega)))) rfl rfl (Nat.le_of_ble_eq_true rfl) dX3_throughChoice_156 ⟨by decide, by decide, by decide, by decide⟩ (fun v M hp => ?_) (fun _ _ _ _ h => h.elim)
    obtain ⟨rfl, hM⟩ := hp
    refine m_stn ?_
    refine m_aload_n X dX3_throughChoice_159 rfl rfl (by first | rfl | exact isR_rf) ?_
    refine m_getf X fg_X3_97_X3 hM.1 rfl dX3_throughChoice_160 ?_
    refine m_bipush X dX3_throughChoice_163 (v := 12) (by decide) ?_
    refine m_iload_n X dX3_throughChoice_165 rfl rfl ?_
    refine m_imul X dX3_throughChoice_166 ?_
    refine m_topi X (pk_mul 12 d) ?_
    refine m_bipush X dX3_throughChoice_167 (v := 12) (by decide) ?_
    refine m_iadd X dX3_throughChoice_169 ?_
    refine m_topi X (nI_add _ 12) ?_
    refine m_aload_n X dX3_throughChoice_170 rfl rfl (by first | rfl | exact isR_rf) ?_
    refine m_getf X fg_X3_38_X3 hM.1 rfl dX3_throughChoice_171 ?_
    refine m_iload_n X dX3_throughChoice_174 rfl rfl ?_
    refine s_iald X hM rfl rfl (by exact tin (by simp only [alen]; omega) rfl) dX3_throughChoice_175 ?_
    refine m_topi X ((congrArg _ (nI_clamp (by omega))).trans ((layA2_off (by omega)).trans ((aset_off (by omega)).trans ((aset_off (by omega)).trans ((hC 12 n (by omega)).trans h12))))) ?_
    refine m_iadd X dX3_throughChoice_176 ?_
    refine m_topi X (nI_add _ _) ?_
    refine m_iload X dX3_throughChoice_177 rfl ?_
    refine s_iast X hM rfl rfl (by exact tin (by simp only [alen]; omega) rfl) dX3_throughChoice_179 (fun M hM => ?_)
    rw [nI_clamp (by omega)] at hM
    refine m_aload_n X dX3_throughChoice_180 rfl rfl (by first | rfl | exact isR_rf) ?_
    refine m_iload_n X dX3_throughChoice_181 rfl rfl ?_
    refine m_iconst X dX3_throughChoice_182 (v := 1) (by decide) ?_
    refine m_iadd X dX3_throughChoice_183 ?_
    refine m_topi X ((show (1 : Int32) + 1 = 2 by decide)) ?_
    refine m_iload_n X dX3_throughChoice_184 rfl rfl ?_
    refine m_ifne X dX3_throughChoice_185 (t := 197) (by decide) (fun c_185 => ?_) (fun c_185 => absurd c_185 (by decide))
    refine m_aload_n X dX3_throughChoice_197 rfl rfl (by first | rfl | exact isR_rf) ?_
    refine m_getf X fg_X3_47_X3 hM.1 rfl dX3_throughChoice_198 ?_
    refine m_iload_n X dX3_throughChoice_201 rfl rfl ?_
    refine s_iald X hM rfl rfl (by exact tin (by simp only [alen]; omega) rfl) dX3_throughChoice_202 ?_
    refine m_topi X ((congrArg _ (nI_clamp (by omega))).trans ((aset_off (by omega)).trans ((layA2_off (by omega)).trans ((aset_off (by omega)).trans ((aset_off (by omega)).trans ((hC 15 n (by omega)).trans h15)))))) ?_
    refine m_callV X cs_X3_244  (c_X3_step hM d 2 c hF (by omega)) hM.1 rfl rfl rfl (Nat.le_of_ble_eq_true rfl) dX3_throughChoice_203 ⟨by decide, by decide, by decide, by decide⟩ (fun v M hp => ?_) (fun _ _ _ _ h => h.elim)
    obtain ⟨rfl, hM⟩ := hp
    refine m_stn ?_
    exact m_vret X dX3_throughChoice_206 (by decide) (by decide) (by exact ⟨rfl, _, _, hM, stp_mk (ins_upd (((hs.ch hC (by intro l h1 h2; omega)).ch aset_ch (by intro l h1 h2; omega)).ch aset_ch (by intro l h1 h2; omega)) ha), (stp_ch _ _ (by omega)).trans ((aset_off (by omega)).trans ((layA2_off (by omega)).trans ((aset_off (by omega)).trans aset_on))), (((((hE.1).ch aset_ch (by intro l h1 h2; omega)).ch aset_ch (by intro l h1 h2; omega)).ch layA2_ch (by intro l h1 h2; omega)).ch aset_ch (by intro l h1 h2; omega)).ch stp_ch (by intro l h1 h2; omega), (((((hR1).ch aset_ch (by intro k l h1 h2; omega)).ch aset_ch (by intro k l h1 h2; omega)).ch layA2_ch (by intro k l h1 h2; omega)).ch aset_ch (by intro k l h1 h2; omega)).ch stp_ch (by intro k l h1 h2; omega), (Ch.tr (U := TT d) (Ch.tr (U := TT d) (Ch.tr (U := TT d) (Ch.tr (U := TT d) (Ch.tr (U := TT d) (Ch.le hC (by intro k l hu; first | (unfold TT at hu ⊢; omega) | (unfold TT at hu; omega)) : Ch (TT d) A0 _) aset_ch (by intro k l hu; first | (unfold TT at hu ⊢; omega) | (unfold TT at hu; omega))) aset_ch (by intro k l hu; first | (unfold TT at hu ⊢; omega) | (unfold TT at hu; omega))) layA2_ch (by intro k l hu; first | (unfold TT at hu ⊢; omega) | (unfold TT at hu; omega))) aset_ch (by intro k l hu; first | (unfold TT at hu ⊢; omega) | (unfold TT at hu; omega))) stp_ch (by intro k l hu; first | (unfold TT at hu ⊢; omega) | (unfold TT at hu; omega)))⟩)
  · skip
    try simp only [bI_0, Bool.not_eq_false] at c_59
    have eI : itsM b = 1 := if_pos c_59
    refine m_iconst X dX3_throughChoice_62 (v := 1) (by decide) ?_
    refine m_goto X dX3_throughChoice_63 (t := 75) (by decide) ?_
    refine m_istore X dX3_throughChoice_75 rfl rfl ?_
    refine m_aload_n X dX3_throughChoice_77 rfl rfl (by first | rfl | exact isR_rf) ?_
    refine m_getf X fg_X3_97_X3 hM.1 rfl dX3_throughChoice_78 ?_
    refine m_bipush X dX3_throughChoice_81 (v := 12) (by decide) ?_
    refine m_iload_n X dX3_throughChoice_83 rfl rfl ?_
    refine m_imul X dX3_throughChoice_84 ?_
    refine m_topi X (pk_mul 12 d) ?_
    refine m_aload_n X dX3_throughChoice_85 rfl rfl (by first | rfl | exact isR_rf) ?_
    refine m_getf X fg_X3_38_X3 hM.1 rfl dX3_throughChoice_86 ?_
    refine m_iload_n X dX3_throughChoice_89 rfl rfl ?_
    refine s_iald X hM rfl rfl (by exact tin (by simp only [alen]; omega) rfl) dX3_throughChoice_90 ?_
    refine m_topi X ((congrArg _ (nI_clamp (by omega))).trans ((hC 12 n (by omega)).trans h12)) ?_
    refine m_iadd X dX3_throughChoice_91 ?_
    refine m_topi X (nI_add _ _) ?_
    refine s_iald X hM rfl rfl (by exact tin (by simp only [alen]; omega) rfl) dX3_throughChoice_92 ?_
    refine m_topi X ((congrArg _ (nI_clamp (by omega))).trans ((hC 38 (12 * d + a) (by omega)).trans (hs a ha))) ?_
    refine m_iload_n X dX3_throughChoice_93 rfl rfl ?_
    refine m_ifne X dX3_throughChoice_94 (t := 102) (by decide) (fun c_94 => ?_) (fun c_94 => absurd c_94 (by decide))
    refine m_iload X dX3_throughChoice_102 rfl ?_
    refine m_iconst X dX3_throughChoice_104 (v := (-1)) (by decide) ?_
    refine m_ixor X dX3_throughChoice_105 ?_
    refine m_iand X dX3_throughChoice_106 ?_
    refine m_topi X ((show _ = (s a &&& (itsM b ^^^ (-1))) by rw [eI])) ?_
    refine m_istore X dX3_throughChoice_107 rfl rfl ?_
    refine m_aload_n X dX3_throughChoice_109 rfl rfl (by first | rfl | exact isR_rf) ?_
    refine m_getf X fg_X3_66_X3 hM.1 rfl dX3_throughChoice_110 ?_
    refine m_aload_n X dX3_throughChoice_113 rfl rfl (by first | rfl | exact isR_rf) ?_
    refine m_getf X fg_X3_228_X3 hM.1 rfl dX3_throughChoice_114 ?_
    refine m_topi X (hF) ?_
    refine m_iload X dX3_throughChoice_117 rfl ?_
    refine s_iast X hM rfl rfl (by exact tin (by simp only [alen]; omega) rfl) dX3_throughChoice_119 (fun M hM => ?_)
    rw [nI_clamp (by omega)] at hM
    refine m_aload_n X dX3_throughChoice_120 rfl rfl (by first | rfl | exact isR_rf) ?_
    refine m_getf X fg_X3_63_X3 hM.1 rfl dX3_throughChoice_121 ?_
    refine m_aload_n X dX3_throughChoice_124 rfl rfl (by first | rfl | exact isR_rf) ?_
    refine m_getf X fg_X3_228_X3 hM.1 rfl dX3_throughChoice_125 ?_
    refine m_topi X (hF) ?_
    refine m_iload_n X dX3_throughChoice_128 rfl rfl ?_
    refine m_iconst X dX3_throughChoice_129 (v := 1) (by decide) ?_
    refine m_iadd X dX3_throughChoice_130 ?_
    refine m_topi X ((show (1 : Int32) + 1 = 2 by decide)) ?_
    refine s_iast X hM rfl rfl (by exact tin (by simp only [alen]; omega) rfl) dX3_throughChoice_131 (fun M hM => ?_)
    rw [nI_clamp (by omega)] at hM
    refine m_iload X dX3_throughChoice_132 rfl ?_
    refine m_ifeq X dX3_throughChoice_134 (t := 206) (by decide) (fun c_134 => absurd c_134 hv0) (fun c_134 => ?_)
    refine m_aload_n X dX3_throughChoice_137 rfl rfl (by first | rfl | exact isR_rf) ?_
    refine m_getf X fg_X3_97_X3 hM.1 rfl dX3_throughChoice_138 ?_
    refine m_bipush X dX3_throughChoice_141 (v := 12) (by decide) ?_
    refine m_iload_n X dX3_throughChoice_143 rfl rfl ?_
    refine m_imul X dX3_throughChoice_144 ?_
    refine m_topi X (pk_mul 12 d) ?_
    refine m_aload_n X dX3_throughChoice_145 rfl rfl (by first | rfl | exact isR_rf) ?_
    refine m_getf X fg_X3_97_X3 hM.1 rfl dX3_throughChoice_146 ?_
    refine m_bipush X dX3_throughChoice_149 (v := 12) (by decide) ?_
    refine m_iload_n X dX3_throughChoice_151 rfl rfl ?_
    refine m_imul X dX3_throughChoice_152 ?_
    refine m_topi X (pk_mul 12 d) ?_
    refine m_bipush X dX3_throughChoice_153 (v := 12) (by decide) ?_
    refine m_iadd X dX3_throughChoice_155 ?_
    refine m_topi X (nI_add _ 12) ?_
    refine m_callS X cs_X3_316  (c_X3_lay_2 hM 38 (12 * d) 38 (12 * d + 12) rfl rfl (by simp only [alen]; omega) (by simp only [alen]; omega) (Or.inr (Or.inl (by omega)))) rfl rfl (Nat.le_of_ble_eq_true rfl) dX3_throughChoice_156 ⟨by decide, by decide, by decide, by decide⟩ (fun v M hp => ?_) (fun _ _ _ _ h => h.elim)
    obtain ⟨rfl, hM⟩ := hp
    refine m_stn ?_
    refine m_aload_n X dX3_throughChoice_159 rfl rfl (by first | rfl | exact isR_rf) ?_
    refine m_getf X fg_X3_97_X3 hM.1 rfl dX3_throughChoice_160 ?_
    refine m_bipush X dX3_throughChoice_163 (v := 12) (by decide) ?_
    refine m_iload_n X dX3_throughChoice_165 rfl rfl ?_
    refine m_imul X dX3_throughChoice_166 ?_
    refine m_topi X (pk_mul 12 d) ?_
    refine m_bipush X dX3_throughChoice_167 (v := 12) (by decide) ?_
    refine m_iadd X dX3_throughChoice_169 ?_
    refine m_topi X (nI_add _ 12) ?_
    refine m_aload_n X dX3_throughChoice_170 rfl rfl (by first | rfl | exact isR_rf) ?_
    refine m_getf X fg_X3_38_X3 hM.1 rfl dX3_throughChoice_171 ?_
    refine m_iload_n X dX3_throughChoice_174 rfl rfl ?_
    refine s_iald X hM rfl rfl (by exact tin (by simp only [alen]; omega) rfl) dX3_throughChoice_175 ?_
    refine m_topi X ((congrArg _ (nI_clamp (by omega))).trans ((layA2_off (by omega)).trans ((aset_off (by omega)).trans ((aset_off (by omega)).trans ((hC 12 n (by omega)).trans h12))))) ?_
    refine m_iadd X dX3_throughChoice_176 ?_
    refine m_topi X (nI_add _ _) ?_
    refine m_iload X dX3_throughChoice_177 rfl ?_
    refine s_iast X hM rfl rfl (by exact tin (by simp only [alen]; omega) rfl) dX3_throughChoice_179 (fun M hM => ?_)
    rw [nI_clamp (by omega)] at hM
    refine m_aload_n X dX3_throughChoice_180 rfl rfl (by first | rfl | exact isR_rf) ?_
    refine m_iload_n X dX3_throughChoice_181 rfl rfl ?_
    refine m_iconst X dX3_throughChoice_182 (v := 1) (by decide) ?_
    refine m_iadd X dX3_throughChoice_183 ?_
    refine m_topi X ((show (1 : Int32) + 1 = 2 by decide)) ?_
    refine m_iload_n X dX3_throughChoice_184 rfl rfl ?_
    refine m_ifne X dX3_throughChoice_185 (t := 197) (by decide) (fun c_185 => ?_) (fun c_185 => absurd c_185 (by decide))
    refine m_aload_n X dX3_throughChoice_197 rfl rfl (by first | rfl | exact isR_rf) ?_
    refine m_getf X fg_X3_47_X3 hM.1 rfl dX3_throughChoice_198 ?_
    refine m_iload_n X dX3_throughChoice_201 rfl rfl ?_
    refine s_iald X hM rfl rfl (by exact tin (by simp only [alen]; omega) rfl) dX3_throughChoice_202 ?_
    refine m_topi X ((congrArg _ (nI_clamp (by omega))).trans ((aset_off (by omega)).trans ((layA2_off (by omega)).trans ((aset_off (by omega)).trans ((aset_off (by omega)).trans ((hC 15 n (by omega)).trans h15)))))) ?_
    refine m_callV X cs_X3_244  (c_X3_step hM d 2 c hF (by omega)) hM.1 rfl rfl rfl (Nat.le_of_ble_eq_true rfl) dX3_throughChoice_203 ⟨by decide, by decide, by decide, by decide⟩ (fun v M hp => ?_) (fun _ _ _ _ h => h.elim)
    obtain ⟨rfl, hM⟩ := hp
    refine m_stn ?_
    exact m_vret X dX3_throughChoice_206 (by decide) (by decide) (by exact ⟨rfl, _, _, hM, stp_mk (ins_upd (((hs.ch hC (by intro l h1 h2; omega)).ch aset_ch (by intro l h1 h2; omega)).ch aset_ch (by intro l h1 h2; omega)) ha), (stp_ch _ _ (by omega)).trans ((aset_off (by omega)).trans ((layA2_off (by omega)).trans ((aset_off (by omega)).trans aset_on))), (((((hE.1).ch aset_ch (by intro l h1 h2; omega)).ch aset_ch (by intro l h1 h2; omega)).ch layA2_ch (by intro l h1 h2; omega)).ch aset_ch (by intro l h1 h2; omega)).ch stp_ch (by intro l h1 h2; omega), (((((hR1).ch aset_ch (by intro k l h1 h2; omega)).ch aset_ch (by intro k l h1 h2; omega)).ch layA2_ch (by intro k l h1 h2; omega)).ch aset_ch (by intro k l h1 h2; omega)).ch stp_ch (by intro k l h1 h2; omega), (Ch.tr (U := TT d) (Ch.tr (U := TT d) (Ch.tr (U := TT d) (Ch.tr (U := TT d) (Ch.tr (U := TT d) (Ch.le hC (by intro k l hu; first | (unfold TT at hu ⊢; omega) | (unfold TT at hu; omega)) : Ch (TT d) A0 _) aset_ch (by intro k l hu; first | (unfold TT at hu ⊢; omega) | (unfold TT at hu; omega))) aset_ch (by intro k l hu; first | (unfold TT at hu ⊢; omega) | (unfold TT at hu; omega))) layA2_ch (by intro k l hu; first | (unfold TT at hu ⊢; omega) | (unfold TT at hu; omega))) aset_ch (by intro k l hu; first | (unfold TT at hu ⊢; omega) | (unfold TT at hu; omega))) stp_ch (by intro k l hu; first | (unfold TT at hu ⊢; omega) | (unfold TT at hu; omega)))⟩)
set_option maxHeartbeats 4000000 in
theorem c_X3_ch1hn {G : GX} {h : Nat} {ad : Nat → Nat} {F : Nat → Int32} {A0 : Nat → Nat → Int32} {B : Nat → Nat → Int64} {M : Mem} (hM : MRep G h ad F A0 B M) {ρ : RP} (n d : Nat) (hn : n < 80) (hd : d < 81) (hF : F 27 = nI d) {s : Nat → Int32} {a : Nat} {b c : Int32} {w v : Wy} (ha : a < 12) (h25 : A0 25 d = 1) (h12 : A0 12 n = nI a) (h13 : A0 13 n = b) (h15 : A0 15 n = c) (hs : IR d A0 s) (hR : RR ρ A0) (hv0 : (s a &&& (itsM b ^^^ (-1))) = 0) (hW : RW 36 d A0 w) (hl : ¬ A0 26 d = 0) (hv : RW 36 (d + 1) A0 v) : Con G yX3_throughChoice wX3_throughChoice (rmm 2 47) [.ref h, .int (nI n), .int (nI d)] M (pV G h ad B fun F' A => F' = F ∧ A 25 d = 2 ∧ A 26 d = 0 ∧ RW 36 d A (putW w v 0 9) ∧ RR ρ A ∧ Ch (TT d) A0 A) nX := by
  refine Con.mk (by decide) rfl [(0, some (.ref h)), (1, some (.int (nI n))), (2, some (.int (nI d)))] rfl fun x X hno => ?_
  refine m_aload_n X dX3_throughChoice_0 rfl rfl (by first | rfl | exact isR_rf) ?_
  refine m_getf X fg_X3_63_X3 hM.1 rfl dX3_throughChoice_1 ?_
  refine m_aload_n X dX3_throughChoice_4 rfl rfl (by first | rfl | exact isR_rf) ?_
  refine m_getf X fg_X3_228_X3 hM.1 rfl dX3_throughChoice_5 ?_
  refine m_topi X (hF) ?_
  refine s_iald X hM rfl rfl (by exact tin (by simp only [alen]; omega) rfl) dX3_throughChoice_8 ?_
  refine m_topi X ((congrArg (A0 25) (nI_clamp (by omega))).trans h25) ?_
  refine m_istore_n X dX3_throughChoice_9 rfl rfl rfl ?_
  refine m_iload_n X dX3_throughChoice_10 rfl rfl ?_
  refine m_ifne X dX3_throughChoice_11 (t := 23) (by decide) (fun c_11 => ?_) (fun c_11 => absurd c_11 (by decide))
  refine m_aload_n X dX3_throughChoice_23 rfl rfl (by first | rfl | exact isR_rf) ?_
  refine m_getf X fg_X3_66_X3 hM.1 rfl dX3_throughChoice_24 ?_
  refine m_aload_n X dX3_throughChoice_27 rfl rfl (by first | rfl | exact isR_rf) ?_
  refine m_getf X fg_X3_228_X3 hM.1 rfl dX3_throughChoice_28 ?_
  refine m_topi X (hF) ?_
  refine s_iald X hM rfl rfl (by exact tin (by simp only [alen]; omega) rfl) dX3_throughChoice_31 ?_
  refine m_topi X (congrArg (A0 26) (nI_clamp (by omega))) ?_
  refine m_ifeq X dX3_throughChoice_32 (t := 41) (by decide) (fun c_32 => absurd c_32 hl) (fun c_32 => ?_)
  refine m_aload_n X dX3_throughChoice_35 rfl rfl (by first | rfl | exact isR_rf) ?_
  refine m_iload_n X dX3_throughChoice_36 rfl rfl ?_
  refine m_iconst X dX3_throughChoice_37 (v := 0) (by decide) ?_
  refine m_callV X cs_X3_324  (c_X3_put hM d 0 hd (by decide) hW hv) hM.1 rfl rfl rfl (Nat.le_of_ble_eq_true rfl) dX3_throughChoice_38 ⟨by decide, by decide, by decide, by decide⟩ (fun v M hp => ?_) (fun _ _ _ _ h => h.elim)
  obtain ⟨rfl, A, hM, hE⟩ := hp
  have hC := hE.2
  have hR1 := hR.ch hC (by intro k l h1 h2; omega)
  refine m_stn ?_
  refine m_iload_n X dX3_throughChoice_41 rfl rfl ?_
  refine m_iconst X dX3_throughChoice_42 (v := 2) (by decide) ?_
  refine m_icmpne X dX3_throughChoice_43 (t := 53) (by decide) (fun c_43 => ?_) (fun c_43 => absurd c_43 (by decide))
  refine m_aload_n X dX3_throughChoice_53 rfl rfl (by first | rfl | exact isR_rf) ?_
  refine m_getf X fg_X3_41_X3 hM.1 rfl dX3_throughChoice_54 ?_
  refine m_iload_n X dX3_throughChoice_57 rfl rfl ?_
  refine s_iald X hM rfl rfl (by exact tin (by simp only [alen]; omega) rfl) dX3_throughChoice_58 ?_
  refine m_topi X ((congrArg _ (nI_clamp (by omega))).trans ((hC 13 n (by omega)).trans h13)) ?_
  refine m_ifne X dX3_throughChoice_59 (t := 66) (by decide) (fun c_59 => ?_) (fun c_59 => ?_)
  · skip
    try simp only [bI_0, Bool.not_eq_false] at c_59
    have eI : itsM b = maskI b := if_neg c_59
    refine m_aload_n X dX3_throughChoice_66 rfl rfl (by first | rfl | exact isR_rf) ?_
    refine m_getf X fg_X3_41_X3 hM.1 rfl dX3_throughChoice_67 ?_
    refine m_iload_n X dX3_throughChoice_70 rfl rfl ?_
    refine s_iald X hM rfl rfl (by exact tin (by simp only [alen]; omega) rfl) dX3_throughChoice_71 ?_
    refine m_topi X ((congrArg _ (nI_clamp (by omega))).trans ((hC 13 n (by omega)).trans h13)) ?_
    refine m_callS X cs_X3_107  (c_X3_mask _ _ _) rfl rfl (Nat.le_of_ble_eq_true rfl) dX3_throughChoice_72 ⟨by decide, by decide, by decide, by decide⟩ (fun v M hp => ?_) (fun _ _ _ _ h => h.elim)
    obtain ⟨rfl, rfl⟩ := hp
    refine m_sti ?_
    refine m_istore X dX3_throughChoice_75 rfl rfl ?_
    refine m_aload_n X dX3_throughChoice_77 rfl rfl (by first | rfl | exact isR_rf) ?_
    refine m_getf X fg_X3_97_X3 hM.1 rfl dX3_throughChoice_78 ?_
    refine m_bipush X dX3_throughChoice_81 (v := 12) (by decide) ?_
    refine m_iload_n X dX3_throughChoice_83 rfl rfl ?_
    refine m_imul X dX3_throughChoice_84 ?_
    refine m_topi X (pk_mul 12 d) ?_
    refine m_aload_n X dX3_throughChoice_85 rfl rfl (by first | rfl | exact isR_rf) ?_
    refine m_getf X fg_X3_38_X3 hM.1 rfl dX3_throughChoice_86 ?_
    refine m_iload_n X dX3_throughChoice_89 rfl rfl ?_
    refine s_iald X hM rfl rfl (by exact tin (by simp only [alen]; omega) rfl) dX3_throughChoice_90 ?_
    refine m_topi X ((congrArg _ (nI_clamp (by omega))).trans ((hC 12 n (by omega)).trans h12)) ?_
    refine m_iadd X dX3_throughChoice_91 ?_
    refine m_topi X (nI_add _ _) ?_
    refine s_iald X hM rfl rfl (by exact tin (by simp only [alen]; omega) rfl) dX3_throughChoice_92 ?_
    refine m_topi X ((congrArg _ (nI_clamp (by omega))).trans ((hC 38 (12 * d + a) (by omega)).trans (hs a ha))) ?_
    refine m_iload_n X dX3_throughChoice_93 rfl rfl ?_
    refine m_ifne X dX3_throughChoice_94 (t := 102) (by decide) (fun c_94 => ?_) (fun c_94 => absurd c_94 (by decide))
    refine m_iload X dX3_throughChoice_102 rfl ?_
    refine m_iconst X dX3_throughChoice_104 (v := (-1)) (by decide) ?_
    refine m_ixor X dX3_throughChoice_105 ?_
    refine m_iand X dX3_throughChoice_106 ?_
    refine m_topi X ((show _ = (s a &&& (itsM b ^^^ (-1))) by rw [eI])) ?_
    refine m_istore X dX3_throughChoice_107 rfl rfl ?_
    refine m_aload_n X dX3_throughChoice_109 rfl rfl (by first | rfl | exact isR_rf) ?_
    refine m_getf X fg_X3_66_X3 hM.1 rfl dX3_throughChoice_110 ?_
    refine m_aload_n X dX3_throughChoice_113 rfl rfl (by first | rfl | exact isR_rf) ?_
    refine m_getf X fg_X3_228_X3 hM.1 rfl dX3_throughChoice_114 ?_
    refine m_topi X (hF) ?_
    refine m_iload X dX3_throughChoice_117 rfl ?_
    refine s_iast X hM rfl rfl (by exact tin (by simp only [alen]; omega) rfl) dX3_throughChoice_119 (fun M hM => ?_)
    rw [nI_clamp (by omega)] at hM
    refine m_aload_n X dX3_throughChoice_120 rfl rfl (by first | rfl | exact isR_rf) ?_
    refine m_getf X fg_X3_63_X3 hM.1 rfl dX3_throughChoice_121 ?_
    refine m_aload_n X dX3_throughChoice_124 rfl rfl (by first | rfl | exact isR_rf) ?_
    refine m_getf X fg_X3_228_X3 hM.1 rfl dX3_throughChoice_125 ?_
    refine m_topi X (hF) ?_
    refine m_iload_n X dX3_throughChoice_128 rfl rfl ?_
    refine m_iconst X dX3_throughChoice_129 (v := 1) (by decide) ?_
    refine m_iadd X dX3_throughChoice_130 ?_
    refine m_topi X ((show (1 : Int32) + 1 = 2 by decide)) ?_
    refine s_iast X hM rfl rfl (by exact tin (by simp only [alen]; omega) rfl) dX3_throughChoice_131 (fun M hM => ?_)
    rw [nI_clamp (by omega)] at hM
    refine m_iload X dX3_throughChoice_132 rfl ?_
    refine m_ifeq X dX3_throughChoice_134 (t := 206) (by decide) (fun c_134 => ?_) (fun c_134 => absurd hv0 c_134)
    exact m_vret X dX3_throughChoice_206 (by decide) (by decide) (by exact ⟨rfl, _, _, hM, rfl, aset_on, (aset_off (by omega)).trans (aset_on.trans hv0), ((hE.1).ch aset_ch (by intro l h1 h2; omega)).ch aset_ch (by intro l h1 h2; omega), ((hR1).ch aset_ch (by intro k l h1 h2; omega)).ch aset_ch (by intro k l h1 h2; omega), (Ch.tr (U := TT d) (Ch.tr (U := TT d) (Ch.le hC (by intro k l hu; first | (unfold TT at hu ⊢; omega) | (unfold TT at hu; omega)) : Ch (TT d) A0 _) aset_ch (by intro k l hu; first | (unfold TT at hu ⊢; omega) | (unfold TT at hu; omega))) aset_ch (by intro k l hu; first | (unfold TT at hu ⊢; omega) | (unfold TT at hu; omega)))⟩)
  · skip
    try simp only [bI_0, Bool.not_eq_false] at c_59
    have eI : itsM b = 1 := if_pos c_59
    refine m_iconst X dX3_throughChoice_62 (v := 1) (by decide) ?_
    refine m_goto X dX3_throughChoice_63 (t := 75) (by decide) ?_
    refine m_istore X dX3_throughChoice_75 rfl rfl ?_
    refine m_aload_n X dX3_throughChoice_77 rfl rfl (by first | rfl | exact isR_rf) ?_
    refine m_getf X fg_X3_97_X3 hM.1 rfl dX3_throughChoice_78 ?_
    refine m_bipush X dX3_throughChoice_81 (v := 12) (by decide) ?_
    refine m_iload_n X dX3_throughChoice_83 rfl rfl ?_
    refine m_imul X dX3_throughChoice_84 ?_
    refine m_topi X (pk_mul 12 d) ?_
    refine m_aload_n X dX3_throughChoice_85 rfl rfl (by first | rfl | exact isR_rf) ?_
    refine m_getf X fg_X3_38_X3 hM.1 rfl dX3_throughChoice_86 ?_
    refine m_iload_n X dX3_throughChoice_89 rfl rfl ?_
    refine s_iald X hM rfl rfl (by exact tin (by simp only [alen]; omega) rfl) dX3_throughChoice_90 ?_
    refine m_topi X ((congrArg _ (nI_clamp (by omega))).trans ((hC 12 n (by omega)).trans h12)) ?_
    refine m_iadd X dX3_throughChoice_91 ?_
    refine m_topi X (nI_add _ _) ?_
    refine s_iald X hM rfl rfl (by exact tin (by simp only [alen]; omega) rfl) dX3_throughChoice_92 ?_
    refine m_topi X ((congrArg _ (nI_clamp (by omega))).trans ((hC 38 (12 * d + a) (by omega)).trans (hs a ha))) ?_
    refine m_iload_n X dX3_throughChoice_93 rfl rfl ?_
    refine m_ifne X dX3_throughChoice_94 (t := 102) (by decide) (fun c_94 => ?_) (fun c_94 => absurd c_94 (by decide))
    refine m_iload X dX3_throughChoice_102 rfl ?_
    refine m_iconst X dX3_throughChoice_104 (v := (-1)) (by decide) ?_
    refine m_ixor X dX3_throughChoice_105 ?_
    refine m_iand X dX3_throughChoice_106 ?_
    refine m_topi X ((show _ = (s a &&& (itsM b ^^^ (-1))) by rw [eI])) ?_
    refine m_istore X dX3_throughChoice_107 rfl rfl ?_
    refine m_aload_n X dX3_throughChoice_109 rfl rfl (by first | rfl | exact isR_rf) ?_
    refine m_getf X fg_X3_66_X3 hM.1 rfl dX3_throughChoice_110 ?_
    refine m_aload_n X dX3_throughChoice_113 rfl rfl (by first | rfl | exact isR_rf) ?_
    refine m_getf X fg_X3_228_X3 hM.1 rfl dX3_throughChoice_114 ?_
    refine m_topi X (hF) ?_
    refine m_iload X dX3_throughChoice_117 rfl ?_
    refine s_iast X hM rfl rfl (by exact tin (by simp only [alen]; omega) rfl) dX3_throughChoice_119 (fun M hM => ?_)
    rw [nI_clamp (by omega)] at hM
    refine m_aload_n X dX3_throughChoice_120 rfl rfl (by first | rfl | exact isR_rf) ?_
    refine m_getf X fg_X3_63_X3 hM.1 rfl dX3_throughChoice_121 ?_
    refine m_aload_n X dX3_throughChoice_124 rfl rfl (by first | rfl | exact isR_rf) ?_
    refine m_getf X fg_X3_228_X3 hM.1 rfl dX3_throughChoice_125 ?_
    refine m_topi X (hF) ?_
    refine m_iload_n X dX3_throughChoice_128 rfl rfl ?_
    refine m_iconst X dX3_throughChoice_129 (v := 1) (by decide) ?_
    refine m_iadd X dX3_throughChoice_130 ?_
    refine m_topi X ((show (1 : Int32) + 1 = 2 by decide)) ?_
    refine s_iast X hM rfl rfl (by exact tin (by simp only [alen]; omega) rfl) dX3_throughChoice_131 (fun M hM => ?_)
    rw [nI_clamp (by omega)] at hM
    refine m_iload X dX3_throughChoice_132 rfl ?_
    refine m_ifeq X dX3_throughChoice_134 (t := 206) (by decide) (fun c_134 => ?_) (fun c_134 => absurd hv0 c_134)
    exact m_vret X dX3_throughChoice_206 (by decide) (by decide) (by exact ⟨rfl, _, _, hM, rfl, aset_on, (aset_off (by omega)).trans (aset_on.trans hv0), ((hE.1).ch aset_ch (by intro l h1 h2; omega)).ch aset_ch (by intro l h1 h2; omega), ((hR1).ch aset_ch (by intro k l h1 h2; omega)).ch aset_ch (by intro k l h1 h2; omega), (Ch.tr (U := TT d) (Ch.tr (U := TT d) (Ch.le hC (by intro k l hu; first | (unfold TT at hu ⊢; omega) | (unfold TT at hu; omega)) : Ch (TT d) A0 _) aset_ch (by intro k l hu; first | (unfold TT at hu ⊢; omega) | (unfold TT at hu; omega))) aset_ch (by intro k l hu; first | (unfold TT at hu ⊢; omega) | (unfold TT at hu; omega)))⟩)
set_option maxHeartbeats 4000000 in
theorem c_X3_ch1y {G : GX} {h : Nat} {ad : Nat → Nat} {F : Nat → Int32} {A0 : Nat → Nat → Int32} {B : Nat → Nat → Int64} {M : Mem} (hM : MRep G h ad F A0 B M) {ρ : RP} (n d : Nat) (hn : n < 80) (hd : d < 81) (hF : F 27 = nI d) {s : Nat → Int32} {a : Nat} {b c : Int32} {w v : Wy} (ha : a < 12) (h25 : A0 25 d = 1) (h12 : A0 12 n = nI a) (h13 : A0 13 n = b) (h15 : A0 15 n = c) (hs : IR d A0 s) (hR : RR ρ A0) (hv0 : ¬ (s a &&& (itsM b ^^^ (-1))) = 0) (hW : RW 36 d A0 w) (hl : A0 26 d = 0) : Con G yX3_throughChoice wX3_throughChoice (rmm 2 47) [.ref h, .int (nI n), .int (nI d)] M (pV G h ad B fun F' A => STp d F c (upd s a (s a &&& (itsM b ^^^ (-1)))) 2 F' A ∧ A 26 d = (s a &&& (itsM b ^^^ (-1))) ∧ RW 36 d A w ∧ RR ρ A ∧ Ch (TT d) A0 A) nX := by
  refine Con.mk (by decide) rfl [(0, some (.ref h)), (1, some (.int (nI n))), (2, some (.int (nI d)))] rfl fun x X hno => ?_
  refine m_aload_n X dX3_throughChoice_0 rfl rfl (by first | rfl | exact isR_rf) ?_
  refine m_getf X fg_X3_63_X3 hM.1 rfl dX3_throughChoice_1 ?_
  refine m_aload_n X dX3_throughChoice_4 rfl rfl (by first | rfl | exact isR_rf) ?_
  refine m_getf X fg_X3_228_X3 hM.1 rfl dX3_throughChoice_5 ?_
  refine m_topi X (hF) ?_
  refine s_iald X hM rfl rfl (by exact tin (by simp only [alen]; omega) rfl) dX3_throughChoice_8 ?_
  refine m_topi X ((congrArg (A0 25) (nI_clamp (by omega))).trans h25) ?_
  refine m_istore_n X dX3_throughChoice_9 rfl rfl rfl ?_
  refine m_iload_n X dX3_throughChoice_10 rfl rfl ?_
  refine m_ifne X dX3_throughChoice_11 (t := 23) (by decide) (fun c_11 => ?_) (fun c_11 => absurd c_11 (by decide))
  refine m_aload_n X dX3_throughChoice_23 rfl rfl (by first | rfl | exact isR_rf) ?_
  refine m_getf X fg_X3_66_X3 hM.1 rfl dX3_throughChoice_24 ?_
  refine m_aload_n X dX3_throughChoice_27 rfl rfl (by first | rfl | exact isR_rf) ?_
  refine m_getf X fg_X3_228_X3 hM.1 rfl dX3_throughChoice_28 ?_
  refine m_topi X (hF) ?_
  refine s_iald X hM rfl rfl (by exact tin (by simp only [alen]; omega) rfl) dX3_throughChoice_31 ?_
  refine m_topi X (congrArg (A0 26) (nI_clamp (by omega))) ?_
  refine m_ifeq X dX3_throughChoice_32 (t := 41) (by decide) (fun c_32 => ?_) (fun c_32 => absurd hl c_32)
  refine m_iload_n X dX3_throughChoice_41 rfl rfl ?_
  refine m_iconst X dX3_throughChoice_42 (v := 2) (by decide) ?_
  refine m_icmpne X dX3_throughChoice_43 (t := 53) (by decide) (fun c_43 => ?_) (fun c_43 => absurd c_43 (by decide))
  have hC : Ch (fun k _ => k = 39) A0 A0 := Ch.rf
  have hR1 := hR
  refine m_aload_n X dX3_throughChoice_53 rfl rfl (by first | rfl | exact isR_rf) ?_
  refine m_getf X fg_X3_41_X3 hM.1 rfl dX3_throughChoice_54 ?_
  refine m_iload_n X dX3_throughChoice_57 rfl rfl ?_
  refine s_iald X hM rfl rfl (by exact tin (by simp only [alen]; omega) rfl) dX3_throughChoice_58 ?_
  refine m_topi X ((congrArg _ (nI_clamp (by omega))).trans ((hC 13 n (by omega)).trans h13)) ?_
  refine m_ifne X dX3_throughChoice_59 (t := 66) (by decide) (fun c_59 => ?_) (fun c_59 => ?_)
  · skip
    try simp only [bI_0, Bool.not_eq_false] at c_59
    have eI : itsM b = maskI b := if_neg c_59
    refine m_aload_n X dX3_throughChoice_66 rfl rfl (by first | rfl | exact isR_rf) ?_
    refine m_getf X fg_X3_41_X3 hM.1 rfl dX3_throughChoice_67 ?_
    refine m_iload_n X dX3_throughChoice_70 rfl rfl ?_
    refine s_iald X hM rfl rfl (by exact tin (by simp only [alen]; omega) rfl) dX3_throughChoice_71 ?_
    refine m_topi X ((congrArg _ (nI_clamp (by omega))).trans ((hC 13 n (by omega)).trans h13)) ?_
    refine m_callS X cs_X3_107  (c_X3_mask _ _ _) rfl rfl (Nat.le_of_ble_eq_true rfl) dX3_throughChoice_72 ⟨by decide, by decide, by decide, by decide⟩ (fun v M hp => ?_) (fun _ _ _ _ h => h.elim)
    obtain ⟨rfl, rfl⟩ := hp
    refine m_sti ?_
    refine m_istore X dX3_throughChoice_75 rfl rfl ?_
    refine m_aload_n X dX3_throughChoice_77 rfl rfl (by first | rfl | exact isR_rf) ?_
    refine m_getf X fg_X3_97_X3 hM.1 rfl dX3_throughChoice_78 ?_
    refine m_bipush X dX3_throughChoice_81 (v := 12) (by decide) ?_
    refine m_iload_n X dX3_throughChoice_83 rfl rfl ?_
    refine m_imul X dX3_throughChoice_84 ?_
    refine m_topi X (pk_mul 12 d) ?_
    refine m_aload_n X dX3_throughChoice_85 rfl rfl (by first | rfl | exact isR_rf) ?_
    refine m_getf X fg_X3_38_X3 hM.1 rfl dX3_throughChoice_86 ?_
    refine m_iload_n X dX3_throughChoice_89 rfl rfl ?_
    refine s_iald X hM rfl rfl (by exact tin (by simp only [alen]; omega) rfl) dX3_throughChoice_90 ?_
    refine m_topi X ((congrArg _ (nI_clamp (by omega))).trans ((hC 12 n (by omega)).trans h12)) ?_
    refine m_iadd X dX3_throughChoice_91 ?_
    refine m_topi X (nI_add _ _) ?_
    refine s_iald X hM rfl rfl (by exact tin (by simp only [alen]; omega) rfl) dX3_throughChoice_92 ?_
    refine m_topi X ((congrArg _ (nI_clamp (by omega))).trans ((hC 38 (12 * d + a) (by omega)).trans (hs a ha))) ?_
    refine m_iload_n X dX3_throughChoice_93 rfl rfl ?_
    refine m_ifne X dX3_throughChoice_94 (t := 102) (by decide) (fun c_94 => ?_) (fun c_94 => absurd c_94 (by decide))
    refine m_iload X dX3_throughChoice_102 rfl ?_
    refine m_iconst X dX3_throughChoice_104 (v := (-1)) (by decide) ?_
    refine m_ixor X dX3_throughChoice_105 ?_
    refine m_iand X dX3_throughChoice_106 ?_
    refine m_topi X ((show _ = (s a &&& (itsM b ^^^ (-1))) by rw [eI])) ?_
    refine m_istore X dX3_throughChoice_107 rfl rfl ?_
    refine m_aload_n X dX3_throughChoice_109 rfl rfl (by first | rfl | exact isR_rf) ?_
    refine m_getf X fg_X3_66_X3 hM.1 rfl dX3_throughChoice_110 ?_
    refine m_aload_n X dX3_throughChoice_113 rfl rfl (by first | rfl | exact isR_rf) ?_
    refine m_getf X fg_X3_228_X3 hM.1 rfl dX3_throughChoice_114 ?_
    refine m_topi X (hF) ?_
    refine m_iload X dX3_throughChoice_117 rfl ?_
    refine s_iast X hM rfl rfl (by exact tin (by simp only [alen]; omega) rfl) dX3_throughChoice_119 (fun M hM => ?_)
    rw [nI_clamp (by omega)] at hM
    refine m_aload_n X dX3_throughChoice_120 rfl rfl (by first | rfl | exact isR_rf) ?_
    refine m_getf X fg_X3_63_X3 hM.1 rfl dX3_throughChoice_121 ?_
    refine m_aload_n X dX3_throughChoice_124 rfl rfl (by first | rfl | exact isR_rf) ?_
    refine m_getf X fg_X3_228_X3 hM.1 rfl dX3_throughChoice_125 ?_
    refine m_topi X (hF) ?_
    refine m_iload_n X dX3_throughChoice_128 rfl rfl ?_
    refine m_iconst X dX3_throughChoice_129 (v := 1) (by decide) ?_
    refine m_iadd X dX3_throughChoice_130 ?_
    refine m_topi X ((show (1 : Int32) + 1 = 2 by decide)) ?_
    refine s_iast X hM rfl rfl (by exact tin (by simp only [alen]; omega) rfl) dX3_throughChoice_131 (fun M hM => ?_)
    rw [nI_clamp (by omega)] at hM
    refine m_iload X dX3_throughChoice_132 rfl ?_
    refine m_ifeq X dX3_throughChoice_134 (t := 206) (by decide) (fun c_134 => absurd c_134 hv0) (fun c_134 => ?_)
    refine m_aload_n X dX3_throughChoice_137 rfl rfl (by first | rfl | exact isR_rf) ?_
    refine m_getf X fg_X3_97_X3 hM.1 rfl dX3_throughChoice_138 ?_
    refine m_bipush X dX3_throughChoice_141 (v := 12) (by decide) ?_
    refine m_iload_n X dX3_throughChoice_143 rfl rfl ?_
    refine m_imul X dX3_throughChoice_144 ?_
    refine m_topi X (pk_mul 12 d) ?_
    refine m_aload_n X dX3_throughChoice_145 rfl rfl (by first | rfl | exact isR_rf) ?_
    refine m_getf X fg_X3_97_X3 hM.1 rfl dX3_throughChoice_146 ?_
    refine m_bipush X dX3_throughChoice_149 (v := 12) (by decide) ?_
    refine m_iload_n X dX3_throughChoice_151 rfl rfl ?_
    refine m_imul X dX3_throughChoice_152 ?_
    refine m_topi X (pk_mul 12 d) ?_
    refine m_bipush X dX3_throughChoice_153 (v := 12) (by decide) ?_
    refine m_iadd X dX3_throughChoice_155 ?_
    refine m_topi X (nI_add _ 12) ?_
    refine m_callS X cs_X3_316  (c_X3_lay_2 hM 38 (12 * d) 38 (12 * d + 12) rfl rfl (by simp only [alen]; omega) (by simp only [alen]; omega) (Or.inr (Or.inl (by omega)))) rfl rfl (Nat.le_of_ble_eq_true rfl) dX3_throughChoice_156 ⟨by decide, by decide, by decide, by decide⟩ (fun v M hp => ?_) (fun _ _ _ _ h => h.elim)
    obtain ⟨rfl, hM⟩ := hp
    refine m_stn ?_
    refine m_aload_n X dX3_throughChoice_159 rfl rfl (by first | rfl | exact isR_rf) ?_
    refine m_getf X fg_X3_97_X3 hM.1 rfl dX3_throughChoice_160 ?_
    refine m_bipush X dX3_throughChoice_163 (v := 12) (by decide) ?_
    refine m_iload_n X dX3_throughChoice_165 rfl rfl ?_
    refine m_imul X dX3_throughChoice_166 ?_
    refine m_topi X (pk_mul 12 d) ?_
    refine m_bipush X dX3_throughChoice_167 (v := 12) (by decide) ?_
    refine m_iadd X dX3_throughChoice_169 ?_
    refine m_topi X (nI_add _ 12) ?_
    refine m_aload_n X dX3_throughChoice_170 rfl rfl (by first | rfl | exact isR_rf) ?_
    refine m_getf X fg_X3_38_X3 hM.1 rfl dX3_throughChoice_171 ?_
    refine m_iload_n X dX3_throughChoice_174 rfl rfl ?_
    refine s_iald X hM rfl rfl (by exact tin (by simp only [alen]; omega) rfl) dX3_throughChoice_175 ?_
    refine m_topi X ((congrArg _ (nI_clamp (by omega))).trans ((layA2_off (by omega)).trans ((aset_off (by omega)).trans ((aset_off (by omega)).trans ((hC 12 n (by omega)).trans h12))))) ?_
    refine m_iadd X dX3_throughChoice_176 ?_
    refine m_topi X (nI_add _ _) ?_
    refine m_iload X dX3_throughChoice_177 rfl ?_
    refine s_iast X hM rfl rfl (by exact tin (by simp only [alen]; omega) rfl) dX3_throughChoice_179 (fun M hM => ?_)
    rw [nI_clamp (by omega)] at hM
    refine m_aload_n X dX3_throughChoice_180 rfl rfl (by first | rfl | exact isR_rf) ?_
    refine m_iload_n X dX3_throughChoice_181 rfl rfl ?_
    refine m_iconst X dX3_throughChoice_182 (v := 1) (by decide) ?_
    refine m_iadd X dX3_throughChoice_183 ?_
    refine m_topi X ((show (1 : Int32) + 1 = 2 by decide)) ?_
    refine m_iload_n X dX3_throughChoice_184 rfl rfl ?_
    refine m_ifne X dX3_throughChoice_185 (t := 197) (by decide) (fun c_185 => ?_) (fun c_185 => absurd c_185 (by decide))
    refine m_aload_n X dX3_throughChoice_197 rfl rfl (by first | rfl | exact isR_rf) ?_
    refine m_getf X fg_X3_47_X3 hM.1 rfl dX3_throughChoice_198 ?_
    refine m_iload_n X dX3_throughChoice_201 rfl rfl ?_
    refine s_iald X hM rfl rfl (by exact tin (by simp only [alen]; omega) rfl) dX3_throughChoice_202 ?_
    refine m_topi X ((congrArg _ (nI_clamp (by omega))).trans ((aset_off (by omega)).trans ((layA2_off (by omega)).trans ((aset_off (by omega)).trans ((aset_off (by omega)).trans ((hC 15 n (by omega)).trans h15)))))) ?_
    refine m_callV X cs_X3_244  (c_X3_step hM d 2 c hF (by omega)) hM.1 rfl rfl rfl (Nat.le_of_ble_eq_true rfl) dX3_throughChoice_203 ⟨by decide, by decide, by decide, by decide⟩ (fun v M hp => ?_) (fun _ _ _ _ h => h.elim)
    obtain ⟨rfl, hM⟩ := hp
    refine m_stn ?_
    exact m_vret X dX3_throughChoice_206 (by decide) (by decide) (by exact ⟨rfl, _, _, hM, stp_mk (ins_upd (((hs.ch hC (by intro l h1 h2; omega)).ch aset_ch (by intro l h1 h2; omega)).ch aset_ch (by intro l h1 h2; omega)) ha), (stp_ch _ _ (by omega)).trans ((aset_off (by omega)).trans ((layA2_off (by omega)).trans ((aset_off (by omega)).trans aset_on))), (((((hW).ch aset_ch (by intro l h1 h2; omega)).ch aset_ch (by intro l h1 h2; omega)).ch layA2_ch (by intro l h1 h2; omega)).ch aset_ch (by intro l h1 h2; omega)).ch stp_ch (by intro l h1 h2; omega), (((((hR1).ch aset_ch (by intro k l h1 h2; omega)).ch aset_ch (by intro k l h1 h2; omega)).ch layA2_ch (by intro k l h1 h2; omega)).ch aset_ch (by intro k l h1 h2; omega)).ch stp_ch (by intro k l h1 h2; omega), (Ch.tr (U := TT d) (Ch.tr (U := TT d) (Ch.tr (U := TT d) (Ch.tr (U := TT d) (Ch.tr (U := TT d) (Ch.le hC (by intro k l hu; first | (unfold TT at hu ⊢; omega) | (unfold TT at hu; omega)) : Ch (TT d) A0 _) aset_ch (by intro k l hu; first | (unfold TT at hu ⊢; omega) | (unfold TT at hu; omega))) aset_ch (by intro k l hu; first | (unfold TT at hu ⊢; omega) | (unfold TT at hu; omega))) layA2_ch (by intro k l hu; first | (unfold TT at hu ⊢; omega) | (unfold TT at hu; omega))) aset_ch (by intro k l hu; first | (unfold TT at hu ⊢; omega) | (unfold TT at hu; omega))) stp_ch (by intro k l hu; first | (unfold TT at hu ⊢; omega) | (unfold TT at hu; omega)))⟩)
  · skip
    try simp only [bI_0, Bool.not_eq_false] at c_59
    have eI : itsM b = 1 := if_pos c_59
    refine m_iconst X dX3_throughChoice_62 (v := 1) (by decide) ?_
    refine m_goto X dX3_throughChoice_63 (t := 75) (by decide) ?_
    refine m_istore X dX3_throughChoice_75 rfl rfl ?_
    refine m_aload_n X dX3_throughChoice_77 rfl rfl (by first | rfl | exact isR_rf) ?_
    refine m_getf X fg_X3_97_X3 hM.1 rfl dX3_throughChoice_78 ?_
    refine m_bipush X dX3_throughChoice_81 (v := 12) (by decide) ?_
    refine m_iload_n X dX3_throughChoice_83 rfl rfl ?_
    refine m_imul X dX3_throughChoice_84 ?_
    refine m_topi X (pk_mul 12 d) ?_
    refine m_aload_n X dX3_throughChoice_85 rfl rfl (by first | rfl | exact isR_rf) ?_
    refine m_getf X fg_X3_38_X3 hM.1 rfl dX3_throughChoice_86 ?_
    refine m_iload_n X dX3_throughChoice_89 rfl rfl ?_
    refine s_iald X hM rfl rfl (by exact tin (by simp only [alen]; omega) rfl) dX3_throughChoice_90 ?_
    refine m_topi X ((congrArg _ (nI_clamp (by omega))).trans ((hC 12 n (by omega)).trans h12)) ?_
    refine m_iadd X dX3_throughChoice_91 ?_
    refine m_topi X (nI_add _ _) ?_
    refine s_iald X hM rfl rfl (by exact tin (by simp only [alen]; omega) rfl) dX3_throughChoice_92 ?_
    refine m_topi X ((congrArg _ (nI_clamp (by omega))).trans ((hC 38 (12 * d + a) (by omega)).trans (hs a ha))) ?_
    refine m_iload_n X dX3_throughChoice_93 rfl rfl ?_
    refine m_ifne X dX3_throughChoice_94 (t := 102) (by decide) (fun c_94 => ?_) (fun c_94 => absurd c_94 (by decide))
    refine m_iload X dX3_throughChoice_102 rfl ?_
    refine m_iconst X dX3_throughChoice_104 (v := (-1)) (by decide) ?_
    refine m_ixor X dX3_throughChoice_105 ?_
    refine m_iand X dX3_throughChoice_106 ?_
    refine m_topi X ((show _ = (s a &&& (itsM b ^^^ (-1))) by rw [eI])) ?_
    refine m_istore X dX3_throughChoice_107 rfl rfl ?_
    refine m_aload_n X dX3_throughChoice_109 rfl rfl (by first | rfl | exact isR_rf) ?_
    refine m_getf X fg_X3_66_X3 hM.1 rfl dX3_throughChoice_110 ?_
    refine m_aload_n X dX3_throughChoice_113 rfl rfl (by first | rfl | exact isR_rf) ?_
    refine m_getf X fg_X3_228_X3 hM.1 rfl dX3_throughChoice_114 ?_
    refine m_topi X (hF) ?_
    refine m_iload X dX3_throughChoice_117 rfl ?_
    refine s_iast X hM rfl rfl (by exact tin (by simp only [alen]; omega) rfl) dX3_throughChoice_119 (fun M hM => ?_)
    rw [nI_clamp (by omega)] at hM
    refine m_aload_n X dX3_throughChoice_120 rfl rfl (by first | rfl | exact isR_rf) ?_
    refine m_getf X fg_X3_63_X3 hM.1 rfl dX3_throughChoice_121 ?_
    refine m_aload_n X dX3_throughChoice_124 rfl rfl (by first | rfl | exact isR_rf) ?_
    refine m_getf X fg_X3_228_X3 hM.1 rfl dX3_throughChoice_125 ?_
    refine m_topi X (hF) ?_
    refine m_iload_n X dX3_throughChoice_128 rfl rfl ?_
    refine m_iconst X dX3_throughChoice_129 (v := 1) (by decide) ?_
    refine m_iadd X dX3_throughChoice_130 ?_
    refine m_topi X ((show (1 : Int32) + 1 = 2 by decide)) ?_
    refine s_iast X hM rfl rfl (by exact tin (by simp only [alen]; omega) rfl) dX3_throughChoice_131 (fun M hM => ?_)
    rw [nI_clamp (by omega)] at hM
    refine m_iload X dX3_throughChoice_132 rfl ?_
    refine m_ifeq X dX3_throughChoice_134 (t := 206) (by decide) (fun c_134 => absurd c_134 hv0) (fun c_134 => ?_)
    refine m_aload_n X dX3_throughChoice_137 rfl rfl (by first | rfl | exact isR_rf) ?_
    refine m_getf X fg_X3_97_X3 hM.1 rfl dX3_throughChoice_138 ?_
    refine m_bipush X dX3_throughChoice_141 (v := 12) (by decide) ?_
    refine m_iload_n X dX3_throughChoice_143 rfl rfl ?_
    refine m_imul X dX3_throughChoice_144 ?_
    refine m_topi X (pk_mul 12 d) ?_
    refine m_aload_n X dX3_throughChoice_145 rfl rfl (by first | rfl | exact isR_rf) ?_
    refine m_getf X fg_X3_97_X3 hM.1 rfl dX3_throughChoice_146 ?_
    refine m_bipush X dX3_throughChoice_149 (v := 12) (by decide) ?_
    refine m_iload_n X dX3_throughChoice_151 rfl rfl ?_
    refine m_imul X dX3_throughChoice_152 ?_
    refine m_topi X (pk_mul 12 d) ?_
    refine m_bipush X dX3_throughChoice_153 (v := 12) (by decide) ?_
    refine m_iadd X dX3_throughChoice_155 ?_
    refine m_topi X (nI_add _ 12) ?_
    refine m_callS X cs_X3_316  (c_X3_lay_2 hM 38 (12 * d) 38 (12 * d + 12) rfl rfl (by simp only [alen]; omega) (by simp only [alen]; omega) (Or.inr (Or.inl (by omega)))) rfl rfl (Nat.le_of_ble_eq_true rfl) dX3_throughChoice_156 ⟨by decide, by decide, by decide, by decide⟩ (fun v M hp => ?_) (fun _ _ _ _ h => h.elim)
    obtain ⟨rfl, hM⟩ := hp
    refine m_stn ?_
    refine m_aload_n X dX3_throughChoice_159 rfl rfl (by first | rfl | exact isR_rf) ?_
    refine m_getf X fg_X3_97_X3 hM.1 rfl dX3_throughChoice_160 ?_
    refine m_bipush X dX3_throughChoice_163 (v := 12) (by decide) ?_
    refine m_iload_n X dX3_throughChoice_165 rfl rfl ?_
    refine m_imul X dX3_throughChoice_166 ?_
    refine m_topi X (pk_mul 12 d) ?_
    refine m_bipush X dX3_throughChoice_167 (v := 12) (by decide) ?_
    refine m_iadd X dX3_throughChoice_169 ?_
    refine m_topi X (nI_add _ 12) ?_
    refine m_aload_n X dX3_throughChoice_170 rfl rfl (by first | rfl | exact isR_rf) ?_
    refine m_getf X fg_X3_38_X3 hM.1 rfl dX3_throughChoice_171 ?_
    refine m_iload_n X dX3_throughChoice_174 rfl rfl ?_
    refine s_iald X hM rfl rfl (by exact tin (by simp only [alen]; omega) rfl) dX3_throughChoice_175 ?_
    refine m_topi X ((congrArg _ (nI_clamp (by omega))).trans ((layA2_off (by omega)).trans ((aset_off (by omega)).trans ((aset_off (by omega)).trans ((hC 12 n (by omega)).trans h12))))) ?_
    refine m_iadd X dX3_throughChoice_176 ?_
    refine m_topi X (nI_add _ _) ?_
    refine m_iload X dX3_throughChoice_177 rfl ?_
    refine s_iast X hM rfl rfl (by exact tin (by simp only [alen]; omega) rfl) dX3_throughChoice_179 (fun M hM => ?_)
    rw [nI_clamp (by omega)] at hM
    refine m_aload_n X dX3_throughChoice_180 rfl rfl (by first | rfl | exact isR_rf) ?_
    refine m_iload_n X dX3_throughChoice_181 rfl rfl ?_
    refine m_iconst X dX3_throughChoice_182 (v := 1) (by decide) ?_
    refine m_iadd X dX3_throughChoice_183 ?_
    refine m_topi X ((show (1 : Int32) + 1 = 2 by decide)) ?_
    refine m_iload_n X dX3_throughChoice_184 rfl rfl ?_
    refine m_ifne X dX3_throughChoice_185 (t := 197) (by decide) (fun c_185 => ?_) (fun c_185 => absurd c_185 (by decide))
    refine m_aload_n X dX3_throughChoice_197 rfl rfl (by first | rfl | exact isR_rf) ?_
    refine m_getf X fg_X3_47_X3 hM.1 rfl dX3_throughChoice_198 ?_
    refine m_iload_n X dX3_throughChoice_201 rfl rfl ?_
    refine s_iald X hM rfl rfl (by exact tin (by simp only [alen]; omega) rfl) dX3_throughChoice_202 ?_
    refine m_topi X ((congrArg _ (nI_clamp (by omega))).trans ((aset_off (by omega)).trans ((layA2_off (by omega)).trans ((aset_off (by omega)).trans ((aset_off (by omega)).trans ((hC 15 n (by omega)).trans h15)))))) ?_
    refine m_callV X cs_X3_244  (c_X3_step hM d 2 c hF (by omega)) hM.1 rfl rfl rfl (Nat.le_of_ble_eq_true rfl) dX3_throughChoice_203 ⟨by decide, by decide, by decide, by decide⟩ (fun v M hp => ?_) (fun _ _ _ _ h => h.elim)
    obtain ⟨rfl, hM⟩ := hp
    refine m_stn ?_
    exact m_vret X dX3_throughChoice_206 (by decide) (by decide) (by exact ⟨rfl, _, _, hM, stp_mk (ins_upd (((hs.ch hC (by intro l h1 h2; omega)).ch aset_ch (by intro l h1 h2; omega)).ch aset_ch (by intro l h1 h2; omega)) ha), (stp_ch _ _ (by omega)).trans ((aset_off (by omega)).trans ((layA2_off (by omega)).trans ((aset_off (by omega)).trans aset_on))), (((((hW).ch aset_ch (by intro l h1 h2; omega)).ch aset_ch (by intro l h1 h2; omega)).ch layA2_ch (by intro l h1 h2; omega)).ch aset_ch (by intro l h1 h2; omega)).ch stp_ch (by intro l h1 h2; omega), (((((hR1).ch aset_ch (by intro k l h1 h2; omega)).ch aset_ch (by intro k l h1 h2; omega)).ch layA2_ch (by intro k l h1 h2; omega)).ch aset_ch (by intro k l h1 h2; omega)).ch stp_ch (by intro k l h1 h2; omega), (Ch.tr (U := TT d) (Ch.tr (U := TT d) (Ch.tr (U := TT d) (Ch.tr (U := TT d) (Ch.tr (U := TT d) (Ch.le hC (by intro k l hu; first | (unfold TT at hu ⊢; omega) | (unfold TT at hu; omega)) : Ch (TT d) A0 _) aset_ch (by intro k l hu; first | (unfold TT at hu ⊢; omega) | (unfold TT at hu; omega))) aset_ch (by intro k l hu; first | (unfold TT at hu ⊢; omega) | (unfold TT at hu; omega))) layA2_ch (by intro k l hu; first | (unfold TT at hu ⊢; omega) | (unfold TT at hu; omega))) aset_ch (by intro k l hu; first | (unfold TT at hu ⊢; omega) | (unfold TT at hu; omega))) stp_ch (by intro k l hu; first | (unfold TT at hu ⊢; omega) | (unfold TT at hu; omega)))⟩)
set_option maxHeartbeats 4000000 in
theorem c_X3_ch1n {G : GX} {h : Nat} {ad : Nat → Nat} {F : Nat → Int32} {A0 : Nat → Nat → Int32} {B : Nat → Nat → Int64} {M : Mem} (hM : MRep G h ad F A0 B M) {ρ : RP} (n d : Nat) (hn : n < 80) (hd : d < 81) (hF : F 27 = nI d) {s : Nat → Int32} {a : Nat} {b c : Int32} {w v : Wy} (ha : a < 12) (h25 : A0 25 d = 1) (h12 : A0 12 n = nI a) (h13 : A0 13 n = b) (h15 : A0 15 n = c) (hs : IR d A0 s) (hR : RR ρ A0) (hv0 : (s a &&& (itsM b ^^^ (-1))) = 0) (hW : RW 36 d A0 w) (hl : A0 26 d = 0) : Con G yX3_throughChoice wX3_throughChoice (rmm 2 47) [.ref h, .int (nI n), .int (nI d)] M (pV G h ad B fun F' A => F' = F ∧ A 25 d = 2 ∧ A 26 d = 0 ∧ RW 36 d A w ∧ RR ρ A ∧ Ch (TT d) A0 A) nX := by
  refine Con.mk (by decide) rfl [(0, some (.ref h)), (1, some (.int (nI n))), (2, some (.int (nI d)))] rfl fun x X hno => ?_
  refine m_aload_n X dX3_throughChoice_0 rfl rfl (by first | rfl | exact isR_rf) ?_
  refine m_getf X fg_X3_63_X3 hM.1 rfl dX3_throughChoice_1 ?_
  refine m_aload_n X dX3_throughChoice_4 rfl rfl (by first | rfl | exact isR_rf) ?_
  refine m_getf X fg_X3_228_X3 hM.1 rfl dX3_throughChoice_5 ?_
  refine m_topi X (hF) ?_
  refine s_iald X hM rfl rfl (by exact tin (by simp only [alen]; omega) rfl) dX3_throughChoice_8 ?_
  refine m_topi X ((congrArg (A0 25) (nI_clamp (by omega))).trans h25) ?_
  refine m_istore_n X dX3_throughChoice_9 rfl rfl rfl ?_
  refine m_iload_n X dX3_throughChoice_10 rfl rfl ?_
  refine m_ifne X dX3_throughChoice_11 (t := 23) (by decide) (fun c_11 => ?_) (fun c_11 => absurd c_11 (by decide))
  refine m_aload_n X dX3_throughChoice_23 rfl rfl (by first | rfl | exact isR_rf) ?_
  refine m_getf X fg_X3_66_X3 hM.1 rfl dX3_throughChoice_24 ?_
  refine m_aload_n X dX3_throughChoice_27 rfl rfl (by first | rfl | exact isR_rf) ?_
  refine m_getf X fg_X3_228_X3 hM.1 rfl dX3_throughChoice_28 ?_
  refine m_topi X (hF) ?_
  refine s_iald X hM rfl rfl (by exact tin (by simp only [alen]; omega) rfl) dX3_throughChoice_31 ?_
  refine m_topi X (congrArg (A0 26) (nI_clamp (by omega))) ?_
  refine m_ifeq X dX3_throughChoice_32 (t := 41) (by decide) (fun c_32 => ?_) (fun c_32 => absurd hl c_32)
  refine m_iload_n X dX3_throughChoice_41 rfl rfl ?_
  refine m_iconst X dX3_throughChoice_42 (v := 2) (by decide) ?_
  refine m_icmpne X dX3_throughChoice_43 (t := 53) (by decide) (fun c_43 => ?_) (fun c_43 => absurd c_43 (by decide))
  have hC : Ch (fun k _ => k = 39) A0 A0 := Ch.rf
  have hR1 := hR
  refine m_aload_n X dX3_throughChoice_53 rfl rfl (by first | rfl | exact isR_rf) ?_
  refine m_getf X fg_X3_41_X3 hM.1 rfl dX3_throughChoice_54 ?_
  refine m_iload_n X dX3_throughChoice_57 rfl rfl ?_
  refine s_iald X hM rfl rfl (by exact tin (by simp only [alen]; omega) rfl) dX3_throughChoice_58 ?_
  refine m_topi X ((congrArg _ (nI_clamp (by omega))).trans ((hC 13 n (by omega)).trans h13)) ?_
  refine m_ifne X dX3_throughChoice_59 (t := 66) (by decide) (fun c_59 => ?_) (fun c_59 => ?_)
  · skip
    try simp only [bI_0, Bool.not_eq_false] at c_59
    have eI : itsM b = maskI b := if_neg c_59
    refine m_aload_n X dX3_throughChoice_66 rfl rfl (by first | rfl | exact isR_rf) ?_
    refine m_getf X fg_X3_41_X3 hM.1 rfl dX3_throughChoice_67 ?_
    refine m_iload_n X dX3_throughChoice_70 rfl rfl ?_
    refine s_iald X hM rfl rfl (by exact tin (by simp only [alen]; omega) rfl) dX3_throughChoice_71 ?_
    refine m_topi X ((congrArg _ (nI_clamp (by omega))).trans ((hC 13 n (by omega)).trans h13)) ?_
    refine m_callS X cs_X3_107  (c_X3_mask _ _ _) rfl rfl (Nat.le_of_ble_eq_true rfl) dX3_throughChoice_72 ⟨by decide, by decide, by decide, by decide⟩ (fun v M hp => ?_) (fun _ _ _ _ h => h.elim)
    obtain ⟨rfl, rfl⟩ := hp
    refine m_sti ?_
    refine m_istore X dX3_throughChoice_75 rfl rfl ?_
    refine m_aload_n X dX3_throughChoice_77 rfl rfl (by first | rfl | exact isR_rf) ?_
    refine m_getf X fg_X3_97_X3 hM.1 rfl dX3_throughChoice_78 ?_
    refine m_bipush X dX3_throughChoice_81 (v := 12) (by decide) ?_
    refine m_iload_n X dX3_throughChoice_83 rfl rfl ?_
    refine m_imul X dX3_throughChoice_84 ?_
    refine m_topi X (pk_mul 12 d) ?_
    refine m_aload_n X dX3_throughChoice_85 rfl rfl (by first | rfl | exact isR_rf) ?_
    refine m_getf X fg_X3_38_X3 hM.1 rfl dX3_throughChoice_86 ?_
    refine m_iload_n X dX3_throughChoice_89 rfl rfl ?_
    refine s_iald X hM rfl rfl (by exact tin (by simp only [alen]; omega) rfl) dX3_throughChoice_90 ?_
    refine m_topi X ((congrArg _ (nI_clamp (by omega))).trans ((hC 12 n (by omega)).trans h12)) ?_
    refine m_iadd X dX3_throughChoice_91 ?_
    refine m_topi X (nI_add _ _) ?_
    refine s_iald X hM rfl rfl (by exact tin (by simp only [alen]; omega) rfl) dX3_throughChoice_92 ?_
    refine m_topi X ((congrArg _ (nI_clamp (by omega))).trans ((hC 38 (12 * d + a) (by omega)).trans (hs a ha))) ?_
    refine m_iload_n X dX3_throughChoice_93 rfl rfl ?_
    refine m_ifne X dX3_throughChoice_94 (t := 102) (by decide) (fun c_94 => ?_) (fun c_94 => absurd c_94 (by decide))
    refine m_iload X dX3_throughChoice_102 rfl ?_
    refine m_iconst X dX3_throughChoice_104 (v := (-1)) (by decide) ?_
    refine m_ixor X dX3_throughChoice_105 ?_
    refine m_iand X dX3_throughChoice_106 ?_
    refine m_topi X ((show _ = (s a &&& (itsM b ^^^ (-1))) by rw [eI])) ?_
    refine m_istore X dX3_throughChoice_107 rfl rfl ?_
    refine m_aload_n X dX3_throughChoice_109 rfl rfl (by first | rfl | exact isR_rf) ?_
    refine m_getf X fg_X3_66_X3 hM.1 rfl dX3_throughChoice_110 ?_
    refine m_aload_n X dX3_throughChoice_113 rfl rfl (by first | rfl | exact isR_rf) ?_
    refine m_getf X fg_X3_228_X3 hM.1 rfl dX3_throughChoice_114 ?_
    refine m_topi X (hF) ?_
    refine m_iload X dX3_throughChoice_117 rfl ?_
    refine s_iast X hM rfl rfl (by exact tin (by simp only [alen]; omega) rfl) dX3_throughChoice_119 (fun M hM => ?_)
    rw [nI_clamp (by omega)] at hM
    refine m_aload_n X dX3_throughChoice_120 rfl rfl (by first | rfl | exact isR_rf) ?_
    refine m_getf X fg_X3_63_X3 hM.1 rfl dX3_throughChoice_121 ?_
    refine m_aload_n X dX3_throughChoice_124 rfl rfl (by first | rfl | exact isR_rf) ?_
    refine m_getf X fg_X3_228_X3 hM.1 rfl dX3_throughChoice_125 ?_
    refine m_topi X (hF) ?_
    refine m_iload_n X dX3_throughChoice_128 rfl rfl ?_
    refine m_iconst X dX3_throughChoice_129 (v := 1) (by decide) ?_
    refine m_iadd X dX3_throughChoice_130 ?_
    refine m_topi X ((show (1 : Int32) + 1 = 2 by decide)) ?_
    refine s_iast X hM rfl rfl (by exact tin (by simp only [alen]; omega) rfl) dX3_throughChoice_131 (fun M hM => ?_)
    rw [nI_clamp (by omega)] at hM
    refine m_iload X dX3_throughChoice_132 rfl ?_
    refine m_ifeq X dX3_throughChoice_134 (t := 206) (by decide) (fun c_134 => ?_) (fun c_134 => absurd hv0 c_134)
    exact m_vret X dX3_throughChoice_206 (by decide) (by decide) (by exact ⟨rfl, _, _, hM, rfl, aset_on, (aset_off (by omega)).trans (aset_on.trans hv0), ((hW).ch aset_ch (by intro l h1 h2; omega)).ch aset_ch (by intro l h1 h2; omega), ((hR1).ch aset_ch (by intro k l h1 h2; omega)).ch aset_ch (by intro k l h1 h2; omega), (Ch.tr (U := TT d) (Ch.tr (U := TT d) (Ch.le hC (by intro k l hu; first | (unfold TT at hu ⊢; omega) | (unfold TT at hu; omega)) : Ch (TT d) A0 _) aset_ch (by intro k l hu; first | (unfold TT at hu ⊢; omega) | (unfold TT at hu; omega))) aset_ch (by intro k l hu; first | (unfold TT at hu ⊢; omega) | (unfold TT at hu; omega)))⟩)
  · skip
    try simp only [bI_0, Bool.not_eq_false] at c_59
    have eI : itsM b = 1 := if_pos c_59
    refine m_iconst X dX3_throughChoice_62 (v := 1) (by decide) ?_
    refine m_goto X dX3_throughChoice_63 (t := 75) (by decide) ?_
    refine m_istore X dX3_throughChoice_75 rfl rfl ?_
    refine m_aload_n X dX3_throughChoice_77 rfl rfl (by first | rfl | exact isR_rf) ?_
    refine m_getf X fg_X3_97_X3 hM.1 rfl dX3_throughChoice_78 ?_
    refine m_bipush X dX3_throughChoice_81 (v := 12) (by decide) ?_
    refine m_iload_n X dX3_throughChoice_83 rfl rfl ?_
    refine m_imul X dX3_throughChoice_84 ?_
    refine m_topi X (pk_mul 12 d) ?_
    refine m_aload_n X dX3_throughChoice_85 rfl rfl (by first | rfl | exact isR_rf) ?_
    refine m_getf X fg_X3_38_X3 hM.1 rfl dX3_throughChoice_86 ?_
    refine m_iload_n X dX3_throughChoice_89 rfl rfl ?_
    refine s_iald X hM rfl rfl (by exact tin (by simp only [alen]; omega) rfl) dX3_throughChoice_90 ?_
    refine m_topi X ((congrArg _ (nI_clamp (by omega))).trans ((hC 12 n (by omega)).trans h12)) ?_
    refine m_iadd X dX3_throughChoice_91 ?_
    refine m_topi X (nI_add _ _) ?_
    refine s_iald X hM rfl rfl (by exact tin (by simp only [alen]; omega) rfl) dX3_throughChoice_92 ?_
    refine m_topi X ((congrArg _ (nI_clamp (by omega))).trans ((hC 38 (12 * d + a) (by omega)).trans (hs a ha))) ?_
    refine m_iload_n X dX3_throughChoice_93 rfl rfl ?_
    refine m_ifne X dX3_throughChoice_94 (t := 102) (by decide) (fun c_94 => ?_) (fun c_94 => absurd c_94 (by decide))
    refine m_iload X dX3_throughChoice_102 rfl ?_
    refine m_iconst X dX3_throughChoice_104 (v := (-1)) (by decide) ?_
    refine m_ixor X dX3_throughChoice_105 ?_
    refine m_iand X dX3_throughChoice_106 ?_
    refine m_topi X ((show _ = (s a &&& (itsM b ^^^ (-1))) by rw [eI])) ?_
    refine m_istore X dX3_throughChoice_107 rfl rfl ?_
    refine m_aload_n X dX3_throughChoice_109 rfl rfl (by first | rfl | exact isR_rf) ?_
    refine m_getf X fg_X3_66_X3 hM.1 rfl dX3_throughChoice_110 ?_
    refine m_aload_n X dX3_throughChoice_113 rfl rfl (by first | rfl | exact isR_rf) ?_
    refine m_getf X fg_X3_228_X3 hM.1 rfl dX3_throughChoice_114 ?_
    refine m_topi X (hF) ?_
    refine m_iload X dX3_throughChoice_117 rfl ?_
    refine s_iast X hM rfl rfl (by exact tin (by simp only [alen]; omega) rfl) dX3_throughChoice_119 (fun M hM => ?_)
    rw [nI_clamp (by omega)] at hM
    refine m_aload_n X dX3_throughChoice_120 rfl rfl (by first | rfl | exact isR_rf) ?_
    refine m_getf X fg_X3_63_X3 hM.1 rfl dX3_throughChoice_121 ?_
    refine m_aload_n X dX3_throughChoice_124 rfl rfl (by first | rfl | exact isR_rf) ?_
    refine m_getf X fg_X3_228_X3 hM.1 rfl dX3_throughChoice_125 ?_
    refine m_topi X (hF) ?_
    refine m_iload_n X dX3_throughChoice_128 rfl rfl ?_
    refine m_iconst X dX3_throughChoice_129 (v := 1) (by decide) ?_
    refine m_iadd X dX3_throughChoice_130 ?_
    refine m_topi X ((show (1 : Int32) + 1 = 2 by decide)) ?_
    refine s_iast X hM rfl rfl (by exact tin (by simp only [alen]; omega) rfl) dX3_throughChoice_131 (fun M hM => ?_)
    rw [nI_clamp (by omega)] at hM
    refine m_iload X dX3_throughChoice_132 rfl ?_
    refine m_ifeq X dX3_throughChoice_134 (t := 206) (by decide) (fun c_134 => ?_) (fun c_134 => absurd hv0 c_134)
    exact m_vret X dX3_throughChoice_206 (by decide) (by decide) (by exact ⟨rfl, _, _, hM, rfl, aset_on, (aset_off (by omega)).trans (aset_on.trans hv0), ((hW).ch aset_ch (by intro l h1 h2; omega)).ch aset_ch (by intro l h1 h2; omega), ((hR1).ch aset_ch (by intro k l h1 h2; omega)).ch aset_ch (by intro k l h1 h2; omega), (Ch.tr (U := TT d) (Ch.tr (U := TT d) (Ch.le hC (by intro k l hu; first | (unfold TT at hu ⊢; omega) | (unfold TT at hu; omega)) : Ch (TT d) A0 _) aset_ch (by intro k l hu; first | (unfold TT at hu ⊢; omega) | (unfold TT at hu; omega))) aset_ch (by intro k l hu; first | (unfold TT at hu ⊢; omega) | (unfold TT at hu; omega)))⟩)
set_option maxHeartbeats 4000000 in
theorem c_X3_ch2h {G : GX} {h : Nat} {ad : Nat → Nat} {F : Nat → Int32} {A0 : Nat → Nat → Int32} {B : Nat → Nat → Int64} {M : Mem} (hM : MRep G h ad F A0 B M) {ρ : RP} (n d : Nat) (hn : n < 80) (hd : d < 81) (hF : F 27 = nI d) {w v : Wy} (h25 : A0 25 d = 2) (hW : RW 36 d A0 w) (hR : RR ρ A0) (hl : ¬ A0 26 d = 0) (hv : RW 36 (d + 1) A0 v) : Con G yX3_throughChoice wX3_throughChoice (rmm 2 47) [.ref h, .int (nI n), .int (nI d)] M (pV G h ad B fun F' A => LVp d n F ρ (putW w v 0 9) F' A ∧ Ch (TT d) A0 A) nX := by
  refine Con.mk (by decide) rfl [(0, some (.ref h)), (1, some (.int (nI n))), (2, some (.int (nI d)))] rfl fun x X hno => ?_
  refine m_aload_n X dX3_throughChoice_0 rfl rfl (by first | rfl | exact isR_rf) ?_
  refine m_getf X fg_X3_63_X3 hM.1 rfl dX3_throughChoice_1 ?_
  refine m_aload_n X dX3_throughChoice_4 rfl rfl (by first | rfl | exact isR_rf) ?_
  refine m_getf X fg_X3_228_X3 hM.1 rfl dX3_throughChoice_5 ?_
  refine m_topi X (hF) ?_
  refine s_iald X hM rfl rfl (by exact tin (by simp only [alen]; omega) rfl) dX3_throughChoice_8 ?_
  refine m_topi X ((congrArg (A0 25) (nI_clamp (by omega))).trans h25) ?_
  refine m_istore_n X dX3_throughChoice_9 rfl rfl rfl ?_
  refine m_iload_n X dX3_throughChoice_10 rfl rfl ?_
  refine m_ifne X dX3_throughChoice_11 (t := 23) (by decide) (fun c_11 => ?_) (fun c_11 => absurd c_11 (by decide))
  refine m_aload_n X dX3_throughChoice_23 rfl rfl (by first | rfl | exact isR_rf) ?_
  refine m_getf X fg_X3_66_X3 hM.1 rfl dX3_throughChoice_24 ?_
  refine m_aload_n X dX3_throughChoice_27 rfl rfl (by first | rfl | exact isR_rf) ?_
  refine m_getf X fg_X3_228_X3 hM.1 rfl dX3_throughChoice_28 ?_
  refine m_topi X (hF) ?_
  refine s_iald X hM rfl rfl (by exact tin (by simp only [alen]; omega) rfl) dX3_throughChoice_31 ?_
  refine m_topi X (congrArg (A0 26) (nI_clamp (by omega))) ?_
  refine m_ifeq X dX3_throughChoice_32 (t := 41) (by decide) (fun c_32 => absurd c_32 hl) (fun c_32 => ?_)
  refine m_aload_n X dX3_throughChoice_35 rfl rfl (by first | rfl | exact isR_rf) ?_
  refine m_iload_n X dX3_throughChoice_36 rfl rfl ?_
  refine m_iconst X dX3_throughChoice_37 (v := 0) (by decide) ?_
  refine m_callV X cs_X3_324  (c_X3_put hM d 0 hd (by decide) hW hv) hM.1 rfl rfl rfl (Nat.le_of_ble_eq_true rfl) dX3_throughChoice_38 ⟨by decide, by decide, by decide, by decide⟩ (fun v M hp => ?_) (fun _ _ _ _ h => h.elim)
  obtain ⟨rfl, A, hM, hE⟩ := hp
  have hC := hE.2
  have hR1 := hR.ch hC (by intro k l h1 h2; omega)
  refine m_stn ?_
  refine m_iload_n X dX3_throughChoice_41 rfl rfl ?_
  refine m_iconst X dX3_throughChoice_42 (v := 2) (by decide) ?_
  refine m_icmpne X dX3_throughChoice_43 (t := 53) (by decide) (fun c_43 => absurd rfl c_43) (fun c_43 => ?_)
  refine m_aload_n X dX3_throughChoice_46 rfl rfl (by first | rfl | exact isR_rf) ?_
  refine m_iload_n X dX3_throughChoice_47 rfl rfl ?_
  refine m_iload_n X dX3_throughChoice_48 rfl rfl ?_
  refine m_callV X cs_X3_321  (c_X3_leave hM n d hn hd hE.1 hR1) hM.1 rfl rfl rfl (Nat.le_of_ble_eq_true rfl) dX3_throughChoice_49 ⟨by decide, by decide, by decide, by decide⟩ (fun v M hp => ?_) (fun _ _ _ _ h => h.elim)
  obtain ⟨rfl, A9, hM, hE9⟩ := hp
  refine m_stn ?_
  exact m_vret X dX3_throughChoice_52 (by decide) (by decide) (by exact ⟨rfl, _, A9, hM, ⟨rfl, hE.1.ch hE9.2 (by intro l h1 h2; omega), hE9.1⟩, (Ch.tr (U := TT d) (Ch.le hC (by intro k l hu; first | (unfold TT at hu ⊢; omega) | (unfold TT at hu; omega)) : Ch (TT d) A0 _) hE9.2 (by intro k l hu; first | (unfold TT at hu ⊢; omega) | (unfold TT at hu; omega)))⟩)
set_option maxHeartbeats 4000000 in
theorem c_X3_ch2 {G : GX} {h : Nat} {ad : Nat → Nat} {F : Nat → Int32} {A0 : Nat → Nat → Int32} {B : Nat → Nat → Int64} {M : Mem} (hM : MRep G h ad F A0 B M) {ρ : RP} (n d : Nat) (hn : n < 80) (hd : d < 81) (hF : F 27 = nI d) {w v : Wy} (h25 : A0 25 d = 2) (hW : RW 36 d A0 w) (hR : RR ρ A0) (hl : A0 26 d = 0) : Con G yX3_throughChoice wX3_throughChoice (rmm 2 47) [.ref h, .int (nI n), .int (nI d)] M (pV G h ad B fun F' A => LVp d n F ρ w F' A ∧ Ch (TT d) A0 A) nX := by
  refine Con.mk (by decide) rfl [(0, some (.ref h)), (1, some (.int (nI n))), (2, some (.int (nI d)))] rfl fun x X hno => ?_
  refine m_aload_n X dX3_throughChoice_0 rfl rfl (by first | rfl | exact isR_rf) ?_
  refine m_getf X fg_X3_63_X3 hM.1 rfl dX3_throughChoice_1 ?_
  refine m_aload_n X dX3_throughChoice_4 rfl rfl (by first | rfl | exact isR_rf) ?_
  refine m_getf X fg_X3_228_X3 hM.1 rfl dX3_throughChoice_5 ?_
  refine m_topi X (hF) ?_
  refine s_iald X hM rfl rfl (by exact tin (by simp only [alen]; omega) rfl) dX3_throughChoice_8 ?_
  refine m_topi X ((congrArg (A0 25) (nI_clamp (by omega))).trans h25) ?_
  refine m_istore_n X dX3_throughChoice_9 rfl rfl rfl ?_
  refine m_iload_n X dX3_throughChoice_10 rfl rfl ?_
  refine m_ifne X dX3_throughChoice_11 (t := 23) (by decide) (fun c_11 => ?_) (fun c_11 => absurd c_11 (by decide))
  refine m_aload_n X dX3_throughChoice_23 rfl rfl (by first | rfl | exact isR_rf) ?_
  refine m_getf X fg_X3_66_X3 hM.1 rfl dX3_throughChoice_24 ?_
  refine m_aload_n X dX3_throughChoice_27 rfl rfl (by first | rfl | exact isR_rf) ?_
  refine m_getf X fg_X3_228_X3 hM.1 rfl dX3_throughChoice_28 ?_
  refine m_topi X (hF) ?_
  refine s_iald X hM rfl rfl (by exact tin (by simp only [alen]; omega) rfl) dX3_throughChoice_31 ?_
  refine m_topi X (congrArg (A0 26) (nI_clamp (by omega))) ?_
  refine m_ifeq X dX3_throughChoice_32 (t := 41) (by decide) (fun c_32 => ?_) (fun c_32 => absurd hl c_32)
  refine m_iload_n X dX3_throughChoice_41 rfl rfl ?_
  refine m_iconst X dX3_throughChoice_42 (v := 2) (by decide) ?_
  refine m_icmpne X dX3_throughChoice_43 (t := 53) (by decide) (fun c_43 => absurd rfl c_43) (fun c_43 => ?_)
  refine m_aload_n X dX3_throughChoice_46 rfl rfl (by first | rfl | exact isR_rf) ?_
  refine m_iload_n X dX3_throughChoice_47 rfl rfl ?_
  refine m_iload_n X dX3_throughChoice_48 rfl rfl ?_
  refine m_callV X cs_X3_321  (c_X3_leave hM n d hn hd hW hR) hM.1 rfl rfl rfl (Nat.le_of_ble_eq_true rfl) dX3_throughChoice_49 ⟨by decide, by decide, by decide, by decide⟩ (fun v M hp => ?_) (fun _ _ _ _ h => h.elim)
  obtain ⟨rfl, A9, hM, hE9⟩ := hp
  refine m_stn ?_
  exact m_vret X dX3_throughChoice_52 (by decide) (by decide) (by exact ⟨rfl, _, A9, hM, ⟨rfl, hW.ch hE9.2 (by intro l h1 h2; omega), hE9.1⟩, (Ch.le hE9.2 (by intro k l hu; first | (unfold TT at hu ⊢; omega) | (unfold TT at hu; omega)) : Ch (TT d) A0 _)⟩)
