/-! THE MODEL'S RUNS (printed by wip/D-80403w/tools/m37.py) -/
set_option maxRecDepth 100000
set_option maxHeartbeats 4000000 in
theorem c_X3_push {G : GX} {h : Nat} {ad : Nat → Nat} {F : Nat → Int32} {A : Nat → Nat → Int32} {B : Nat → Nat → Int64} {M : Mem} (hM : MRep G h ad F A B M) (t : Nat) (v : Int32) (hF : F 27 + 1 = nI t) (ht : t < 82) : Con G yX3_push wX3_push (rmm 0 0) [.ref h, .int v] M (pS G h ad none (upd F 27 (nI t)) (pushA A t v) B) nX := by
  refine Con.mk (by decide) rfl [(0, some (.ref h)), (1, some (.int v))] rfl fun x X hno => ?_
  refine m_aload_n X dX3_push_0 rfl rfl (by first | rfl | exact isR_rf) ?_
  refine m_dup X dX3_push_1 rfl ?_
  refine m_getf X fg_X3_228_X3 hM.1 rfl dX3_push_2 ?_
  refine m_iconst X dX3_push_5 (v := 1) (by decide) ?_
  refine m_iadd X dX3_push_6 ?_
  refine m_topi X (hF) ?_
  refine s_put X hM fp_X3_228_X3 rfl rfl rfl rfl dX3_push_7 (fun M hM => ?_)
  refine m_aload_n X dX3_push_10 rfl rfl (by first | rfl | exact isR_rf) ?_
  refine m_getf X fg_X3_60_X3 hM.1 rfl dX3_push_11 ?_
  refine m_aload_n X dX3_push_14 rfl rfl (by first | rfl | exact isR_rf) ?_
  refine m_getf X fg_X3_228_X3 hM.1 rfl dX3_push_15 ?_
  refine m_topi X (pk_us) ?_
  refine m_iload_n X dX3_push_18 rfl rfl ?_
  refine s_iast X hM rfl rfl (by exact tin (by simp only [alen]; omega) rfl) dX3_push_19 (fun M hM => ?_)
  refine m_aload_n X dX3_push_20 rfl rfl (by first | rfl | exact isR_rf) ?_
  refine m_getf X fg_X3_63_X3 hM.1 rfl dX3_push_21 ?_
  refine m_aload_n X dX3_push_24 rfl rfl (by first | rfl | exact isR_rf) ?_
  refine m_getf X fg_X3_228_X3 hM.1 rfl dX3_push_25 ?_
  refine m_topi X (pk_us) ?_
  refine m_iconst X dX3_push_28 (v := 0) (by decide) ?_
  refine s_iast X hM rfl rfl (by exact tin (by simp only [alen]; omega) rfl) dX3_push_29 (fun M hM => ?_)
  refine m_aload_n X dX3_push_30 rfl rfl (by first | rfl | exact isR_rf) ?_
  refine m_getf X fg_X3_66_X3 hM.1 rfl dX3_push_31 ?_
  refine m_aload_n X dX3_push_34 rfl rfl (by first | rfl | exact isR_rf) ?_
  refine m_getf X fg_X3_228_X3 hM.1 rfl dX3_push_35 ?_
  refine m_topi X (pk_us) ?_
  refine m_iconst X dX3_push_38 (v := 0) (by decide) ?_
  refine s_iast X hM rfl rfl (by exact tin (by simp only [alen]; omega) rfl) dX3_push_39 (fun M hM => ?_)
  exact m_vret X dX3_push_40 (by decide) (by decide) (by rw [nI_clamp (by omega)] at hM; exact ⟨rfl, hM⟩)
set_option maxHeartbeats 4000000 in
theorem c_X3_step {G : GX} {h : Nat} {ad : Nat → Nat} {F : Nat → Int32} {A : Nat → Nat → Int32} {B : Nat → Nat → Int64} {M : Mem} (hM : MRep G h ad F A B M) (t : Nat) (p v : Int32) (hF : F 27 = nI t) (ht : t + 1 < 82) : Con G yX3_step wX3_step (rmm 1 21) [.ref h, .int p, .int v] M (pS G h ad none (upd F 27 (nI (t + 1))) (pushA (aset A 25 t p) (t + 1) v) B) nX := by
  refine Con.mk (by decide) rfl [(0, some (.ref h)), (1, some (.int p)), (2, some (.int v))] rfl fun x X hno => ?_
  refine m_aload_n X dX3_step_0 rfl rfl (by first | rfl | exact isR_rf) ?_
  refine m_getf X fg_X3_63_X3 hM.1 rfl dX3_step_1 ?_
  refine m_aload_n X dX3_step_4 rfl rfl (by first | rfl | exact isR_rf) ?_
  refine m_getf X fg_X3_228_X3 hM.1 rfl dX3_step_5 ?_
  refine m_topi X (hF) ?_
  refine m_iload_n X dX3_step_8 rfl rfl ?_
  refine s_iast X hM rfl rfl (by exact tin (by simp only [alen]; omega) rfl) dX3_step_9 (fun M hM => ?_)
  rw [nI_clamp (by omega)] at hM
  refine m_aload_n X dX3_step_10 rfl rfl (by first | rfl | exact isR_rf) ?_
  refine m_iload_n X dX3_step_11 rfl rfl ?_
  refine m_callV X cs_X3_231  (c_X3_push hM (t + 1) v (by rw [hF, nI_1]) ht) hM.1 rfl rfl rfl (Nat.le_of_ble_eq_true rfl) dX3_step_12 ⟨by decide, by decide, by decide, by decide⟩ (fun v M hp => ?_) (fun _ _ _ _ h => h.elim)
  obtain ⟨rfl, hM⟩ := hp
  refine m_stn ?_
  exact m_vret X dX3_step_15 (by decide) (by decide) (by exact ⟨rfl, hM⟩)
theorem pS_eq {G : GX} {h : Nat} {ad : Nat → Nat} {v : Int32} {F : Nat → Int32} {A : Nat → Nat → Int32} {B : Nat → Nat → Int64} {M : Mem} {R : Int32 × (Nat → Int32) × (Nat → Nat → Int32)} (hM : MRep G h ad F A B M) (e : R = (v, F, A)) : pS G h ad (some (.int R.1)) R.2.1 R.2.2 B (some (.int v)) M := by rw [e]; exact ⟨rfl, hM⟩
set_option maxHeartbeats 4000000 in
theorem c_X3_ofGuard {G : GX} {h : Nat} {ad : Nat → Nat} {F : Nat → Int32} {A : Nat → Nat → Int32} {B : Nat → Nat → Int64} {M : Mem} (hM : MRep G h ad F A B M) (t m : Nat) (r : Int32) (hF : F 27 = nI t) (ht : t + 1 < 82) (hm : m < 80) : Con G yX3_ofGuard wX3_ofGuard (rmm 2 43) [.ref h, .int (nI m), .int r] M (pS G h ad (some (.int (guardR F A t m r).1)) (guardR F A t m r).2.1 (guardR F A t m r).2.2 B) nX := by
  refine Con.mk (by decide) rfl [(0, some (.ref h)), (1, some (.int (nI m))), (2, some (.int r))] rfl fun x X hno => ?_
  refine m_aload_n X dX3_ofGuard_0 rfl rfl (by first | rfl | exact isR_rf) ?_
  refine m_getf X fg_X3_63_X3 hM.1 rfl dX3_ofGuard_1 ?_
  refine m_aload_n X dX3_ofGuard_4 rfl rfl (by first | rfl | exact isR_rf) ?_
  refine m_getf X fg_X3_228_X3 hM.1 rfl dX3_ofGuard_5 ?_
  refine m_topi X (hF) ?_
  refine s_iald X hM rfl rfl (by exact tin (by simp only [alen]; omega) rfl) dX3_ofGuard_8 ?_
  refine m_topi X (congrArg (A 25) (nI_clamp (by omega))) ?_
  refine m_istore_n X dX3_ofGuard_9 rfl rfl rfl ?_
  refine m_iload_n X dX3_ofGuard_10 rfl rfl ?_
  refine m_ifne X dX3_ofGuard_11 (t := 27) (by decide) (fun c_11 => ?_) (fun c_11 => ?_)
  · skip
    try simp only [bI_0, Bool.not_eq_false] at c_11
    refine m_iload_n X dX3_ofGuard_27 rfl rfl ?_
    refine m_iconst X dX3_ofGuard_28 (v := 3) (by decide) ?_
    refine m_icmpne X dX3_ofGuard_29 (t := 94) (by decide) (fun c_29 => ?_) (fun c_29 => ?_)
    · skip
      refine m_iload_n X dX3_ofGuard_94 rfl rfl ?_
      refine m_iconst X dX3_ofGuard_95 (v := 1) (by decide) ?_
      refine m_icmpne X dX3_ofGuard_96 (t := 117) (by decide) (fun c_96 => ?_) (fun c_96 => ?_)
      · skip
        refine m_iconst X dX3_ofGuard_117 (v := 0) (by decide) ?_
        refine m_istore X dX3_ofGuard_118 rfl rfl ?_
        refine m_iload X dX3_ofGuard_120 rfl ?_
        refine m_ifeq X dX3_ofGuard_122 (t := 147) (by decide) (fun c_122 => ?_) (fun c_122 => absurd rfl c_122)
        refine m_iload X dX3_ofGuard_147 rfl ?_
        refine m_ifeq X dX3_ofGuard_149 (t := 156) (by decide) (fun c_149 => ?_) (fun c_149 => absurd rfl c_149)
        refine m_iload_n X dX3_ofGuard_156 rfl rfl ?_
        refine m_istore X dX3_ofGuard_157 rfl rfl ?_
        refine m_aload_n X dX3_ofGuard_159 rfl rfl (by first | rfl | exact isR_rf) ?_
        refine m_getf X fg_X3_47_X3 hM.1 rfl dX3_ofGuard_160 ?_
        refine m_iload_n X dX3_ofGuard_163 rfl rfl ?_
        refine s_iald X hM rfl rfl (by exact tin (by simp only [alen]; omega) rfl) dX3_ofGuard_164 ?_
        refine m_topi X (congrArg (A 15) (nI_clamp (by omega))) ?_
        refine m_ifge X dX3_ofGuard_165 (t := 181) (by decide) (fun c_165 => ?_) (fun c_165 => ?_)
        · skip
          try simp only [bI_0, Bool.not_eq_false] at c_165
          have c_165 := Int32.not_lt.mpr c_165
          refine m_aload_n X dX3_ofGuard_181 rfl rfl (by first | rfl | exact isR_rf) ?_
          refine m_dup X dX3_ofGuard_182 rfl ?_
          refine m_getf X fg_X3_251_X3 hM.1 rfl dX3_ofGuard_183 ?_
          refine m_iconst X dX3_ofGuard_186 (v := 1) (by decide) ?_
          refine m_iadd X dX3_ofGuard_187 ?_
          refine s_put X hM fp_X3_251_X3 rfl rfl rfl rfl dX3_ofGuard_188 (fun M hM => ?_)
          refine m_aload_n X dX3_ofGuard_191 rfl rfl (by first | rfl | exact isR_rf) ?_
          refine m_getf X fg_X3_66_X3 hM.1 rfl dX3_ofGuard_192 ?_
          refine m_aload_n X dX3_ofGuard_195 rfl rfl (by first | rfl | exact isR_rf) ?_
          refine m_getf X fg_X3_228_X3 hM.1 rfl dX3_ofGuard_196 ?_
          refine m_topi X ((pk_un (by decide)).trans hF) ?_
          refine m_iload X dX3_ofGuard_199 rfl ?_
          refine s_iast X hM rfl rfl (by exact tin (by simp only [alen]; omega) rfl) dX3_ofGuard_201 (fun M hM => ?_)
          rw [nI_clamp (by omega)] at hM
          refine m_aload_n X dX3_ofGuard_202 rfl rfl (by first | rfl | exact isR_rf) ?_
          refine m_iconst X dX3_ofGuard_203 (v := 3) (by decide) ?_
          refine m_aload_n X dX3_ofGuard_204 rfl rfl (by first | rfl | exact isR_rf) ?_
          refine m_getf X fg_X3_47_X3 hM.1 rfl dX3_ofGuard_205 ?_
          refine m_iload_n X dX3_ofGuard_208 rfl rfl ?_
          refine s_iald X hM rfl rfl (by exact tin (by simp only [alen]; omega) rfl) dX3_ofGuard_209 ?_
          refine m_topi X ((congrArg (aset A 26 t _ 15) (nI_clamp (by omega))).trans (congrFun (aset_n (by decide)) m)) ?_
          refine m_callV X cs_X3_244  (c_X3_step hM t 3 (A 15 m) ((pk_un (by decide)).trans hF) ht) hM.1 rfl rfl rfl (Nat.le_of_ble_eq_true rfl) dX3_ofGuard_210 ⟨by decide, by decide, by decide, by decide⟩ (fun v M hp => ?_) (fun _ _ _ _ h => h.elim)
          obtain ⟨rfl, hM⟩ := hp
          refine m_stn ?_
          refine m_iconst X dX3_ofGuard_213 (v := 0) (by decide) ?_
          exact m_iret X dX3_ofGuard_214 (by decide) (by decide) (by exact pS_eq hM (by unfold guardR; simp [c_11, c_29, c_96, c_165]))
        · skip
          try simp only [bI_0, Bool.not_eq_false] at c_165
          have c_165 := Int32.not_le.mp c_165
          refine m_aload_n X dX3_ofGuard_168 rfl rfl (by first | rfl | exact isR_rf) ?_
          refine m_dup X dX3_ofGuard_169 rfl ?_
          refine m_getf X fg_X3_228_X3 hM.1 rfl dX3_ofGuard_170 ?_
          refine m_topi X (hF) ?_
          refine m_iconst X dX3_ofGuard_173 (v := 1) (by decide) ?_
          refine m_isub X dX3_ofGuard_174 ?_
          refine s_put X hM fp_X3_228_X3 rfl rfl rfl rfl dX3_ofGuard_175 (fun M hM => ?_)
          refine m_iload X dX3_ofGuard_178 rfl ?_
          exact m_iret X dX3_ofGuard_180 (by decide) (by decide) (by exact pS_eq hM (by unfold guardR; simp [c_11, c_29, c_96, c_165]))
      · skip
        refine m_aload_n X dX3_ofGuard_99 rfl rfl (by first | rfl | exact isR_rf) ?_
        refine m_getf X fg_X3_41_X3 hM.1 rfl dX3_ofGuard_100 ?_
        refine m_iload_n X dX3_ofGuard_103 rfl rfl ?_
        refine s_iald X hM rfl rfl (by exact tin (by simp only [alen]; omega) rfl) dX3_ofGuard_104 ?_
        refine m_topi X (congrArg (A 13) (nI_clamp (by omega))) ?_
        refine m_iload_n X dX3_ofGuard_105 rfl rfl ?_
        refine m_ishr X dX3_ofGuard_106 ?_
        refine m_iconst X dX3_ofGuard_107 (v := 1) (by decide) ?_
        refine m_iand X dX3_ofGuard_108 ?_
        refine m_iconst X dX3_ofGuard_109 (v := 1) (by decide) ?_
        refine m_icmpne X dX3_ofGuard_110 (t := 117) (by decide) (fun c_110 => ?_) (fun c_110 => ?_)
        · skip
          refine m_iconst X dX3_ofGuard_117 (v := 0) (by decide) ?_
          refine m_istore X dX3_ofGuard_118 rfl rfl ?_
          refine m_iload X dX3_ofGuard_120 rfl ?_
          refine m_ifeq X dX3_ofGuard_122 (t := 147) (by decide) (fun c_122 => ?_) (fun c_122 => absurd rfl c_122)
          refine m_iload X dX3_ofGuard_147 rfl ?_
          refine m_ifeq X dX3_ofGuard_149 (t := 156) (by decide) (fun c_149 => ?_) (fun c_149 => absurd rfl c_149)
          refine m_iload_n X dX3_ofGuard_156 rfl rfl ?_
          refine m_istore X dX3_ofGuard_157 rfl rfl ?_
          refine m_aload_n X dX3_ofGuard_159 rfl rfl (by first | rfl | exact isR_rf) ?_
          refine m_getf X fg_X3_47_X3 hM.1 rfl dX3_ofGuard_160 ?_
          refine m_iload_n X dX3_ofGuard_163 rfl rfl ?_
          refine s_iald X hM rfl rfl (by exact tin (by simp only [alen]; omega) rfl) dX3_ofGuard_164 ?_
          refine m_topi X (congrArg (A 15) (nI_clamp (by omega))) ?_
          refine m_ifge X dX3_ofGuard_165 (t := 181) (by decide) (fun c_165 => ?_) (fun c_165 => ?_)
          · skip
            try simp only [bI_0, Bool.not_eq_false] at c_165
            have c_165 := Int32.not_lt.mpr c_165
            refine m_aload_n X dX3_ofGuard_181 rfl rfl (by first | rfl | exact isR_rf) ?_
            refine m_dup X dX3_ofGuard_182 rfl ?_
            refine m_getf X fg_X3_251_X3 hM.1 rfl dX3_ofGuard_183 ?_
            refine m_iconst X dX3_ofGuard_186 (v := 1) (by decide) ?_
            refine m_iadd X dX3_ofGuard_187 ?_
            refine s_put X hM fp_X3_251_X3 rfl rfl rfl rfl dX3_ofGuard_188 (fun M hM => ?_)
            refine m_aload_n X dX3_ofGuard_191 rfl rfl (by first | rfl | exact isR_rf) ?_
            refine m_getf X fg_X3_66_X3 hM.1 rfl dX3_ofGuard_192 ?_
            refine m_aload_n X dX3_ofGuard_195 rfl rfl (by first | rfl | exact isR_rf) ?_
            refine m_getf X fg_X3_228_X3 hM.1 rfl dX3_ofGuard_196 ?_
            refine m_topi X ((pk_un (by decide)).trans hF) ?_
            refine m_iload X dX3_ofGuard_199 rfl ?_
            refine s_iast X hM rfl rfl (by exact tin (by simp only [alen]; omega) rfl) dX3_ofGuard_201 (fun M hM => ?_)
            rw [nI_clamp (by omega)] at hM
            refine m_aload_n X dX3_ofGuard_202 rfl rfl (by first | rfl | exact isR_rf) ?_
            refine m_iconst X dX3_ofGuard_203 (v := 3) (by decide) ?_
            refine m_aload_n X dX3_ofGuard_204 rfl rfl (by first | rfl | exact isR_rf) ?_
            refine m_getf X fg_X3_47_X3 hM.1 rfl dX3_ofGuard_205 ?_
            refine m_iload_n X dX3_ofGuard_208 rfl rfl ?_
            refine s_iald X hM rfl rfl (by exact tin (by simp only [alen]; omega) rfl) dX3_ofGuard_209 ?_
            refine m_topi X ((congrArg (aset A 26 t _ 15) (nI_clamp (by omega))).trans (congrFun (aset_n (by decide)) m)) ?_
            refine m_callV X cs_X3_244  (c_X3_step hM t 3 (A 15 m) ((pk_un (by decide)).trans hF) ht) hM.1 rfl rfl rfl (Nat.le_of_ble_eq_true rfl) dX3_ofGuard_210 ⟨by decide, by decide, by decide, by decide⟩ (fun v M hp => ?_) (fun _ _ _ _ h => h.elim)
            obtain ⟨rfl, hM⟩ := hp
            refine m_stn ?_
            refine m_iconst X dX3_ofGuard_213 (v := 0) (by decide) ?_
            exact m_iret X dX3_ofGuard_214 (by decide) (by decide) (by exact pS_eq hM (by unfold guardR; simp [c_11, c_29, c_96, c_110, c_165]))
          · skip
            try simp only [bI_0, Bool.not_eq_false] at c_165
            have c_165 := Int32.not_le.mp c_165
            refine m_aload_n X dX3_ofGuard_168 rfl rfl (by first | rfl | exact isR_rf) ?_
            refine m_dup X dX3_ofGuard_169 rfl ?_
            refine m_getf X fg_X3_228_X3 hM.1 rfl dX3_ofGuard_170 ?_
            refine m_topi X (hF) ?_
            refine m_iconst X dX3_ofGuard_173 (v := 1) (by decide) ?_
            refine m_isub X dX3_ofGuard_174 ?_
            refine s_put X hM fp_X3_228_X3 rfl rfl rfl rfl dX3_ofGuard_175 (fun M hM => ?_)
            refine m_iload X dX3_ofGuard_178 rfl ?_
            exact m_iret X dX3_ofGuard_180 (by decide) (by decide) (by exact pS_eq hM (by unfold guardR; simp [c_11, c_29, c_96, c_110, c_165]))
        · skip
          refine m_iconst X dX3_ofGuard_113 (v := 1) (by decide) ?_
          refine m_goto X dX3_ofGuard_114 (t := 118) (by decide) ?_
          refine m_istore X dX3_ofGuard_118 rfl rfl ?_
          refine m_iload X dX3_ofGuard_120 rfl ?_
          refine m_ifeq X dX3_ofGuard_122 (t := 147) (by decide) (fun c_122 => absurd c_122 (by decide)) (fun c_122 => ?_)
          refine m_aload_n X dX3_ofGuard_125 rfl rfl (by first | rfl | exact isR_rf) ?_
          refine m_getf X fg_X3_44_X3 hM.1 rfl dX3_ofGuard_126 ?_
          refine m_iload_n X dX3_ofGuard_129 rfl rfl ?_
          refine s_iald X hM rfl rfl (by exact tin (by simp only [alen]; omega) rfl) dX3_ofGuard_130 ?_
          refine m_topi X (congrArg (A 14) (nI_clamp (by omega))) ?_
          refine m_iflt X dX3_ofGuard_131 (t := 147) (by decide) (fun c_131 => ?_) (fun c_131 => ?_)
          · skip
            try simp only [bI_0, Bool.not_eq_false] at c_131
            refine m_iload X dX3_ofGuard_147 rfl ?_
            refine m_ifeq X dX3_ofGuard_149 (t := 156) (by decide) (fun c_149 => absurd c_149 (by decide)) (fun c_149 => ?_)
            refine m_iconst X dX3_ofGuard_152 (v := 0) (by decide) ?_
            refine m_goto X dX3_ofGuard_153 (t := 157) (by decide) ?_
            refine m_istore X dX3_ofGuard_157 rfl rfl ?_
            refine m_aload_n X dX3_ofGuard_159 rfl rfl (by first | rfl | exact isR_rf) ?_
            refine m_getf X fg_X3_47_X3 hM.1 rfl dX3_ofGuard_160 ?_
            refine m_iload_n X dX3_ofGuard_163 rfl rfl ?_
            refine s_iald X hM rfl rfl (by exact tin (by simp only [alen]; omega) rfl) dX3_ofGuard_164 ?_
            refine m_topi X (congrArg (A 15) (nI_clamp (by omega))) ?_
            refine m_ifge X dX3_ofGuard_165 (t := 181) (by decide) (fun c_165 => ?_) (fun c_165 => ?_)
            · skip
              try simp only [bI_0, Bool.not_eq_false] at c_165
              have c_165 := Int32.not_lt.mpr c_165
              refine m_aload_n X dX3_ofGuard_181 rfl rfl (by first | rfl | exact isR_rf) ?_
              refine m_dup X dX3_ofGuard_182 rfl ?_
              refine m_getf X fg_X3_251_X3 hM.1 rfl dX3_ofGuard_183 ?_
              refine m_iconst X dX3_ofGuard_186 (v := 1) (by decide) ?_
              refine m_iadd X dX3_ofGuard_187 ?_
              refine s_put X hM fp_X3_251_X3 rfl rfl rfl rfl dX3_ofGuard_188 (fun M hM => ?_)
              refine m_aload_n X dX3_ofGuard_191 rfl rfl (by first | rfl | exact isR_rf) ?_
              refine m_getf X fg_X3_66_X3 hM.1 rfl dX3_ofGuard_192 ?_
              refine m_aload_n X dX3_ofGuard_195 rfl rfl (by first | rfl | exact isR_rf) ?_
              refine m_getf X fg_X3_228_X3 hM.1 rfl dX3_ofGuard_196 ?_
              refine m_topi X ((pk_un (by decide)).trans hF) ?_
              refine m_iload X dX3_ofGuard_199 rfl ?_
              refine s_iast X hM rfl rfl (by exact tin (by simp only [alen]; omega) rfl) dX3_ofGuard_201 (fun M hM => ?_)
              rw [nI_clamp (by omega)] at hM
              refine m_aload_n X dX3_ofGuard_202 rfl rfl (by first | rfl | exact isR_rf) ?_
              refine m_iconst X dX3_ofGuard_203 (v := 3) (by decide) ?_
              refine m_aload_n X dX3_ofGuard_204 rfl rfl (by first | rfl | exact isR_rf) ?_
              refine m_getf X fg_X3_47_X3 hM.1 rfl dX3_ofGuard_205 ?_
              refine m_iload_n X dX3_ofGuard_208 rfl rfl ?_
              refine s_iald X hM rfl rfl (by exact tin (by simp only [alen]; omega) rfl) dX3_ofGuard_209 ?_
              refine m_topi X ((congrArg (aset A 26 t _ 15) (nI_clamp (by omega))).trans (congrFun (aset_n (by decide)) m)) ?_
              refine m_callV X cs_X3_244  (c_X3_step hM t 3 (A 15 m) ((pk_un (by decide)).trans hF) ht) hM.1 rfl rfl rfl (Nat.le_of_ble_eq_true rfl) dX3_ofGuard_210 ⟨by decide, by decide, by decide, by decide⟩ (fun v M hp => ?_) (fun _ _ _ _ h => h.elim)
              obtain ⟨rfl, hM⟩ := hp
              refine m_stn ?_
              refine m_iconst X dX3_ofGuard_213 (v := 0) (by decide) ?_
              exact m_iret X dX3_ofGuard_214 (by decide) (by decide) (by exact pS_eq hM (by unfold guardR; simp [c_11, c_29, c_96, c_110, c_131, c_165]))
            · skip
              try simp only [bI_0, Bool.not_eq_false] at c_165
              have c_165 := Int32.not_le.mp c_165
              refine m_aload_n X dX3_ofGuard_168 rfl rfl (by first | rfl | exact isR_rf) ?_
              refine m_dup X dX3_ofGuard_169 rfl ?_
              refine m_getf X fg_X3_228_X3 hM.1 rfl dX3_ofGuard_170 ?_
              refine m_topi X (hF) ?_
              refine m_iconst X dX3_ofGuard_173 (v := 1) (by decide) ?_
              refine m_isub X dX3_ofGuard_174 ?_
              refine s_put X hM fp_X3_228_X3 rfl rfl rfl rfl dX3_ofGuard_175 (fun M hM => ?_)
              refine m_iload X dX3_ofGuard_178 rfl ?_
              exact m_iret X dX3_ofGuard_180 (by decide) (by decide) (by exact pS_eq hM (by unfold guardR; simp [c_11, c_29, c_96, c_110, c_131, c_165]))
          · skip
            try simp only [bI_0, Bool.not_eq_false] at c_131
            refine m_aload_n X dX3_ofGuard_134 rfl rfl (by first | rfl | exact isR_rf) ?_
            refine m_iconst X dX3_ofGuard_135 (v := 2) (by decide) ?_
            refine m_aload_n X dX3_ofGuard_136 rfl rfl (by first | rfl | exact isR_rf) ?_
            refine m_getf X fg_X3_44_X3 hM.1 rfl dX3_ofGuard_137 ?_
            refine m_iload_n X dX3_ofGuard_140 rfl rfl ?_
            refine s_iald X hM rfl rfl (by exact tin (by simp only [alen]; omega) rfl) dX3_ofGuard_141 ?_
            refine m_topi X (congrArg (A 14) (nI_clamp (by omega))) ?_
            refine m_callV X cs_X3_244  (c_X3_step hM t 2 (A 14 m) hF ht) hM.1 rfl rfl rfl (Nat.le_of_ble_eq_true rfl) dX3_ofGuard_142 ⟨by decide, by decide, by decide, by decide⟩ (fun v M hp => ?_) (fun _ _ _ _ h => h.elim)
            obtain ⟨rfl, hM⟩ := hp
            refine m_stn ?_
            refine m_iconst X dX3_ofGuard_145 (v := 0) (by decide) ?_
            exact m_iret X dX3_ofGuard_146 (by decide) (by decide) (by exact pS_eq hM (by unfold guardR; simp [c_11, c_29, c_96, c_110, c_131]))
    · skip
      refine m_aload_n X dX3_ofGuard_32 rfl rfl (by first | rfl | exact isR_rf) ?_
      refine m_dup X dX3_ofGuard_33 rfl ?_
      refine m_getf X fg_X3_248_X3 hM.1 rfl dX3_ofGuard_34 ?_
      refine m_iload_n X dX3_ofGuard_37 rfl rfl ?_
      refine m_ifeq X dX3_ofGuard_38 (t := 57) (by decide) (fun c_38 => ?_) (fun c_38 => ?_)
      · skip
        try simp only [bI_0, Bool.not_eq_false] at c_38
        refine m_iconst X dX3_ofGuard_57 (v := 0) (by decide) ?_
        refine m_iadd X dX3_ofGuard_58 ?_
        refine s_put X hM fp_X3_248_X3 rfl rfl rfl rfl dX3_ofGuard_59 (fun M hM => ?_)
        refine m_iload_n X dX3_ofGuard_62 rfl rfl ?_
        refine m_ifeq X dX3_ofGuard_63 (t := 70) (by decide) (fun c_63 => ?_) (fun c_63 => absurd c_38 c_63)
        refine m_aload_n X dX3_ofGuard_70 rfl rfl (by first | rfl | exact isR_rf) ?_
        refine m_getf X fg_X3_66_X3 hM.1 rfl dX3_ofGuard_71 ?_
        refine m_aload_n X dX3_ofGuard_74 rfl rfl (by first | rfl | exact isR_rf) ?_
        refine m_getf X fg_X3_228_X3 hM.1 rfl dX3_ofGuard_75 ?_
        refine m_topi X ((pk_un (by decide)).trans hF) ?_
        refine s_iald X hM rfl rfl (by exact tin (by simp only [alen]; omega) rfl) dX3_ofGuard_78 ?_
        refine m_topi X (congrArg (A 26) (nI_clamp (by omega))) ?_
        refine m_istore X dX3_ofGuard_79 rfl rfl ?_
        refine m_aload_n X dX3_ofGuard_81 rfl rfl (by first | rfl | exact isR_rf) ?_
        refine m_dup X dX3_ofGuard_82 rfl ?_
        refine m_getf X fg_X3_228_X3 hM.1 rfl dX3_ofGuard_83 ?_
        refine m_topi X ((pk_un (by decide)).trans hF) ?_
        refine m_iconst X dX3_ofGuard_86 (v := 1) (by decide) ?_
        refine m_isub X dX3_ofGuard_87 ?_
        refine s_put X hM fp_X3_228_X3 rfl rfl rfl rfl dX3_ofGuard_88 (fun M hM => ?_)
        refine m_iload X dX3_ofGuard_91 rfl ?_
        exact m_iret X dX3_ofGuard_93 (by decide) (by decide) (by exact pS_eq hM (by unfold guardR; simp [c_11, c_29, c_38]))
      · skip
        try simp only [bI_0, Bool.not_eq_false] at c_38
        refine m_aload_n X dX3_ofGuard_41 rfl rfl (by first | rfl | exact isR_rf) ?_
        refine m_getf X fg_X3_66_X3 hM.1 rfl dX3_ofGuard_42 ?_
        refine m_aload_n X dX3_ofGuard_45 rfl rfl (by first | rfl | exact isR_rf) ?_
        refine m_getf X fg_X3_228_X3 hM.1 rfl dX3_ofGuard_46 ?_
        refine m_topi X (hF) ?_
        refine s_iald X hM rfl rfl (by exact tin (by simp only [alen]; omega) rfl) dX3_ofGuard_49 ?_
        refine m_topi X (congrArg (A 26) (nI_clamp (by omega))) ?_
        refine m_ifeq X dX3_ofGuard_50 (t := 57) (by decide) (fun c_50 => ?_) (fun c_50 => ?_)
        · skip
          try simp only [bI_0, Bool.not_eq_false] at c_50
          refine m_iconst X dX3_ofGuard_57 (v := 0) (by decide) ?_
          refine m_iadd X dX3_ofGuard_58 ?_
          refine s_put X hM fp_X3_248_X3 rfl rfl rfl rfl dX3_ofGuard_59 (fun M hM => ?_)
          refine m_iload_n X dX3_ofGuard_62 rfl rfl ?_
          refine m_ifeq X dX3_ofGuard_63 (t := 70) (by decide) (fun c_63 => absurd c_63 c_38) (fun c_63 => ?_)
          refine m_iload_n X dX3_ofGuard_66 rfl rfl ?_
          refine m_goto X dX3_ofGuard_67 (t := 79) (by decide) ?_
          refine m_istore X dX3_ofGuard_79 rfl rfl ?_
          refine m_aload_n X dX3_ofGuard_81 rfl rfl (by first | rfl | exact isR_rf) ?_
          refine m_dup X dX3_ofGuard_82 rfl ?_
          refine m_getf X fg_X3_228_X3 hM.1 rfl dX3_ofGuard_83 ?_
          refine m_topi X ((pk_un (by decide)).trans hF) ?_
          refine m_iconst X dX3_ofGuard_86 (v := 1) (by decide) ?_
          refine m_isub X dX3_ofGuard_87 ?_
          refine s_put X hM fp_X3_228_X3 rfl rfl rfl rfl dX3_ofGuard_88 (fun M hM => ?_)
          refine m_iload X dX3_ofGuard_91 rfl ?_
          exact m_iret X dX3_ofGuard_93 (by decide) (by decide) (by exact pS_eq hM (by unfold guardR; simp [c_11, c_29, c_38, c_50]))
        · skip
          try simp only [bI_0, Bool.not_eq_false] at c_50
          refine m_iconst X dX3_ofGuard_53 (v := 1) (by decide) ?_
          refine m_goto X dX3_ofGuard_54 (t := 58) (by decide) ?_
          refine m_iadd X dX3_ofGuard_58 ?_
          refine s_put X hM fp_X3_248_X3 rfl rfl rfl rfl dX3_ofGuard_59 (fun M hM => ?_)
          refine m_iload_n X dX3_ofGuard_62 rfl rfl ?_
          refine m_ifeq X dX3_ofGuard_63 (t := 70) (by decide) (fun c_63 => absurd c_63 c_38) (fun c_63 => ?_)
          refine m_iload_n X dX3_ofGuard_66 rfl rfl ?_
          refine m_goto X dX3_ofGuard_67 (t := 79) (by decide) ?_
          refine m_istore X dX3_ofGuard_79 rfl rfl ?_
          refine m_aload_n X dX3_ofGuard_81 rfl rfl (by first | rfl | exact isR_rf) ?_
          refine m_dup X dX3_ofGuard_82 rfl ?_
          refine m_getf X fg_X3_228_X3 hM.1 rfl dX3_ofGuard_83 ?_
          refine m_topi X ((pk_un (by decide)).trans hF) ?_
          refine m_iconst X dX3_ofGuard_86 (v := 1) (by decide) ?_
          refine m_isub X dX3_ofGuard_87 ?_
          refine s_put X hM fp_X3_228_X3 rfl rfl rfl rfl dX3_ofGuard_88 (fun M hM => ?_)
          refine m_iload X dX3_ofGuard_91 rfl ?_
          exact m_iret X dX3_ofGuard_93 (by decide) (by decide) (by exact pS_eq hM (by unfold guardR; simp [c_11, c_29, c_38, c_50]))
  · skip
    try simp only [bI_0, Bool.not_eq_false] at c_11
    refine m_aload_n X dX3_ofGuard_14 rfl rfl (by first | rfl | exact isR_rf) ?_
    refine m_iconst X dX3_ofGuard_15 (v := 1) (by decide) ?_
    refine m_aload_n X dX3_ofGuard_16 rfl rfl (by first | rfl | exact isR_rf) ?_
    refine m_getf X fg_X3_38_X3 hM.1 rfl dX3_ofGuard_17 ?_
    refine m_iload_n X dX3_ofGuard_20 rfl rfl ?_
    refine s_iald X hM rfl rfl (by exact tin (by simp only [alen]; omega) rfl) dX3_ofGuard_21 ?_
    refine m_topi X (congrArg (A 12) (nI_clamp (by omega))) ?_
    refine m_callV X cs_X3_244  (c_X3_step hM t 1 (A 12 m) hF ht) hM.1 rfl rfl rfl (Nat.le_of_ble_eq_true rfl) dX3_ofGuard_22 ⟨by decide, by decide, by decide, by decide⟩ (fun v M hp => ?_) (fun _ _ _ _ h => h.elim)
    obtain ⟨rfl, hM⟩ := hp
    refine m_stn ?_
    refine m_iconst X dX3_ofGuard_25 (v := 0) (by decide) ?_
    exact m_iret X dX3_ofGuard_26 (by decide) (by decide) (by exact pS_eq hM (by unfold guardR; simp [c_11]))
set_option maxHeartbeats 4000000 in
theorem c_X3_ofBoth {G : GX} {h : Nat} {ad : Nat → Nat} {F : Nat → Int32} {A : Nat → Nat → Int32} {B : Nat → Nat → Int64} {M : Mem} (hM : MRep G h ad F A B M) (t m : Nat) (r : Int32) (hF : F 27 = nI t) (ht : t + 1 < 82) (hm : m < 80) (h10 : A 10 m = 1) : Con G yX3_ofOther wX3_ofOther (rmm 2 43) [.ref h, .int (nI m), .int r] M (pS G h ad (some (.int (bothR F A t m r).1)) (bothR F A t m r).2.1 (bothR F A t m r).2.2 B) nX := by
  refine Con.mk (by decide) rfl [(0, some (.ref h)), (1, some (.int (nI m))), (2, some (.int r))] rfl fun x X hno => ?_
  refine m_aload_n X dX3_ofOther_0 rfl rfl (by first | rfl | exact isR_rf) ?_
  refine m_getf X fg_X3_63_X3 hM.1 rfl dX3_ofOther_1 ?_
  refine m_aload_n X dX3_ofOther_4 rfl rfl (by first | rfl | exact isR_rf) ?_
  refine m_getf X fg_X3_228_X3 hM.1 rfl dX3_ofOther_5 ?_
  refine m_topi X (hF) ?_
  refine s_iald X hM rfl rfl (by exact tin (by simp only [alen]; omega) rfl) dX3_ofOther_8 ?_
  refine m_topi X (congrArg (A 25) (nI_clamp (by omega))) ?_
  refine m_istore_n X dX3_ofOther_9 rfl rfl rfl ?_
  refine m_aload_n X dX3_ofOther_10 rfl rfl (by first | rfl | exact isR_rf) ?_
  refine m_getf X fg_X3_32_X3 hM.1 rfl dX3_ofOther_11 ?_
  refine m_iload_n X dX3_ofOther_14 rfl rfl ?_
  refine s_iald X hM rfl rfl (by exact tin (by simp only [alen]; omega) rfl) dX3_ofOther_15 ?_
  refine m_topi X (congrArg (A 10) (nI_clamp (by omega))) ?_
  refine m_iconst X dX3_ofOther_16 (v := 1) (by decide) ?_
  refine m_icmpne X dX3_ofOther_17 (t := 61) (by decide) (fun c_17 => absurd h10 c_17) (fun c_17 => ?_)
  refine m_iload_n X dX3_ofOther_20 rfl rfl ?_
  refine m_ifeq X dX3_ofOther_21 (t := 33) (by decide) (fun c_21 => ?_) (fun c_21 => ?_)
  · skip
    try simp only [bI_0, Bool.not_eq_false] at c_21
    refine m_aload_n X dX3_ofOther_33 rfl rfl (by first | rfl | exact isR_rf) ?_
    refine m_iload_n X dX3_ofOther_34 rfl rfl ?_
    refine m_iconst X dX3_ofOther_35 (v := 1) (by decide) ?_
    refine m_iadd X dX3_ofOther_36 ?_
    refine m_iload_n X dX3_ofOther_37 rfl rfl ?_
    refine m_ifne X dX3_ofOther_38 (t := 50) (by decide) (fun c_38 => absurd c_21 c_38) (fun c_38 => ?_)
    refine m_aload_n X dX3_ofOther_41 rfl rfl (by first | rfl | exact isR_rf) ?_
    refine m_getf X fg_X3_38_X3 hM.1 rfl dX3_ofOther_42 ?_
    refine m_iload_n X dX3_ofOther_45 rfl rfl ?_
    refine s_iald X hM rfl rfl (by exact tin (by simp only [alen]; omega) rfl) dX3_ofOther_46 ?_
    refine m_topi X (congrArg (A 12) (nI_clamp (by omega))) ?_
    refine m_goto X dX3_ofOther_47 (t := 56) (by decide) ?_
    refine m_callV X cs_X3_244  (c_X3_step hM t (A 25 t + 1) _ hF ht) hM.1 rfl rfl rfl (Nat.le_of_ble_eq_true rfl) dX3_ofOther_56 ⟨by decide, by decide, by decide, by decide⟩ (fun v M hp => ?_) (fun _ _ _ _ h => h.elim)
    obtain ⟨rfl, hM⟩ := hp
    refine m_stn ?_
    refine m_iconst X dX3_ofOther_59 (v := 0) (by decide) ?_
    exact m_iret X dX3_ofOther_60 (by decide) (by decide) (by exact pS_eq hM (by unfold bothR; simp [c_21]))
  · skip
    try simp only [bI_0, Bool.not_eq_false] at c_21
    refine m_iload_n X dX3_ofOther_24 rfl rfl ?_
    refine m_iconst X dX3_ofOther_25 (v := 1) (by decide) ?_
    refine m_icmpne X dX3_ofOther_26 (t := 61) (by decide) (fun c_26 => ?_) (fun c_26 => ?_)
    · skip
      refine m_aload_n X dX3_ofOther_61 rfl rfl (by first | rfl | exact isR_rf) ?_
      refine m_getf X fg_X3_32_X3 hM.1 rfl dX3_ofOther_62 ?_
      refine m_iload_n X dX3_ofOther_65 rfl rfl ?_
      refine s_iald X hM rfl rfl (by exact tin (by simp only [alen]; omega) rfl) dX3_ofOther_66 ?_
      refine m_topi X (congrArg (A 10) (nI_clamp (by omega))) ?_
      refine m_iconst X dX3_ofOther_67 (v := 2) (by decide) ?_
      refine m_icmpne X dX3_ofOther_68 (t := 164) (by decide) (fun c_68 => ?_) (fun c_68 => absurd (h10.symm.trans c_68) (by decide))
      refine m_aload_n X dX3_ofOther_164 rfl rfl (by first | rfl | exact isR_rf) ?_
      refine m_dup X dX3_ofOther_165 rfl ?_
      refine m_getf X fg_X3_228_X3 hM.1 rfl dX3_ofOther_166 ?_
      refine m_topi X (hF) ?_
      refine m_iconst X dX3_ofOther_169 (v := 1) (by decide) ?_
      refine m_isub X dX3_ofOther_170 ?_
      refine s_put X hM fp_X3_228_X3 rfl rfl rfl rfl dX3_ofOther_171 (fun M hM => ?_)
      refine m_iload_n X dX3_ofOther_174 rfl rfl ?_
      exact m_iret X dX3_ofOther_175 (by decide) (by decide) (by exact pS_eq hM (by unfold bothR; simp [c_21, c_26]))
    · skip
      refine m_iload_n X dX3_ofOther_29 rfl rfl ?_
      refine m_ifne X dX3_ofOther_30 (t := 61) (by decide) (fun c_30 => ?_) (fun c_30 => ?_)
      · skip
        try simp only [bI_0, Bool.not_eq_false] at c_30
        refine m_aload_n X dX3_ofOther_61 rfl rfl (by first | rfl | exact isR_rf) ?_
        refine m_getf X fg_X3_32_X3 hM.1 rfl dX3_ofOther_62 ?_
        refine m_iload_n X dX3_ofOther_65 rfl rfl ?_
        refine s_iald X hM rfl rfl (by exact tin (by simp only [alen]; omega) rfl) dX3_ofOther_66 ?_
        refine m_topi X (congrArg (A 10) (nI_clamp (by omega))) ?_
        refine m_iconst X dX3_ofOther_67 (v := 2) (by decide) ?_
        refine m_icmpne X dX3_ofOther_68 (t := 164) (by decide) (fun c_68 => ?_) (fun c_68 => absurd (h10.symm.trans c_68) (by decide))
        refine m_aload_n X dX3_ofOther_164 rfl rfl (by first | rfl | exact isR_rf) ?_
        refine m_dup X dX3_ofOther_165 rfl ?_
        refine m_getf X fg_X3_228_X3 hM.1 rfl dX3_ofOther_166 ?_
        refine m_topi X (hF) ?_
        refine m_iconst X dX3_ofOther_169 (v := 1) (by decide) ?_
        refine m_isub X dX3_ofOther_170 ?_
        refine s_put X hM fp_X3_228_X3 rfl rfl rfl rfl dX3_ofOther_171 (fun M hM => ?_)
        refine m_iload_n X dX3_ofOther_174 rfl rfl ?_
        exact m_iret X dX3_ofOther_175 (by decide) (by decide) (by exact pS_eq hM (by unfold bothR; simp [c_21, c_26, c_30]))
      · skip
        try simp only [bI_0, Bool.not_eq_false] at c_30
        refine m_aload_n X dX3_ofOther_33 rfl rfl (by first | rfl | exact isR_rf) ?_
        refine m_iload_n X dX3_ofOther_34 rfl rfl ?_
        refine m_iconst X dX3_ofOther_35 (v := 1) (by decide) ?_
        refine m_iadd X dX3_ofOther_36 ?_
        refine m_iload_n X dX3_ofOther_37 rfl rfl ?_
        refine m_ifne X dX3_ofOther_38 (t := 50) (by decide) (fun c_38 => ?_) (fun c_38 => absurd c_38 c_21)
        refine m_aload_n X dX3_ofOther_50 rfl rfl (by first | rfl | exact isR_rf) ?_
        refine m_getf X fg_X3_41_X3 hM.1 rfl dX3_ofOther_51 ?_
        refine m_iload_n X dX3_ofOther_54 rfl rfl ?_
        refine s_iald X hM rfl rfl (by exact tin (by simp only [alen]; omega) rfl) dX3_ofOther_55 ?_
        refine m_topi X (congrArg (A 13) (nI_clamp (by omega))) ?_
        refine m_callV X cs_X3_244  (c_X3_step hM t (A 25 t + 1) _ hF ht) hM.1 rfl rfl rfl (Nat.le_of_ble_eq_true rfl) dX3_ofOther_56 ⟨by decide, by decide, by decide, by decide⟩ (fun v M hp => ?_) (fun _ _ _ _ h => h.elim)
        obtain ⟨rfl, hM⟩ := hp
        refine m_stn ?_
        refine m_iconst X dX3_ofOther_59 (v := 0) (by decide) ?_
        exact m_iret X dX3_ofOther_60 (by decide) (by decide) (by exact pS_eq hM (by unfold bothR; simp [c_21, c_26, c_30]))
set_option maxHeartbeats 4000000 in
theorem c_X3_ofChoice {G : GX} {h : Nat} {ad : Nat → Nat} {F : Nat → Int32} {A : Nat → Nat → Int32} {B : Nat → Nat → Int64} {M : Mem} (hM : MRep G h ad F A B M) {σ : AS} (hT : MT σ F A B) (hW : WF σ) (t m s k : Nat) (r : Int32) (hF : F 27 = nI t) (ht : t + 1 < 82) (hm : m < 80) (h10 : A 10 m = 2) (h12 : A 12 m = nI s) (h13 : A 13 m = nI k) (hs : s < 12) (hk : k < 10) : Con G yX3_ofOther wX3_ofOther (rmm 2 43) [.ref h, .int (nI m), .int r] M (pS G h ad (some (.int (choiceR σ F A t m s k r).1)) (choiceR σ F A t m s k r).2.1 (choiceR σ F A t m s k r).2.2 B) nX := by
  refine Con.mk (by decide) rfl [(0, some (.ref h)), (1, some (.int (nI m))), (2, some (.int r))] rfl fun x X hno => ?_
  have hb1 := hW.1
  have hsl := hW.sl hs
  refine m_aload_n X dX3_ofOther_0 rfl rfl (by first | rfl | exact isR_rf) ?_
  refine m_getf X fg_X3_63_X3 hM.1 rfl dX3_ofOther_1 ?_
  refine m_aload_n X dX3_ofOther_4 rfl rfl (by first | rfl | exact isR_rf) ?_
  refine m_getf X fg_X3_228_X3 hM.1 rfl dX3_ofOther_5 ?_
  refine m_topi X (hF) ?_
  refine s_iald X hM rfl rfl (by exact tin (by simp only [alen]; omega) rfl) dX3_ofOther_8 ?_
  refine m_topi X (congrArg (A 25) (nI_clamp (by omega))) ?_
  refine m_istore_n X dX3_ofOther_9 rfl rfl rfl ?_
  refine m_aload_n X dX3_ofOther_10 rfl rfl (by first | rfl | exact isR_rf) ?_
  refine m_getf X fg_X3_32_X3 hM.1 rfl dX3_ofOther_11 ?_
  refine m_iload_n X dX3_ofOther_14 rfl rfl ?_
  refine s_iald X hM rfl rfl (by exact tin (by simp only [alen]; omega) rfl) dX3_ofOther_15 ?_
  refine m_topi X (congrArg (A 10) (nI_clamp (by omega))) ?_
  refine m_iconst X dX3_ofOther_16 (v := 1) (by decide) ?_
  refine m_icmpne X dX3_ofOther_17 (t := 61) (by decide) (fun c_17 => ?_) (fun c_17 => absurd (h10.symm.trans c_17) (by decide))
  refine m_aload_n X dX3_ofOther_61 rfl rfl (by first | rfl | exact isR_rf) ?_
  refine m_getf X fg_X3_32_X3 hM.1 rfl dX3_ofOther_62 ?_
  refine m_iload_n X dX3_ofOther_65 rfl rfl ?_
  refine s_iald X hM rfl rfl (by exact tin (by simp only [alen]; omega) rfl) dX3_ofOther_66 ?_
  refine m_topi X (congrArg (A 10) (nI_clamp (by omega))) ?_
  refine m_iconst X dX3_ofOther_67 (v := 2) (by decide) ?_
  refine m_icmpne X dX3_ofOther_68 (t := 164) (by decide) (fun c_68 => absurd h10 c_68) (fun c_68 => ?_)
  refine m_iload_n X dX3_ofOther_71 rfl rfl ?_
  refine m_ifne X dX3_ofOther_72 (t := 164) (by decide) (fun c_72 => ?_) (fun c_72 => ?_)
  · skip
    try simp only [bI_0, Bool.not_eq_false] at c_72
    refine m_aload_n X dX3_ofOther_164 rfl rfl (by first | rfl | exact isR_rf) ?_
    refine m_dup X dX3_ofOther_165 rfl ?_
    refine m_getf X fg_X3_228_X3 hM.1 rfl dX3_ofOther_166 ?_
    refine m_topi X (hF) ?_
    refine m_iconst X dX3_ofOther_169 (v := 1) (by decide) ?_
    refine m_isub X dX3_ofOther_170 ?_
    refine s_put X hM fp_X3_228_X3 rfl rfl rfl rfl dX3_ofOther_171 (fun M hM => ?_)
    refine m_iload_n X dX3_ofOther_174 rfl rfl ?_
    exact m_iret X dX3_ofOther_175 (by decide) (by decide) (by exact pS_eq hM (by unfold choiceR; simp [chooses, c_72]))
  · skip
    try simp only [bI_0, Bool.not_eq_false] at c_72
    refine m_aload_n X dX3_ofOther_75 rfl rfl (by first | rfl | exact isR_rf) ?_
    refine m_getf X fg_X3_26_X3 hM.1 rfl dX3_ofOther_76 ?_
    refine m_aload_n X dX3_ofOther_79 rfl rfl (by first | rfl | exact isR_rf) ?_
    refine m_getf X fg_X3_38_X3 hM.1 rfl dX3_ofOther_80 ?_
    refine m_iload_n X dX3_ofOther_83 rfl rfl ?_
    refine s_iald X hM rfl rfl (by exact tin (by simp only [alen]; omega) rfl) dX3_ofOther_84 ?_
    refine m_topi X ((congrArg (A 12) (nI_clamp (by omega))).trans h12) ?_
    refine s_iald X hM rfl rfl (by exact tin (by simp only [alen]; omega) rfl) dX3_ofOther_85 ?_
    refine m_topi X (hT.slot hs) ?_
    refine m_istore X dX3_ofOther_86 rfl rfl ?_
    refine m_aload_n X dX3_ofOther_88 rfl rfl (by first | rfl | exact isR_rf) ?_
    refine m_getf X fg_X3_41_X3 hM.1 rfl dX3_ofOther_89 ?_
    refine m_iload_n X dX3_ofOther_92 rfl rfl ?_
    refine s_iald X hM rfl rfl (by exact tin (by simp only [alen]; omega) rfl) dX3_ofOther_93 ?_
    refine m_topi X ((congrArg (A 13) (nI_clamp (by omega))).trans h13) ?_
    refine m_ifne X dX3_ofOther_94 (t := 110) (by decide) (fun c_94 => ?_) (fun c_94 => ?_)
    · skip
      try simp only [bI_0, Bool.not_eq_false] at c_94
      rw [z_nI (by omega)] at c_94
      refine m_iload X dX3_ofOther_110 rfl ?_
      refine m_ifeq X dX3_ofOther_112 (t := 134) (by decide) (fun c_112 => ?_) (fun c_112 => ?_)
      · skip
        try simp only [bI_0, Bool.not_eq_false] at c_112
        rw [z_nI (by omega)] at c_112
        refine m_iconst X dX3_ofOther_134 (v := 0) (by decide) ?_
        refine m_istore X dX3_ofOther_135 rfl rfl ?_
        refine m_aload_n X dX3_ofOther_137 rfl rfl (by first | rfl | exact isR_rf) ?_
        refine m_iconst X dX3_ofOther_138 (v := 1) (by decide) ?_
        refine m_iload X dX3_ofOther_139 rfl ?_
        refine m_ifeq X dX3_ofOther_141 (t := 153) (by decide) (fun c_141 => ?_) (fun c_141 => absurd rfl c_141)
        refine m_aload_n X dX3_ofOther_153 rfl rfl (by first | rfl | exact isR_rf) ?_
        refine m_getf X fg_X3_47_X3 hM.1 rfl dX3_ofOther_154 ?_
        refine m_iload_n X dX3_ofOther_157 rfl rfl ?_
        refine s_iald X hM rfl rfl (by exact tin (by simp only [alen]; omega) rfl) dX3_ofOther_158 ?_
        refine m_topi X (congrArg (A 15) (nI_clamp (by omega))) ?_
        refine m_callV X cs_X3_244  (c_X3_step hM t 1 _ hF ht) hM.1 rfl rfl rfl (Nat.le_of_ble_eq_true rfl) dX3_ofOther_159 ⟨by decide, by decide, by decide, by decide⟩ (fun v M hp => ?_) (fun _ _ _ _ h => h.elim)
        obtain ⟨rfl, hM⟩ := hp
        refine m_stn ?_
        refine m_iconst X dX3_ofOther_162 (v := 0) (by decide) ?_
        exact m_iret X dX3_ofOther_163 (by decide) (by decide) (by exact pS_eq hM (by unfold choiceR; simp [chooses, c_72, c_94, c_112]))
      · skip
        try simp only [bI_0, Bool.not_eq_false] at c_112
        rw [z_nI (by omega)] at c_112
        refine m_aload_n X dX3_ofOther_115 rfl rfl (by first | rfl | exact isR_rf) ?_
        refine m_iload X dX3_ofOther_116 rfl ?_
        refine m_aload_n X dX3_ofOther_118 rfl rfl (by first | rfl | exact isR_rf) ?_
        refine m_getf X fg_X3_41_X3 hM.1 rfl dX3_ofOther_119 ?_
        refine m_iload_n X dX3_ofOther_122 rfl rfl ?_
        refine s_iald X hM rfl rfl (by exact tin (by simp only [alen]; omega) rfl) dX3_ofOther_123 ?_
        refine m_topi X ((congrArg (A 13) (nI_clamp (by omega))).trans h13) ?_
        refine m_callV X cs_X3_146  (c_X3_is hM hT hW (σ.sl s) k (by omega) hsl hk) hM.1 rfl rfl rfl (Nat.le_of_ble_eq_true rfl) dX3_ofOther_124 ⟨by decide, by decide, by decide, by decide⟩ (fun v M hp => ?_) (fun _ _ _ _ h => h.elim)
        obtain ⟨rfl, rfl⟩ := hp
        refine m_sti ?_
        refine m_ifeq X dX3_ofOther_127 (t := 134) (by decide) (fun c_127 => ?_) (fun c_127 => ?_)
        · skip
          try simp only [bI_0, Bool.not_eq_false] at c_127
          refine m_iconst X dX3_ofOther_134 (v := 0) (by decide) ?_
          refine m_istore X dX3_ofOther_135 rfl rfl ?_
          refine m_aload_n X dX3_ofOther_137 rfl rfl (by first | rfl | exact isR_rf) ?_
          refine m_iconst X dX3_ofOther_138 (v := 1) (by decide) ?_
          refine m_iload X dX3_ofOther_139 rfl ?_
          refine m_ifeq X dX3_ofOther_141 (t := 153) (by decide) (fun c_141 => ?_) (fun c_141 => absurd rfl c_141)
          refine m_aload_n X dX3_ofOther_153 rfl rfl (by first | rfl | exact isR_rf) ?_
          refine m_getf X fg_X3_47_X3 hM.1 rfl dX3_ofOther_154 ?_
          refine m_iload_n X dX3_ofOther_157 rfl rfl ?_
          refine s_iald X hM rfl rfl (by exact tin (by simp only [alen]; omega) rfl) dX3_ofOther_158 ?_
          refine m_topi X (congrArg (A 15) (nI_clamp (by omega))) ?_
          refine m_callV X cs_X3_244  (c_X3_step hM t 1 _ hF ht) hM.1 rfl rfl rfl (Nat.le_of_ble_eq_true rfl) dX3_ofOther_159 ⟨by decide, by decide, by decide, by decide⟩ (fun v M hp => ?_) (fun _ _ _ _ h => h.elim)
          obtain ⟨rfl, hM⟩ := hp
          refine m_stn ?_
          refine m_iconst X dX3_ofOther_162 (v := 0) (by decide) ?_
          exact m_iret X dX3_ofOther_163 (by decide) (by decide) (by exact pS_eq hM (by unfold choiceR; simp [chooses, c_72, c_94, c_112, c_127]))
        · skip
          try simp only [bI_0, Bool.not_eq_false] at c_127
          refine m_iconst X dX3_ofOther_130 (v := 1) (by decide) ?_
          refine m_goto X dX3_ofOther_131 (t := 135) (by decide) ?_
          refine m_istore X dX3_ofOther_135 rfl rfl ?_
          refine m_aload_n X dX3_ofOther_137 rfl rfl (by first | rfl | exact isR_rf) ?_
          refine m_iconst X dX3_ofOther_138 (v := 1) (by decide) ?_
          refine m_iload X dX3_ofOther_139 rfl ?_
          refine m_ifeq X dX3_ofOther_141 (t := 153) (by decide) (fun c_141 => absurd c_141 (by decide)) (fun c_141 => ?_)
          refine m_aload_n X dX3_ofOther_144 rfl rfl (by first | rfl | exact isR_rf) ?_
          refine m_getf X fg_X3_44_X3 hM.1 rfl dX3_ofOther_145 ?_
          refine m_iload_n X dX3_ofOther_148 rfl rfl ?_
          refine s_iald X hM rfl rfl (by exact tin (by simp only [alen]; omega) rfl) dX3_ofOther_149 ?_
          refine m_topi X (congrArg (A 14) (nI_clamp (by omega))) ?_
          refine m_goto X dX3_ofOther_150 (t := 159) (by decide) ?_
          refine m_callV X cs_X3_244  (c_X3_step hM t 1 _ hF ht) hM.1 rfl rfl rfl (Nat.le_of_ble_eq_true rfl) dX3_ofOther_159 ⟨by decide, by decide, by decide, by decide⟩ (fun v M hp => ?_) (fun _ _ _ _ h => h.elim)
          obtain ⟨rfl, hM⟩ := hp
          refine m_stn ?_
          refine m_iconst X dX3_ofOther_162 (v := 0) (by decide) ?_
          exact m_iret X dX3_ofOther_163 (by decide) (by decide) (by exact pS_eq hM (by unfold choiceR; simp [chooses, c_72, c_94, c_112, c_127]))
    · skip
      try simp only [bI_0, Bool.not_eq_false] at c_94
      rw [z_nI (by omega)] at c_94
      refine m_iload X dX3_ofOther_97 rfl ?_
      refine m_ifne X dX3_ofOther_99 (t := 106) (by decide) (fun c_99 => ?_) (fun c_99 => ?_)
      · skip
        try simp only [bI_0, Bool.not_eq_false] at c_99
        rw [z_nI (by omega)] at c_99
        refine m_iconst X dX3_ofOther_106 (v := 0) (by decide) ?_
        refine m_goto X dX3_ofOther_107 (t := 135) (by decide) ?_
        refine m_istore X dX3_ofOther_135 rfl rfl ?_
        refine m_aload_n X dX3_ofOther_137 rfl rfl (by first | rfl | exact isR_rf) ?_
        refine m_iconst X dX3_ofOther_138 (v := 1) (by decide) ?_
        refine m_iload X dX3_ofOther_139 rfl ?_
        refine m_ifeq X dX3_ofOther_141 (t := 153) (by decide) (fun c_141 => ?_) (fun c_141 => absurd rfl c_141)
        refine m_aload_n X dX3_ofOther_153 rfl rfl (by first | rfl | exact isR_rf) ?_
        refine m_getf X fg_X3_47_X3 hM.1 rfl dX3_ofOther_154 ?_
        refine m_iload_n X dX3_ofOther_157 rfl rfl ?_
        refine s_iald X hM rfl rfl (by exact tin (by simp only [alen]; omega) rfl) dX3_ofOther_158 ?_
        refine m_topi X (congrArg (A 15) (nI_clamp (by omega))) ?_
        refine m_callV X cs_X3_244  (c_X3_step hM t 1 _ hF ht) hM.1 rfl rfl rfl (Nat.le_of_ble_eq_true rfl) dX3_ofOther_159 ⟨by decide, by decide, by decide, by decide⟩ (fun v M hp => ?_) (fun _ _ _ _ h => h.elim)
        obtain ⟨rfl, hM⟩ := hp
        refine m_stn ?_
        refine m_iconst X dX3_ofOther_162 (v := 0) (by decide) ?_
        exact m_iret X dX3_ofOther_163 (by decide) (by decide) (by exact pS_eq hM (by unfold choiceR; simp [chooses, c_72, c_94, c_99]))
      · skip
        try simp only [bI_0, Bool.not_eq_false] at c_99
        rw [z_nI (by omega)] at c_99
        refine m_iconst X dX3_ofOther_102 (v := 1) (by decide) ?_
        refine m_goto X dX3_ofOther_103 (t := 135) (by decide) ?_
        refine m_istore X dX3_ofOther_135 rfl rfl ?_
        refine m_aload_n X dX3_ofOther_137 rfl rfl (by first | rfl | exact isR_rf) ?_
        refine m_iconst X dX3_ofOther_138 (v := 1) (by decide) ?_
        refine m_iload X dX3_ofOther_139 rfl ?_
        refine m_ifeq X dX3_ofOther_141 (t := 153) (by decide) (fun c_141 => absurd c_141 (by decide)) (fun c_141 => ?_)
        refine m_aload_n X dX3_ofOther_144 rfl rfl (by first | rfl | exact isR_rf) ?_
        refine m_getf X fg_X3_44_X3 hM.1 rfl dX3_ofOther_145 ?_
        refine m_iload_n X dX3_ofOther_148 rfl rfl ?_
        refine s_iald X hM rfl rfl (by exact tin (by simp only [alen]; omega) rfl) dX3_ofOther_149 ?_
        refine m_topi X (congrArg (A 14) (nI_clamp (by omega))) ?_
        refine m_goto X dX3_ofOther_150 (t := 159) (by decide) ?_
        refine m_callV X cs_X3_244  (c_X3_step hM t 1 _ hF ht) hM.1 rfl rfl rfl (Nat.le_of_ble_eq_true rfl) dX3_ofOther_159 ⟨by decide, by decide, by decide, by decide⟩ (fun v M hp => ?_) (fun _ _ _ _ h => h.elim)
        obtain ⟨rfl, hM⟩ := hp
        refine m_stn ?_
        refine m_iconst X dX3_ofOther_162 (v := 0) (by decide) ?_
        exact m_iret X dX3_ofOther_163 (by decide) (by decide) (by exact pS_eq hM (by unfold choiceR; simp [chooses, c_72, c_94, c_99]))
def pE (G : GX) (h : Nat) (ad : Nat → Nat) (ν : NS) (F : Nat → Int32) (A : Nat → Nat → Int32) (t r : Int32) (s : ES) : Option Value → Mem → Prop := fun v M' => v = some (.int r) ∧ ∃ (F' : Nat → Int32) (A' : Nat → Nat → Int32) (B' : Nat → Nat → Int64), MRep G h ad F' A' B' M' ∧ RI ν s F' A' B' ∧ F' 27 = t ∧ F' 28 = F 28 ∧ ∀ k, 8 ≤ k → A' k = A k
theorem RI_act {ν : NS} {s : ES} {F0 F : Nat → Int32} {A0 A : Nat → Nat → Int32} {B0 B : Nat → Nat → Int64} {n : Nat} {u w t : Int32} (hR : RI ν s F0 A0 B0) (hV : VN ν) (hn : n < ν.N) (hso : ν.so n = 0) (hT : MT (doAct (ν.op n) (ν.na n) (ν.nb n) (ν.nc n) (ν.nd n) s.1).2 F A B) (hFr : FrT (upd F0 17 (F0 17 + 1)) A0 F A) (hu : u = F 18 + (if (doAct (ν.op n) (ν.na n) (ν.nb n) (ν.nc n) (ν.nd n) s.1).1 = 0 then 0 else 1)) (hw : w = if (doAct (ν.op n) (ν.na n) (ν.nb n) (ν.nc n) (ν.nd n) s.1).1 = 0 then F 22 else nI n) :
    RI ν (exAct ν n s).2 (upd (upd (upd F 18 u) 22 w) 27 t) A B := by
  obtain ⟨h1, h2, h3, h4, h5, h6, h7, h8⟩ := hR
  have hv : isActN (ν.op n) (ν.na n) (ν.nb n) (ν.nc n) (ν.nd n) = true := by
    rcases (hV.2 n hn).1 with z | z | z | z
    · exact z.2.2.1
    · exact absurd (z.1.symm.trans hso) (by decide)
    · exact absurd (z.1.symm.trans hso) (by decide)
    · exact absurd (z.1.symm.trans hso) (by decide)
  have e : ∀ k, k ≠ 0 → k ≠ 1 → k ≠ 19 → k ≠ 17 → F k = F0 k := fun k a b c d => (hFr.1 k a b c).trans (pk_un d)
  refine ⟨((hT.updF (by decide) (by decide) (by decide)).updF (by decide) (by decide) (by decide)).updF (by decide) (by decide) (by decide), WF_doAct h2 hv, ?_, ?_, ?_, ?_, ?_, h8.to ?_ fun k a b => hFr.2 k (by omega)⟩
  · show upd (upd (upd F 18 u) 22 w) 27 t 17 = s.2.1 + 1
    rw [pk_un (by decide), pk_un (by decide), pk_un (by decide), hFr.1 17 (by decide) (by decide) (by decide), pk_us, h3]
  · show upd (upd (upd F 18 u) 22 w) 27 t 18 = s.2.2.1 + _
    rw [pk_un (by decide), pk_un (by decide), pk_us, hu, e 18 (by decide) (by decide) (by decide) (by decide), h4]
  · show upd (upd (upd F 18 u) 22 w) 27 t 20 = s.2.2.2.1
    rw [pk_un (by decide), pk_un (by decide), pk_un (by decide), e 20 (by decide) (by decide) (by decide) (by decide), h5]
  · show upd (upd (upd F 18 u) 22 w) 27 t 21 = s.2.2.2.2.1
    rw [pk_un (by decide), pk_un (by decide), pk_un (by decide), e 21 (by decide) (by decide) (by decide) (by decide), h6]
  · show upd (upd (upd F 18 u) 22 w) 27 t 22 = if _ then _ else _
    rw [pk_un (by decide), pk_us, hw, e 22 (by decide) (by decide) (by decide) (by decide), h7]
  · rw [pk_un (by decide), pk_un (by decide), pk_un (by decide), e 9 (by decide) (by decide) (by decide) (by decide)]
set_option maxHeartbeats 4000000 in
theorem c_X3_ofAct {G : GX} {h : Nat} {ad : Nat → Nat} {F0 : Nat → Int32} {A0 : Nat → Nat → Int32} {B0 : Nat → Nat → Int64} {M : Mem} (hM : MRep G h ad F0 A0 B0 M) {ν : NS} {s : ES} (hR : RI ν s F0 A0 B0) (hV : VN ν) (t m : Nat) (hF : F0 27 = nI t) (hn : m < ν.N) (hso : ν.so m = 0) : Con G yX3_ofAct wX3_ofAct (rmm 7 160) [.ref h, .int (nI m)] M (pE G h ad ν F0 A0 (nI t - 1) (nI (exAct ν m s).1) (exAct ν m s).2) nX := by
  refine Con.mk (by decide) rfl [(0, some (.ref h)), (1, some (.int (nI m)))] rfl fun x X hno => ?_
  have hN := hV.1
  have hmn := hR.2.2.2.2.2.2.2.2 m hn
  obtain ⟨hop, hv⟩ : ν.op m < 18 ∧ isActN (ν.op m) (ν.na m) (ν.nb m) (ν.nc m) (ν.nd m) = true := by
    rcases (hV.2 m hn).1 with z | z | z | z
    · exact ⟨z.2.1, z.2.2.1⟩
    · exact absurd (z.1.symm.trans hso) (by decide)
    · exact absurd (z.1.symm.trans hso) (by decide)
    · exact absurd (z.1.symm.trans hso) (by decide)
  have hlt : (doAct (ν.op m) (ν.na m) (ν.nb m) (ν.nc m) (ν.nd m) s.1).1 < 10 := by
    have := exec_lt ν 1 m s
    unfold exec at this
    rw [if_pos hso] at this
    exact this
  refine m_aload_n X dX3_ofAct_0 rfl rfl (by first | rfl | exact isR_rf) ?_
  refine m_dup X dX3_ofAct_1 rfl ?_
  refine m_getf X fg_X3_235_X3 hM.1 rfl dX3_ofAct_2 ?_
  refine m_iconst X dX3_ofAct_5 (v := 1) (by decide) ?_
  refine m_iadd X dX3_ofAct_6 ?_
  refine m_topi X ((show _ = F0 17 + 1 from rfl)) ?_
  refine s_put X hM fp_X3_235_X3 rfl rfl rfl rfl dX3_ofAct_7 (fun M hM => ?_)
  refine m_aload_n X dX3_ofAct_10 rfl rfl (by first | rfl | exact isR_rf) ?_
  refine m_iload_n X dX3_ofAct_11 rfl rfl ?_
  refine m_callV X cs_X3_238  (c_X3_done hM (hR.1.updF (by decide) (by decide) (by decide)) hR.2.1 m _ _ _ _ _ (by omega) hmn.2.1 hmn.2.2.1 hmn.2.2.2.1 hmn.2.2.2.2.1 hmn.2.2.2.2.2.1 hop hv) hM.1 rfl rfl rfl (Nat.le_of_ble_eq_true rfl) dX3_ofAct_12 ⟨by decide, by decide, by decide, by decide⟩ (fun v M hp => ?_) (fun _ _ _ _ h => h.elim)
  obtain ⟨rfl, F, A, B, hM, hT, hFr⟩ := hp
  refine m_sti ?_
  refine m_istore_n X dX3_ofAct_15 rfl rfl rfl ?_
  refine m_aload_n X dX3_ofAct_16 rfl rfl (by first | rfl | exact isR_rf) ?_
  refine m_dup X dX3_ofAct_17 rfl ?_
  refine m_getf X fg_X3_241_X3 hM.1 rfl dX3_ofAct_18 ?_
  refine m_iload_n X dX3_ofAct_21 rfl rfl ?_
  refine m_ifne X dX3_ofAct_22 (t := 29) (by decide) (fun c_22 => ?_) (fun c_22 => ?_)
  · skip
    try simp only [bI_0, Bool.not_eq_false] at c_22
    rw [z_nI (by have := hlt; omega)] at c_22
    refine m_iconst X dX3_ofAct_29 (v := 1) (by decide) ?_
    refine m_iadd X dX3_ofAct_30 ?_
    refine s_put X hM fp_X3_241_X3 rfl rfl rfl rfl dX3_ofAct_31 (fun M hM => ?_)
    refine m_aload_n X dX3_ofAct_34 rfl rfl (by first | rfl | exact isR_rf) ?_
    refine m_iload_n X dX3_ofAct_35 rfl rfl ?_
    refine m_ifne X dX3_ofAct_36 (t := 46) (by decide) (fun c_36 => ?_) (fun c_36 => absurd c_36 (fun z => c_22 ((z_nI (by have := hlt; omega)).mp z)))
    refine m_iload_n X dX3_ofAct_46 rfl rfl ?_
    refine s_put X hM fp_X3_53_X3 rfl rfl rfl rfl dX3_ofAct_47 (fun M hM => ?_)
    refine m_aload_n X dX3_ofAct_50 rfl rfl (by first | rfl | exact isR_rf) ?_
    refine m_dup X dX3_ofAct_51 rfl ?_
    refine m_getf X fg_X3_228_X3 hM.1 rfl dX3_ofAct_52 ?_
    refine m_topi X ((pk_un (by decide)).trans ((pk_un (by decide)).trans ((hFr.1 27 (by decide) (by decide) (by decide)).trans ((pk_un (by decide)).trans hF)))) ?_
    refine m_iconst X dX3_ofAct_55 (v := 1) (by decide) ?_
    refine m_isub X dX3_ofAct_56 ?_
    refine s_put X hM fp_X3_228_X3 rfl rfl rfl rfl dX3_ofAct_57 (fun M hM => ?_)
    refine m_iload_n X dX3_ofAct_60 rfl rfl ?_
    exact m_iret X dX3_ofAct_61 (by decide) (by decide) (by exact ⟨rfl, _, _, _, hM, RI_act hR hV hn hso hT hFr (by first | rw [if_pos c_22] | rw [if_neg c_22]) (by first | rw [if_pos c_22] | rw [if_neg c_22]), pk_us, (pk_un (by decide)).trans ((pk_un (by decide)).trans ((pk_un (by decide)).trans ((hFr.1 28 (by decide) (by decide) (by decide)).trans (pk_un (by decide))))), hFr.2⟩)
  · skip
    try simp only [bI_0, Bool.not_eq_false] at c_22
    rw [z_nI (by have := hlt; omega)] at c_22
    refine m_iconst X dX3_ofAct_25 (v := 0) (by decide) ?_
    refine m_goto X dX3_ofAct_26 (t := 30) (by decide) ?_
    refine m_iadd X dX3_ofAct_30 ?_
    refine s_put X hM fp_X3_241_X3 rfl rfl rfl rfl dX3_ofAct_31 (fun M hM => ?_)
    refine m_aload_n X dX3_ofAct_34 rfl rfl (by first | rfl | exact isR_rf) ?_
    refine m_iload_n X dX3_ofAct_35 rfl rfl ?_
    refine m_ifne X dX3_ofAct_36 (t := 46) (by decide) (fun c_36 => absurd ((z_nI (by have := hlt; omega)).mpr c_22) c_36) (fun c_36 => ?_)
    refine m_aload_n X dX3_ofAct_39 rfl rfl (by first | rfl | exact isR_rf) ?_
    refine m_getf X fg_X3_53_X3 hM.1 rfl dX3_ofAct_40 ?_
    refine m_topi X (pk_un (by decide)) ?_
    refine m_goto X dX3_ofAct_43 (t := 47) (by decide) ?_
    refine s_put X hM fp_X3_53_X3 rfl rfl rfl rfl dX3_ofAct_47 (fun M hM => ?_)
    refine m_aload_n X dX3_ofAct_50 rfl rfl (by first | rfl | exact isR_rf) ?_
    refine m_dup X dX3_ofAct_51 rfl ?_
    refine m_getf X fg_X3_228_X3 hM.1 rfl dX3_ofAct_52 ?_
    refine m_topi X ((pk_un (by decide)).trans ((pk_un (by decide)).trans ((hFr.1 27 (by decide) (by decide) (by decide)).trans ((pk_un (by decide)).trans hF)))) ?_
    refine m_iconst X dX3_ofAct_55 (v := 1) (by decide) ?_
    refine m_isub X dX3_ofAct_56 ?_
    refine s_put X hM fp_X3_228_X3 rfl rfl rfl rfl dX3_ofAct_57 (fun M hM => ?_)
    refine m_iload_n X dX3_ofAct_60 rfl rfl ?_
    exact m_iret X dX3_ofAct_61 (by decide) (by decide) (by exact ⟨rfl, _, _, _, hM, RI_act hR hV hn hso hT hFr (by first | rw [if_pos c_22] | rw [if_neg c_22]) (by first | rw [if_pos c_22] | rw [if_neg c_22]), pk_us, (pk_un (by decide)).trans ((pk_un (by decide)).trans ((pk_un (by decide)).trans ((hFr.1 28 (by decide) (by decide) (by decide)).trans (pk_un (by decide))))), hFr.2⟩)
