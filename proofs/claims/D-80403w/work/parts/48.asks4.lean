/-! AN ACT'S QUESTIONS, whole, in the model (printed by wip/D-80403w/tools/m48.py) -/
set_option maxRecDepth 100000
theorem pQ_eq {G : GX} {h : Nat} {ad : Nat → Nat} {F : Nat → Int32} {A0 : Nat → Nat → Int32} {B : Nat → Nat → Int64} {M : Mem} {e : Nat} {q p : Bool × QS} {v : Option Value} (eq : q = p) (hp : pQ G h ad F A0 B e (some (.int (bI p.1))) p.2 v M) : pQ G h ad F A0 B e (some (.int (bI q.1))) q.2 v M := by rw [eq]; exact hp
theorem pQ_cg {G : GX} {h : Nat} {ad : Nat → Nat} {F : Nat → Int32} {A0 A : Nat → Nat → Int32} {B : Nat → Nat → Int64} {M : Mem} {e : Nat} {q : Bool × QS} {b : Bool} {w : Int32} {q2 : QS} (hM : MRep G h ad F A B M) (hQ : QR e A q2) (hK : KQ e A0 A) (hw : w = bI b) (eq : q = (b, q2)) : pQ G h ad F A0 B e (some (.int (bI q.1))) q.2 (some (.int w)) M := by rw [eq, hw]; exact ⟨rfl, A, hM, hQ, hK⟩
set_option maxHeartbeats 8000000 in
theorem c_X3_mayAct {G : GX} {h : Nat} {ad : Nat → Nat} {F : Nat → Int32} {A A0 : Nat → Nat → Int32} {B : Nat → Nat → Int64} {M : Mem} {q : QS} {e : Nat} (hM : MRep G h ad F A B M) (hQ : QR e A q) (hK : KQ e A0 A) (he : e < 81) (n op : Nat) (a b c d : Int32) (hn : n < 80) (h11 : A 11 n = nI op) (h12 : A 12 n = a) (h13 : A 13 n = b) (h14 : A 14 n = c) (h15 : A 15 n = d) (hop : op < 18) (hv : isActN op a b c d = true) : Con G yX3_mayAct wX3_mayAct (rmm 5 123) [.ref h, .int (nI e), .int (nI n)] M (pQ G h ad F A0 B e (some (.int (bI (qAct op a b c d q).1))) (qAct op a b c d q).2) nX := by
  refine Con.mk (by decide) rfl [(0, some (.ref h)), (1, some (.int (nI e))), (2, some (.int (nI n)))] rfl fun x X hno => ?_
  have hd0 : ∀ k v, A k n = v → A k (nI n).toNatClampNeg = v := fun k v hk => by rw [nI_clamp (by omega)]; exact hk
  refine m_aload_n X dX3_mayAct_0 rfl rfl (by first | rfl | exact isR_rf) ?_
  refine m_getf X fg_X3_38_X3 hM.1 rfl dX3_mayAct_1 ?_
  refine m_iload_n X dX3_mayAct_4 rfl rfl ?_
  refine s_iald X hM rfl rfl (by exact tin (by simp only [alen]; omega) rfl) dX3_mayAct_5 ?_
  refine m_topi X (hd0 12 _ h12) ?_
  refine m_istore_n X dX3_mayAct_6 rfl rfl rfl ?_
  refine m_aload_n X dX3_mayAct_7 rfl rfl (by first | rfl | exact isR_rf) ?_
  refine m_getf X fg_X3_41_X3 hM.1 rfl dX3_mayAct_8 ?_
  refine m_iload_n X dX3_mayAct_11 rfl rfl ?_
  refine s_iald X hM rfl rfl (by exact tin (by simp only [alen]; omega) rfl) dX3_mayAct_12 ?_
  refine m_topi X (hd0 13 _ h13) ?_
  refine m_istore X dX3_mayAct_13 rfl rfl ?_
  refine m_aload_n X dX3_mayAct_15 rfl rfl (by first | rfl | exact isR_rf) ?_
  refine m_getf X fg_X3_44_X3 hM.1 rfl dX3_mayAct_16 ?_
  refine m_iload_n X dX3_mayAct_19 rfl rfl ?_
  refine s_iald X hM rfl rfl (by exact tin (by simp only [alen]; omega) rfl) dX3_mayAct_20 ?_
  refine m_topi X (hd0 14 _ h14) ?_
  refine m_istore X dX3_mayAct_21 rfl rfl ?_
  refine m_aload_n X dX3_mayAct_23 rfl rfl (by first | rfl | exact isR_rf) ?_
  refine m_getf X fg_X3_35_X3 hM.1 rfl dX3_mayAct_24 ?_
  refine m_iload_n X dX3_mayAct_27 rfl rfl ?_
  refine s_iald X hM rfl rfl (by exact tin (by simp only [alen]; omega) rfl) dX3_mayAct_28 ?_
  refine m_topi X (hd0 11 _ h11) ?_
  refine m_tsw X dX3_mayAct_29 (l0 := 0) (N := 17) (t := 399) (by decide) rfl (by decide) rfl (by decide) (by decide) (fun j_29 hj_29 ej_29 => ?_) (fun ho_29 => ?_)
  · skip
    have hk_29 : j_29 = 0 ∨ j_29 = 1 ∨ j_29 = 2 ∨ j_29 = 3 ∨ j_29 = 4 ∨ j_29 = 5 ∨ j_29 = 6 ∨ j_29 = 7 ∨ j_29 = 8 ∨ j_29 = 9 ∨ j_29 = 10 ∨ j_29 = 11 ∨ j_29 = 12 ∨ j_29 = 13 ∨ j_29 = 14 ∨ j_29 = 15 ∨ j_29 = 16 := by omega
    rcases hk_29 with rfl | rfl | rfl | rfl | rfl | rfl | rfl | rfl | rfl | rfl | rfl | rfl | rfl | rfl | rfl | rfl | rfl
    · skip
      have ej : op = 0 := (nI_eq (by omega) (by decide)).mp ej_29
      subst ej
      clear ej_29
      simp only [isActN, Bool.and_eq_true] at hv
      refine m_pc (pc' := 112) (by decide) ?_
      obtain ⟨a, la, ha, rfl⟩ := inB_r 0 11 (by decide) (by decide) hv.1
      have ta : tn (nI a) = a := tn_nI (by omega)
      refine m_aload_n X dX3_mayAct_112 rfl rfl (by first | rfl | exact isR_rf) ?_
      refine m_iload_n X dX3_mayAct_113 rfl rfl ?_
      refine m_iload X dX3_mayAct_114 rfl ?_
      refine m_ifge X dX3_mayAct_116 (t := 123) (by decide) (fun c_116 => ?_) (fun c_116 => ?_)
      · skip
        try simp only [bI_0, Bool.not_eq_false] at c_116
        have w_116 : ¬ c < 0 := Int32.not_lt.mpr c_116
        refine m_iconst X dX3_mayAct_123 (v := 0) (by decide) ?_
        refine m_iload_n X dX3_mayAct_124 rfl rfl ?_
        refine m_iconst X dX3_mayAct_125 (v := 1) (by decide) ?_
        refine m_iload X dX3_mayAct_126 rfl ?_
        refine m_ishl X dX3_mayAct_128 ?_
        refine m_callV X cs_X3_295  (c_X3_mayNew hM hQ hK he false a _ (by omega)) hM.1 rfl rfl rfl (Nat.le_of_ble_eq_true rfl) dX3_mayAct_129 ⟨by decide, by decide, by decide, by decide⟩ (fun v M hp => ?_) (fun _ _ _ _ h => h.elim)
        obtain ⟨rfl, A, hM, hQ, hK⟩ := hp
        refine m_sti ?_
        exact m_zret X dX3_mayAct_132 (by first | rfl | exact bI_nar) (by decide) (by decide) (by refine pQ_eq ?_ ⟨rfl, A, hM, hQ, hK⟩; simp only [qAct, ta]; rw [decide_eq_false w_116])
      · skip
        try simp only [bI_0, Bool.not_eq_false] at c_116
        have w_116 : c < 0 := Int32.not_le.mp c_116
        refine m_iconst X dX3_mayAct_119 (v := 1) (by decide) ?_
        refine m_goto X dX3_mayAct_120 (t := 124) (by decide) ?_
        refine m_iload_n X dX3_mayAct_124 rfl rfl ?_
        refine m_iconst X dX3_mayAct_125 (v := 1) (by decide) ?_
        refine m_iload X dX3_mayAct_126 rfl ?_
        refine m_ishl X dX3_mayAct_128 ?_
        refine m_callV X cs_X3_295  (c_X3_mayNew hM hQ hK he true a _ (by omega)) hM.1 rfl rfl rfl (Nat.le_of_ble_eq_true rfl) dX3_mayAct_129 ⟨by decide, by decide, by decide, by decide⟩ (fun v M hp => ?_) (fun _ _ _ _ h => h.elim)
        obtain ⟨rfl, A, hM, hQ, hK⟩ := hp
        refine m_sti ?_
        exact m_zret X dX3_mayAct_132 (by first | rfl | exact bI_nar) (by decide) (by decide) (by refine pQ_eq ?_ ⟨rfl, A, hM, hQ, hK⟩; simp only [qAct, ta]; rw [decide_eq_true w_116])
    · skip
      have ej : op = 1 := (nI_eq (by omega) (by decide)).mp ej_29
      subst ej
      clear ej_29
      simp only [isActN, Bool.and_eq_true] at hv
      refine m_pc (pc' := 133) (by decide) ?_
      obtain ⟨a, la, ha, rfl⟩ := inB_r 0 11 (by decide) (by decide) hv
      have ta : tn (nI a) = a := tn_nI (by omega)
      refine m_aload_n X dX3_mayAct_133 rfl rfl (by first | rfl | exact isR_rf) ?_
      refine m_iload_n X dX3_mayAct_134 rfl rfl ?_
      refine m_iload X dX3_mayAct_135 rfl ?_
      refine m_iflt X dX3_mayAct_137 (t := 145) (by decide) (fun c_137 => ?_) (fun c_137 => ?_)
      · skip
        try simp only [bI_0, Bool.not_eq_false] at c_137
        refine m_iconst X dX3_mayAct_145 (v := 1) (by decide) ?_
        refine m_goto X dX3_mayAct_146 (t := 150) (by decide) ?_
        refine m_iload_n X dX3_mayAct_150 rfl rfl ?_
        refine m_bipush X dX3_mayAct_151 (v := 32) (by decide) ?_
        refine m_callV X cs_X3_295  (c_X3_mayNew hM hQ hK he true a _ (by omega)) hM.1 rfl rfl rfl (Nat.le_of_ble_eq_true rfl) dX3_mayAct_153 ⟨by decide, by decide, by decide, by decide⟩ (fun v M hp => ?_) (fun _ _ _ _ h => h.elim)
        obtain ⟨rfl, A, hM, hQ, hK⟩ := hp
        refine m_sti ?_
        exact m_zret X dX3_mayAct_156 (by first | rfl | exact bI_nar) (by decide) (by decide) (by refine pQ_eq ?_ ⟨rfl, A, hM, hQ, hK⟩; simp only [qAct, ta]; rw [decide_eq_true c_137, Bool.true_or])
      · skip
        try simp only [bI_0, Bool.not_eq_false] at c_137
        refine m_iload X dX3_mayAct_140 rfl ?_
        refine m_ifge X dX3_mayAct_142 (t := 149) (by decide) (fun c_142 => ?_) (fun c_142 => ?_)
        · skip
          try simp only [bI_0, Bool.not_eq_false] at c_142
          have w_142 : ¬ c < 0 := Int32.not_lt.mpr c_142
          refine m_iconst X dX3_mayAct_149 (v := 0) (by decide) ?_
          refine m_iload_n X dX3_mayAct_150 rfl rfl ?_
          refine m_bipush X dX3_mayAct_151 (v := 32) (by decide) ?_
          refine m_callV X cs_X3_295  (c_X3_mayNew hM hQ hK he false a _ (by omega)) hM.1 rfl rfl rfl (Nat.le_of_ble_eq_true rfl) dX3_mayAct_153 ⟨by decide, by decide, by decide, by decide⟩ (fun v M hp => ?_) (fun _ _ _ _ h => h.elim)
          obtain ⟨rfl, A, hM, hQ, hK⟩ := hp
          refine m_sti ?_
          exact m_zret X dX3_mayAct_156 (by first | rfl | exact bI_nar) (by decide) (by decide) (by refine pQ_eq ?_ ⟨rfl, A, hM, hQ, hK⟩; simp only [qAct, ta]; rw [decide_eq_false c_137, decide_eq_false w_142, Bool.false_or])
        · skip
          try simp only [bI_0, Bool.not_eq_false] at c_142
          have w_142 : c < 0 := Int32.not_le.mp c_142
          refine m_iconst X dX3_mayAct_145 (v := 1) (by decide) ?_
          refine m_goto X dX3_mayAct_146 (t := 150) (by decide) ?_
          refine m_iload_n X dX3_mayAct_150 rfl rfl ?_
          refine m_bipush X dX3_mayAct_151 (v := 32) (by decide) ?_
          refine m_callV X cs_X3_295  (c_X3_mayNew hM hQ hK he true a _ (by omega)) hM.1 rfl rfl rfl (Nat.le_of_ble_eq_true rfl) dX3_mayAct_153 ⟨by decide, by decide, by decide, by decide⟩ (fun v M hp => ?_) (fun _ _ _ _ h => h.elim)
          obtain ⟨rfl, A, hM, hQ, hK⟩ := hp
          refine m_sti ?_
          exact m_zret X dX3_mayAct_156 (by first | rfl | exact bI_nar) (by decide) (by decide) (by refine pQ_eq ?_ ⟨rfl, A, hM, hQ, hK⟩; simp only [qAct, ta]; rw [decide_eq_false c_137, decide_eq_true w_142, Bool.false_or])
    · skip
      have ej : op = 2 := (nI_eq (by omega) (by decide)).mp ej_29
      subst ej
      clear ej_29
      simp only [isActN, Bool.and_eq_true] at hv
      refine m_pc (pc' := 157) (by decide) ?_
      obtain ⟨a, la, ha, rfl⟩ := inB_r 0 11 (by decide) (by decide) hv
      have ta : tn (nI a) = a := tn_nI (by omega)
      refine m_aload_n X dX3_mayAct_157 rfl rfl (by first | rfl | exact isR_rf) ?_
      refine m_iload_n X dX3_mayAct_158 rfl rfl ?_
      refine m_iload X dX3_mayAct_159 rfl ?_
      refine m_ifge X dX3_mayAct_161 (t := 168) (by decide) (fun c_161 => ?_) (fun c_161 => ?_)
      · skip
        try simp only [bI_0, Bool.not_eq_false] at c_161
        have w_161 : ¬ b < 0 := Int32.not_lt.mpr c_161
        refine m_iconst X dX3_mayAct_168 (v := 0) (by decide) ?_
        refine m_iload_n X dX3_mayAct_169 rfl rfl ?_
        refine m_bipush X dX3_mayAct_170 (v := 32) (by decide) ?_
        refine m_callV X cs_X3_295  (c_X3_mayNew hM hQ hK he false a _ (by omega)) hM.1 rfl rfl rfl (Nat.le_of_ble_eq_true rfl) dX3_mayAct_172 ⟨by decide, by decide, by decide, by decide⟩ (fun v M hp => ?_) (fun _ _ _ _ h => h.elim)
        obtain ⟨rfl, A, hM, hQ, hK⟩ := hp
        refine m_sti ?_
        exact m_zret X dX3_mayAct_175 (by first | rfl | exact bI_nar) (by decide) (by decide) (by refine pQ_eq ?_ ⟨rfl, A, hM, hQ, hK⟩; simp only [qAct, ta]; rw [decide_eq_false w_161])
      · skip
        try simp only [bI_0, Bool.not_eq_false] at c_161
        have w_161 : b < 0 := Int32.not_le.mp c_161
        refine m_iconst X dX3_mayAct_164 (v := 1) (by decide) ?_
        refine m_goto X dX3_mayAct_165 (t := 169) (by decide) ?_
        refine m_iload_n X dX3_mayAct_169 rfl rfl ?_
        refine m_bipush X dX3_mayAct_170 (v := 32) (by decide) ?_
        refine m_callV X cs_X3_295  (c_X3_mayNew hM hQ hK he true a _ (by omega)) hM.1 rfl rfl rfl (Nat.le_of_ble_eq_true rfl) dX3_mayAct_172 ⟨by decide, by decide, by decide, by decide⟩ (fun v M hp => ?_) (fun _ _ _ _ h => h.elim)
        obtain ⟨rfl, A, hM, hQ, hK⟩ := hp
        refine m_sti ?_
        exact m_zret X dX3_mayAct_175 (by first | rfl | exact bI_nar) (by decide) (by decide) (by refine pQ_eq ?_ ⟨rfl, A, hM, hQ, hK⟩; simp only [qAct, ta]; rw [decide_eq_true w_161])
    · skip
      have ej : op = 3 := (nI_eq (by omega) (by decide)).mp ej_29
      subst ej
      clear ej_29
      simp only [isActN, Bool.and_eq_true] at hv
      refine m_pc (pc' := 176) (by decide) ?_
      obtain ⟨a, la, ha, rfl⟩ := inB_r 0 11 (by decide) (by decide) hv
      have ta : tn (nI a) = a := tn_nI (by omega)
      refine m_aload_n X dX3_mayAct_176 rfl rfl (by first | rfl | exact isR_rf) ?_
      refine m_iload_n X dX3_mayAct_177 rfl rfl ?_
      refine m_iconst X dX3_mayAct_178 (v := 0) (by decide) ?_
      refine m_iload_n X dX3_mayAct_179 rfl rfl ?_
      refine m_iload X dX3_mayAct_180 rfl ?_
      refine m_ifne X dX3_mayAct_182 (t := 191) (by decide) (fun c_182 => ?_) (fun c_182 => ?_)
      · skip
        try simp only [bI_0, Bool.not_eq_false] at c_182
        refine m_sipush X dX3_mayAct_191 (v := 512) (by decide) ?_
        refine m_callV X cs_X3_295  (c_X3_mayNew hM hQ hK he false a _ (by omega)) hM.1 rfl rfl rfl (Nat.le_of_ble_eq_true rfl) dX3_mayAct_194 ⟨by decide, by decide, by decide, by decide⟩ (fun v M hp => ?_) (fun _ _ _ _ h => h.elim)
        obtain ⟨rfl, A, hM, hQ, hK⟩ := hp
        refine m_sti ?_
        exact m_zret X dX3_mayAct_197 (by first | rfl | exact bI_nar) (by decide) (by decide) (by refine pQ_eq ?_ ⟨rfl, A, hM, hQ, hK⟩; simp only [qAct, ta]; rw [if_neg c_182])
      · skip
        try simp only [bI_0, Bool.not_eq_false] at c_182
        refine m_sipush X dX3_mayAct_185 (v := 256) (by decide) ?_
        refine m_goto X dX3_mayAct_188 (t := 194) (by decide) ?_
        refine m_callV X cs_X3_295  (c_X3_mayNew hM hQ hK he false a _ (by omega)) hM.1 rfl rfl rfl (Nat.le_of_ble_eq_true rfl) dX3_mayAct_194 ⟨by decide, by decide, by decide, by decide⟩ (fun v M hp => ?_) (fun _ _ _ _ h => h.elim)
        obtain ⟨rfl, A, hM, hQ, hK⟩ := hp
        refine m_sti ?_
        exact m_zret X dX3_mayAct_197 (by first | rfl | exact bI_nar) (by decide) (by decide) (by refine pQ_eq ?_ ⟨rfl, A, hM, hQ, hK⟩; simp only [qAct, ta]; rw [if_pos c_182])
    · skip
      have ej : op = 4 := (nI_eq (by omega) (by decide)).mp ej_29
      subst ej
      clear ej_29
      simp only [isActN, Bool.and_eq_true] at hv
      refine m_pc (pc' := 198) (by decide) ?_
      obtain ⟨a, la, ha, rfl⟩ := inB_r 0 11 (by decide) (by decide) hv.1
      obtain ⟨b, lb, hb, rfl⟩ := inB_r 0 11 (by decide) (by decide) hv.2.1
      have ta : tn (nI a) = a := tn_nI (by omega)
      have tb : tn (nI b) = b := tn_nI (by omega)
      refine m_iload X dX3_mayAct_198 rfl ?_
      refine m_ifeq X dX3_mayAct_200 (t := 215) (by decide) (fun c_200 => ?_) (fun c_200 => ?_)
      · skip
        try simp only [bI_0, Bool.not_eq_false] at c_200
        refine m_iconst X dX3_mayAct_215 (v := 1) (by decide) ?_
        refine m_goto X dX3_mayAct_216 (t := 220) (by decide) ?_
        refine m_istore X dX3_mayAct_220 rfl rfl ?_
        refine m_aload_n X dX3_mayAct_222 rfl rfl (by first | rfl | exact isR_rf) ?_
        refine m_getf X fg_X3_100_X3 hM.1 rfl dX3_mayAct_223 ?_
        refine m_iload_n X dX3_mayAct_226 rfl rfl ?_
        refine m_aload_n X dX3_mayAct_227 rfl rfl (by first | rfl | exact isR_rf) ?_
        refine m_getf X fg_X3_100_X3 hM.1 rfl dX3_mayAct_228 ?_
        refine m_iload X dX3_mayAct_231 rfl ?_
        refine s_iald X hM rfl rfl (by exact tin (by simp only [alen]; omega) rfl) dX3_mayAct_233 ?_
        refine m_topi X (hQ.now (by omega)) ?_
        refine s_now X hM hQ hK (by omega) dX3_mayAct_234 (fun A M hM hQ hK => ?_)
        refine m_iload X dX3_mayAct_235 rfl ?_
        exact m_zret X dX3_mayAct_237 (by first | rfl | exact bI_nar) (by decide) (by decide) (by exact pQ_cg hM hQ hK (b := true) rfl (by simp only [qAct, ta, tb]; rw [if_pos c_200]))
      · skip
        try simp only [bI_0, Bool.not_eq_false] at c_200
        refine m_aload_n X dX3_mayAct_203 rfl rfl (by first | rfl | exact isR_rf) ?_
        refine m_iload_n X dX3_mayAct_204 rfl rfl ?_
        refine m_iload X dX3_mayAct_205 rfl ?_
        refine m_iload X dX3_mayAct_207 rfl ?_
        refine m_callV X cs_X3_283  (c_X3_mayAs hM hQ hK he b _ (by omega)) hM.1 rfl rfl rfl (Nat.le_of_ble_eq_true rfl) dX3_mayAct_209 ⟨by decide, by decide, by decide, by decide⟩ (fun v M hp => ?_) (fun _ _ _ _ h => h.elim)
        obtain ⟨rfl, A, hM, hQ, hK⟩ := hp
        refine m_sti ?_
        refine m_ifeq X dX3_mayAct_212 (t := 219) (by decide) (fun c_212 => ?_) (fun c_212 => ?_)
        · skip
          try simp only [bI_0, Bool.not_eq_false] at c_212
          refine m_iconst X dX3_mayAct_219 (v := 0) (by decide) ?_
          refine m_istore X dX3_mayAct_220 rfl rfl ?_
          refine m_aload_n X dX3_mayAct_222 rfl rfl (by first | rfl | exact isR_rf) ?_
          refine m_getf X fg_X3_100_X3 hM.1 rfl dX3_mayAct_223 ?_
          refine m_iload_n X dX3_mayAct_226 rfl rfl ?_
          refine m_aload_n X dX3_mayAct_227 rfl rfl (by first | rfl | exact isR_rf) ?_
          refine m_getf X fg_X3_100_X3 hM.1 rfl dX3_mayAct_228 ?_
          refine m_iload X dX3_mayAct_231 rfl ?_
          refine s_iald X hM rfl rfl (by exact tin (by simp only [alen]; omega) rfl) dX3_mayAct_233 ?_
          refine m_topi X (hQ.now (by omega)) ?_
          refine s_now X hM hQ hK (by omega) dX3_mayAct_234 (fun A M hM hQ hK => ?_)
          refine m_iload X dX3_mayAct_235 rfl ?_
          exact m_zret X dX3_mayAct_237 (by first | rfl | exact bI_nar) (by decide) (by decide) (by exact pQ_cg hM hQ hK (b := false) rfl (by simp only [qAct, ta, tb]; rw [if_neg c_200, c_212]))
        · skip
          try simp only [bI_0, Bool.not_eq_false] at c_212
          refine m_iconst X dX3_mayAct_215 (v := 1) (by decide) ?_
          refine m_goto X dX3_mayAct_216 (t := 220) (by decide) ?_
          refine m_istore X dX3_mayAct_220 rfl rfl ?_
          refine m_aload_n X dX3_mayAct_222 rfl rfl (by first | rfl | exact isR_rf) ?_
          refine m_getf X fg_X3_100_X3 hM.1 rfl dX3_mayAct_223 ?_
          refine m_iload_n X dX3_mayAct_226 rfl rfl ?_
          refine m_aload_n X dX3_mayAct_227 rfl rfl (by first | rfl | exact isR_rf) ?_
          refine m_getf X fg_X3_100_X3 hM.1 rfl dX3_mayAct_228 ?_
          refine m_iload X dX3_mayAct_231 rfl ?_
          refine s_iald X hM rfl rfl (by exact tin (by simp only [alen]; omega) rfl) dX3_mayAct_233 ?_
          refine m_topi X (hQ.now (by omega)) ?_
          refine s_now X hM hQ hK (by omega) dX3_mayAct_234 (fun A M hM hQ hK => ?_)
          refine m_iload X dX3_mayAct_235 rfl ?_
          exact m_zret X dX3_mayAct_237 (by first | rfl | exact bI_nar) (by decide) (by decide) (by exact pQ_cg hM hQ hK (b := true) rfl (by simp only [qAct, ta, tb]; rw [if_neg c_200, c_212]))
    · skip
      have ej : op = 5 := (nI_eq (by omega) (by decide)).mp ej_29
      subst ej
      clear ej_29
      simp only [isActN, Bool.and_eq_true] at hv
      refine m_pc (pc' := 238) (by decide) ?_
      obtain ⟨b, lb, hb, rfl⟩ := inB_r 0 11 (by decide) (by decide) hv.2.1
      have tb : tn (nI b) = b := tn_nI (by omega)
      refine m_aload_n X dX3_mayAct_238 rfl rfl (by first | rfl | exact isR_rf) ?_
      refine m_iload_n X dX3_mayAct_239 rfl rfl ?_
      refine m_iload X dX3_mayAct_240 rfl ?_
      refine m_iload X dX3_mayAct_242 rfl ?_
      refine m_callV X cs_X3_292  (c_X3_mayItem hM hQ hK he b _ (by omega)) hM.1 rfl rfl rfl (Nat.le_of_ble_eq_true rfl) dX3_mayAct_244 ⟨by decide, by decide, by decide, by decide⟩ (fun v M hp => ?_) (fun _ _ _ _ h => h.elim)
      obtain ⟨rfl, A, hM, hQ, hK⟩ := hp
      refine m_sti ?_
      exact m_zret X dX3_mayAct_247 (by first | rfl | exact bI_nar) (by decide) (by decide) (by refine pQ_eq ?_ ⟨rfl, A, hM, hQ, hK⟩; simp only [qAct, tb])
    · skip
      have ej : op = 6 := (nI_eq (by omega) (by decide)).mp ej_29
      subst ej
      clear ej_29
      simp only [isActN, Bool.and_eq_true] at hv
      refine m_pc (pc' := 248) (by decide) ?_
      obtain ⟨a, la, ha, rfl⟩ := inB_r 0 11 (by decide) (by decide) hv.1
      have ta : tn (nI a) = a := tn_nI (by omega)
      refine m_aload_n X dX3_mayAct_248 rfl rfl (by first | rfl | exact isR_rf) ?_
      refine m_iload_n X dX3_mayAct_249 rfl rfl ?_
      refine m_iload_n X dX3_mayAct_250 rfl rfl ?_
      refine m_iload X dX3_mayAct_251 rfl ?_
      refine m_callV X cs_X3_292  (c_X3_mayItem hM hQ hK he a _ (by omega)) hM.1 rfl rfl rfl (Nat.le_of_ble_eq_true rfl) dX3_mayAct_253 ⟨by decide, by decide, by decide, by decide⟩ (fun v M hp => ?_) (fun _ _ _ _ h => h.elim)
      obtain ⟨rfl, A, hM, hQ, hK⟩ := hp
      refine m_sti ?_
      exact m_zret X dX3_mayAct_256 (by first | rfl | exact bI_nar) (by decide) (by decide) (by refine pQ_eq ?_ ⟨rfl, A, hM, hQ, hK⟩; simp only [qAct, ta])
    · skip
      have ej : op = 7 := (nI_eq (by omega) (by decide)).mp ej_29
      subst ej
      clear ej_29
      simp only [isActN, Bool.and_eq_true] at hv
      refine m_pc (pc' := 257) (by decide) ?_
      obtain ⟨a, la, ha, rfl⟩ := inB_r 0 11 (by decide) (by decide) hv.1
      obtain ⟨b, lb, hb, rfl⟩ := inB_r 0 11 (by decide) (by decide) hv.2.1
      have ta : tn (nI a) = a := tn_nI (by omega)
      have tb : tn (nI b) = b := tn_nI (by omega)
      refine m_aload_n X dX3_mayAct_257 rfl rfl (by first | rfl | exact isR_rf) ?_
      refine m_iload_n X dX3_mayAct_258 rfl rfl ?_
      refine m_iload_n X dX3_mayAct_259 rfl rfl ?_
      refine m_iload X dX3_mayAct_260 rfl ?_
      refine m_iload X dX3_mayAct_262 rfl ?_
      refine m_callV X cs_X3_299  (c_X3_mayTake hM hQ hK he a b _ (by omega) (by omega)) hM.1 rfl rfl rfl (Nat.le_of_ble_eq_true rfl) dX3_mayAct_264 ⟨by decide, by decide, by decide, by decide⟩ (fun v M hp => ?_) (fun _ _ _ _ h => h.elim)
      obtain ⟨rfl, A, hM, hQ, hK⟩ := hp
      refine m_sti ?_
      exact m_zret X dX3_mayAct_267 (by first | rfl | exact bI_nar) (by decide) (by decide) (by refine pQ_eq ?_ ⟨rfl, A, hM, hQ, hK⟩; simp only [qAct, ta, tb])
    · skip
      have ej : op = 8 := (nI_eq (by omega) (by decide)).mp ej_29
      subst ej
      clear ej_29
      simp only [isActN, Bool.and_eq_true] at hv
      refine m_pc (pc' := 268) (by decide) ?_
      obtain ⟨a, la, ha, rfl⟩ := inB_r 0 11 (by decide) (by decide) hv.1
      obtain ⟨d, ld, hd, rfl⟩ := inB_r 0 11 (by decide) (by decide) hv.2.2
      have ta : tn (nI a) = a := tn_nI (by omega)
      have td : tn (nI d) = d := tn_nI (by omega)
      refine m_aload_n X dX3_mayAct_268 rfl rfl (by first | rfl | exact isR_rf) ?_
      refine m_iload_n X dX3_mayAct_269 rfl rfl ?_
      refine m_iload_n X dX3_mayAct_270 rfl rfl ?_
      refine m_iload X dX3_mayAct_271 rfl ?_
      refine m_aload_n X dX3_mayAct_273 rfl rfl (by first | rfl | exact isR_rf) ?_
      refine m_getf X fg_X3_47_X3 hM.1 rfl dX3_mayAct_274 ?_
      refine m_iload_n X dX3_mayAct_277 rfl rfl ?_
      refine s_iald X hM rfl rfl (by exact tin (by simp only [alen]; omega) rfl) dX3_mayAct_278 ?_
      refine m_topi X (hd0 15 _ h15) ?_
      refine m_callV X cs_X3_303  (c_X3_mayLay hM hQ hK he a _ d (by omega) (by omega)) hM.1 rfl rfl rfl (Nat.le_of_ble_eq_true rfl) dX3_mayAct_279 ⟨by decide, by decide, by decide, by decide⟩ (fun v M hp => ?_) (fun _ _ _ _ h => h.elim)
      obtain ⟨rfl, A, hM, hQ, hK⟩ := hp
      refine m_sti ?_
      exact m_zret X dX3_mayAct_282 (by first | rfl | exact bI_nar) (by decide) (by decide) (by refine pQ_eq ?_ ⟨rfl, A, hM, hQ, hK⟩; simp only [qAct, ta, td])
    · skip
      have ej : op = 9 := (nI_eq (by omega) (by decide)).mp ej_29
      subst ej
      clear ej_29
      simp only [isActN, Bool.and_eq_true] at hv
      refine m_pc (pc' := 283) (by decide) ?_
      obtain ⟨b, lb, hb, rfl⟩ := inB_r 0 11 (by decide) (by decide) hv.2.1
      have tb : tn (nI b) = b := tn_nI (by omega)
      refine m_aload_n X dX3_mayAct_283 rfl rfl (by first | rfl | exact isR_rf) ?_
      refine m_iload_n X dX3_mayAct_284 rfl rfl ?_
      refine m_iload X dX3_mayAct_285 rfl ?_
      refine m_iload X dX3_mayAct_287 rfl ?_
      refine m_callV X cs_X3_283  (c_X3_mayAs hM hQ hK he b _ (by omega)) hM.1 rfl rfl rfl (Nat.le_of_ble_eq_true rfl) dX3_mayAct_289 ⟨by decide, by decide, by decide, by decide⟩ (fun v M hp => ?_) (fun _ _ _ _ h => h.elim)
      obtain ⟨rfl, A, hM, hQ, hK⟩ := hp
      refine m_sti ?_
      refine m_ifeq X dX3_mayAct_292 (t := 309) (by decide) (fun c_292 => ?_) (fun c_292 => ?_)
      · skip
        try simp only [bI_0, Bool.not_eq_false] at c_292
        refine m_iconst X dX3_mayAct_309 (v := 0) (by decide) ?_
        exact m_zret X dX3_mayAct_310 (by first | rfl | exact bI_nar) (by decide) (by decide) (by exact pQ_cg hM hQ hK (b := false) rfl (by simp only [qAct, tb]; simp only [qRT, c_292, if_true, Bool.false_eq_true, if_false]))
      · skip
        try simp only [bI_0, Bool.not_eq_false] at c_292
        refine m_aload_n X dX3_mayAct_295 rfl rfl (by first | rfl | exact isR_rf) ?_
        refine m_iload_n X dX3_mayAct_296 rfl rfl ?_
        refine m_iload X dX3_mayAct_297 rfl ?_
        refine m_callV X cs_X3_286  (c_X3_mayRow hM hQ hK he b (by omega)) hM.1 rfl rfl rfl (Nat.le_of_ble_eq_true rfl) dX3_mayAct_299 ⟨by decide, by decide, by decide, by decide⟩ (fun v M hp => ?_) (fun _ _ _ _ h => h.elim)
        obtain ⟨rfl, A, hM, hQ, hK⟩ := hp
        refine m_sti ?_
        refine m_ifeq X dX3_mayAct_302 (t := 309) (by decide) (fun c_302 => ?_) (fun c_302 => ?_)
        · skip
          try simp only [bI_0, Bool.not_eq_false] at c_302
          refine m_iconst X dX3_mayAct_309 (v := 0) (by decide) ?_
          exact m_zret X dX3_mayAct_310 (by first | rfl | exact bI_nar) (by decide) (by decide) (by exact pQ_cg hM hQ hK (b := false) rfl (by simp only [qAct, tb]; simp only [qRT, c_292, c_302, if_true, Bool.false_eq_true, if_false]))
        · skip
          try simp only [bI_0, Bool.not_eq_false] at c_302
          refine m_iconst X dX3_mayAct_305 (v := 1) (by decide) ?_
          refine m_goto X dX3_mayAct_306 (t := 310) (by decide) ?_
          exact m_zret X dX3_mayAct_310 (by first | rfl | exact bI_nar) (by decide) (by decide) (by exact pQ_cg hM hQ hK (b := true) rfl (by simp only [qAct, tb]; simp only [qRT, c_292, c_302, if_true, Bool.false_eq_true, if_false]))
    · skip
      have ej : op = 10 := (nI_eq (by omega) (by decide)).mp ej_29
      subst ej
      clear ej_29
      simp only [isActN, Bool.and_eq_true] at hv
      refine m_pc (pc' := 311) (by decide) ?_
      obtain ⟨a, la, ha, rfl⟩ := inB_r 0 11 (by decide) (by decide) hv.1
      obtain ⟨b, lb, hb, rfl⟩ := inB_r 0 11 (by decide) (by decide) hv.2
      have ta : tn (nI a) = a := tn_nI (by omega)
      have tb : tn (nI b) = b := tn_nI (by omega)
      refine m_aload_n X dX3_mayAct_311 rfl rfl (by first | rfl | exact isR_rf) ?_
      refine m_iload_n X dX3_mayAct_312 rfl rfl ?_
      refine m_iload X dX3_mayAct_313 rfl ?_
      refine m_iconst X dX3_mayAct_315 (v := 1) (by decide) ?_
      refine m_callV X cs_X3_283  (c_X3_mayAs hM hQ hK he b 1 (by omega)) hM.1 rfl rfl rfl (Nat.le_of_ble_eq_true rfl) dX3_mayAct_316 ⟨by decide, by decide, by decide, by decide⟩ (fun v M hp => ?_) (fun _ _ _ _ h => h.elim)
      obtain ⟨rfl, A, hM, hQ, hK⟩ := hp
      refine m_sti ?_
      refine m_ifeq X dX3_mayAct_319 (t := 347) (by decide) (fun c_319 => ?_) (fun c_319 => ?_)
      · skip
        try simp only [bI_0, Bool.not_eq_false] at c_319
        refine m_iconst X dX3_mayAct_347 (v := 0) (by decide) ?_
        exact m_zret X dX3_mayAct_348 (by first | rfl | exact bI_nar) (by decide) (by decide) (by exact pQ_cg hM hQ hK (b := false) rfl (by simp only [qAct, ta, tb]; simp only [qRT, c_319, if_true, Bool.false_eq_true, if_false]; try exact Prod.ext c_340 rfl))
      · skip
        try simp only [bI_0, Bool.not_eq_false] at c_319
        refine m_aload_n X dX3_mayAct_322 rfl rfl (by first | rfl | exact isR_rf) ?_
        refine m_iload_n X dX3_mayAct_323 rfl rfl ?_
        refine m_iload X dX3_mayAct_324 rfl ?_
        refine m_callV X cs_X3_286  (c_X3_mayRow hM hQ hK he b (by omega)) hM.1 rfl rfl rfl (Nat.le_of_ble_eq_true rfl) dX3_mayAct_326 ⟨by decide, by decide, by decide, by decide⟩ (fun v M hp => ?_) (fun _ _ _ _ h => h.elim)
        obtain ⟨rfl, A, hM, hQ, hK⟩ := hp
        refine m_sti ?_
        refine m_ifeq X dX3_mayAct_329 (t := 347) (by decide) (fun c_329 => ?_) (fun c_329 => ?_)
        · skip
          try simp only [bI_0, Bool.not_eq_false] at c_329
          refine m_iconst X dX3_mayAct_347 (v := 0) (by decide) ?_
          exact m_zret X dX3_mayAct_348 (by first | rfl | exact bI_nar) (by decide) (by decide) (by exact pQ_cg hM hQ hK (b := false) rfl (by simp only [qAct, ta, tb]; simp only [qRT, c_319, c_329, if_true, Bool.false_eq_true, if_false]; try exact Prod.ext c_340 rfl))
        · skip
          try simp only [bI_0, Bool.not_eq_false] at c_329
          refine m_aload_n X dX3_mayAct_332 rfl rfl (by first | rfl | exact isR_rf) ?_
          refine m_iload_n X dX3_mayAct_333 rfl rfl ?_
          refine m_iconst X dX3_mayAct_334 (v := 0) (by decide) ?_
          refine m_iload_n X dX3_mayAct_335 rfl rfl ?_
          refine m_iconst X dX3_mayAct_336 (v := 2) (by decide) ?_
          refine m_callV X cs_X3_295  (c_X3_mayNew hM hQ hK he false a 2 (by omega)) hM.1 rfl rfl rfl (Nat.le_of_ble_eq_true rfl) dX3_mayAct_337 ⟨by decide, by decide, by decide, by decide⟩ (fun v M hp => ?_) (fun _ _ _ _ h => h.elim)
          obtain ⟨rfl, A, hM, hQ, hK⟩ := hp
          refine m_sti ?_
          refine m_ifeq X dX3_mayAct_340 (t := 347) (by decide) (fun c_340 => ?_) (fun c_340 => ?_)
          · skip
            try simp only [bI_0, Bool.not_eq_false] at c_340
            refine m_iconst X dX3_mayAct_347 (v := 0) (by decide) ?_
            exact m_zret X dX3_mayAct_348 (by first | rfl | exact bI_nar) (by decide) (by decide) (by exact pQ_cg hM hQ hK (b := false) rfl (by simp only [qAct, ta, tb]; simp only [qRT, c_319, c_329, if_true, Bool.false_eq_true, if_false]; try exact Prod.ext c_340 rfl))
          · skip
            try simp only [bI_0, Bool.not_eq_false] at c_340
            refine m_iconst X dX3_mayAct_343 (v := 1) (by decide) ?_
            refine m_goto X dX3_mayAct_344 (t := 348) (by decide) ?_
            exact m_zret X dX3_mayAct_348 (by first | rfl | exact bI_nar) (by decide) (by decide) (by exact pQ_cg hM hQ hK (b := true) rfl (by simp only [qAct, ta, tb]; simp only [qRT, c_319, c_329, if_true, Bool.false_eq_true, if_false]; try exact Prod.ext c_340 rfl))
    · skip
      have ej : op = 11 := (nI_eq (by omega) (by decide)).mp ej_29
      subst ej
      clear ej_29
      simp only [isActN, Bool.and_eq_true] at hv
      refine m_pc (pc' := 349) (by decide) ?_
      obtain ⟨b, lb, hb, rfl⟩ := inB_r 0 11 (by decide) (by decide) hv.2
      have tb : tn (nI b) = b := tn_nI (by omega)
      refine m_aload_n X dX3_mayAct_349 rfl rfl (by first | rfl | exact isR_rf) ?_
      refine m_iload_n X dX3_mayAct_350 rfl rfl ?_
      refine m_iload X dX3_mayAct_351 rfl ?_
      refine m_bipush X dX3_mayAct_353 (v := 8) (by decide) ?_
      refine m_callV X cs_X3_283  (c_X3_mayAs hM hQ hK he b 8 (by omega)) hM.1 rfl rfl rfl (Nat.le_of_ble_eq_true rfl) dX3_mayAct_355 ⟨by decide, by decide, by decide, by decide⟩ (fun v M hp => ?_) (fun _ _ _ _ h => h.elim)
      obtain ⟨rfl, A, hM, hQ, hK⟩ := hp
      refine m_sti ?_
      refine m_ifeq X dX3_mayAct_358 (t := 375) (by decide) (fun c_358 => ?_) (fun c_358 => ?_)
      · skip
        try simp only [bI_0, Bool.not_eq_false] at c_358
        refine m_iconst X dX3_mayAct_375 (v := 0) (by decide) ?_
        exact m_zret X dX3_mayAct_376 (by first | rfl | exact bI_nar) (by decide) (by decide) (by exact pQ_cg hM hQ hK (b := false) rfl (by simp only [qAct, tb]; simp only [qRT, c_358, if_true, Bool.false_eq_true, if_false]))
      · skip
        try simp only [bI_0, Bool.not_eq_false] at c_358
        refine m_aload_n X dX3_mayAct_361 rfl rfl (by first | rfl | exact isR_rf) ?_
        refine m_iload_n X dX3_mayAct_362 rfl rfl ?_
        refine m_iload X dX3_mayAct_363 rfl ?_
        refine m_callV X cs_X3_286  (c_X3_mayRow hM hQ hK he b (by omega)) hM.1 rfl rfl rfl (Nat.le_of_ble_eq_true rfl) dX3_mayAct_365 ⟨by decide, by decide, by decide, by decide⟩ (fun v M hp => ?_) (fun _ _ _ _ h => h.elim)
        obtain ⟨rfl, A, hM, hQ, hK⟩ := hp
        refine m_sti ?_
        refine m_ifeq X dX3_mayAct_368 (t := 375) (by decide) (fun c_368 => ?_) (fun c_368 => ?_)
        · skip
          try simp only [bI_0, Bool.not_eq_false] at c_368
          refine m_iconst X dX3_mayAct_375 (v := 0) (by decide) ?_
          exact m_zret X dX3_mayAct_376 (by first | rfl | exact bI_nar) (by decide) (by decide) (by exact pQ_cg hM hQ hK (b := false) rfl (by simp only [qAct, tb]; simp only [qRT, c_358, c_368, if_true, Bool.false_eq_true, if_false]))
        · skip
          try simp only [bI_0, Bool.not_eq_false] at c_368
          refine m_iconst X dX3_mayAct_371 (v := 1) (by decide) ?_
          refine m_goto X dX3_mayAct_372 (t := 376) (by decide) ?_
          exact m_zret X dX3_mayAct_376 (by first | rfl | exact bI_nar) (by decide) (by decide) (by exact pQ_cg hM hQ hK (b := true) rfl (by simp only [qAct, tb]; simp only [qRT, c_358, c_368, if_true, Bool.false_eq_true, if_false]))
    · skip
      have ej : op = 12 := (nI_eq (by omega) (by decide)).mp ej_29
      subst ej
      clear ej_29
      simp only [isActN, Bool.and_eq_true] at hv
      refine m_pc (pc' := 377) (by decide) ?_
      obtain ⟨a, la, ha, rfl⟩ := inB_r 0 11 (by decide) (by decide) hv.1
      obtain ⟨c, lc, hc, rfl⟩ := inB_r 0 11 (by decide) (by decide) hv.2
      have ta : tn (nI a) = a := tn_nI (by omega)
      have tc : tn (nI c) = c := tn_nI (by omega)
      refine m_aload_n X dX3_mayAct_377 rfl rfl (by first | rfl | exact isR_rf) ?_
      refine m_iload_n X dX3_mayAct_378 rfl rfl ?_
      refine m_iload_n X dX3_mayAct_379 rfl rfl ?_
      refine m_iload X dX3_mayAct_380 rfl ?_
      refine m_callV X cs_X3_306  (c_X3_mayCopy hM hQ hK he a c (by omega) (by omega)) hM.1 rfl rfl rfl (Nat.le_of_ble_eq_true rfl) dX3_mayAct_382 ⟨by decide, by decide, by decide, by decide⟩ (fun v M hp => ?_) (fun _ _ _ _ h => h.elim)
      obtain ⟨rfl, A, hM, hQ, hK⟩ := hp
      refine m_sti ?_
      exact m_zret X dX3_mayAct_385 (by first | rfl | exact bI_nar) (by decide) (by decide) (by refine pQ_eq ?_ ⟨rfl, A, hM, hQ, hK⟩; simp only [qAct, ta, tc])
    · skip
      have ej : op = 13 := (nI_eq (by omega) (by decide)).mp ej_29
      subst ej
      clear ej_29
      simp only [isActN, Bool.and_eq_true] at hv
      refine m_pc (pc' := 386) (by decide) ?_
      refine m_iconst X dX3_mayAct_386 (v := 1) (by decide) ?_
      exact m_zret X dX3_mayAct_387 (by first | rfl | exact bI_nar) (by decide) (by decide) (by exact pQ_cg hM hQ hK (b := true) rfl rfl)
    · skip
      have ej : op = 14 := (nI_eq (by omega) (by decide)).mp ej_29
      subst ej
      clear ej_29
      simp only [isActN, Bool.and_eq_true] at hv
      refine m_pc (pc' := 386) (by decide) ?_
      refine m_iconst X dX3_mayAct_386 (v := 1) (by decide) ?_
      exact m_zret X dX3_mayAct_387 (by first | rfl | exact bI_nar) (by decide) (by decide) (by exact pQ_cg hM hQ hK (b := true) rfl rfl)
    · skip
      have ej : op = 15 := (nI_eq (by omega) (by decide)).mp ej_29
      subst ej
      clear ej_29
      simp only [isActN, Bool.and_eq_true] at hv
      refine m_pc (pc' := 388) (by decide) ?_
      refine m_aload_n X dX3_mayAct_388 rfl rfl (by first | rfl | exact isR_rf) ?_
      refine m_iload_n X dX3_mayAct_389 rfl rfl ?_
      refine m_bipush X dX3_mayAct_390 (v := 6) (by decide) ?_
      refine m_iconst X dX3_mayAct_392 (v := (-1)) (by decide) ?_
      refine m_iconst X dX3_mayAct_393 (v := 0) (by decide) ?_
      refine m_callV X cs_X3_279  (c_X3_mayFail0 hM hQ hK he 6 (by decide)) hM.1 rfl rfl rfl (Nat.le_of_ble_eq_true rfl) dX3_mayAct_394 ⟨by decide, by decide, by decide, by decide⟩ (fun v M hp => ?_) (fun _ _ _ _ h => h.elim)
      obtain ⟨rfl, A, hM, hQ, hK⟩ := hp
      refine m_stn ?_
      refine m_iconst X dX3_mayAct_397 (v := 1) (by decide) ?_
      exact m_zret X dX3_mayAct_398 (by first | rfl | exact bI_nar) (by decide) (by decide) (by exact pQ_cg hM hQ hK (b := true) rfl rfl)
    · skip
      have ej : op = 16 := (nI_eq (by omega) (by decide)).mp ej_29
      subst ej
      clear ej_29
      simp only [isActN, Bool.and_eq_true] at hv
      refine m_pc (pc' := 388) (by decide) ?_
      refine m_aload_n X dX3_mayAct_388 rfl rfl (by first | rfl | exact isR_rf) ?_
      refine m_iload_n X dX3_mayAct_389 rfl rfl ?_
      refine m_bipush X dX3_mayAct_390 (v := 6) (by decide) ?_
      refine m_iconst X dX3_mayAct_392 (v := (-1)) (by decide) ?_
      refine m_iconst X dX3_mayAct_393 (v := 0) (by decide) ?_
      refine m_callV X cs_X3_279  (c_X3_mayFail0 hM hQ hK he 6 (by decide)) hM.1 rfl rfl rfl (Nat.le_of_ble_eq_true rfl) dX3_mayAct_394 ⟨by decide, by decide, by decide, by decide⟩ (fun v M hp => ?_) (fun _ _ _ _ h => h.elim)
      obtain ⟨rfl, A, hM, hQ, hK⟩ := hp
      refine m_stn ?_
      refine m_iconst X dX3_mayAct_397 (v := 1) (by decide) ?_
      exact m_zret X dX3_mayAct_398 (by first | rfl | exact bI_nar) (by decide) (by decide) (by exact pQ_cg hM hQ hK (b := true) rfl rfl)
  · skip
    have h17 : op = 17 := by
      rw [nI_toInt (by omega)] at ho_29
      omega
    subst h17
    refine m_aload_n X dX3_mayAct_399 rfl rfl (by first | rfl | exact isR_rf) ?_
    refine m_iload_n X dX3_mayAct_400 rfl rfl ?_
    refine m_bipush X dX3_mayAct_401 (v := 7) (by decide) ?_
    refine m_iconst X dX3_mayAct_403 (v := (-1)) (by decide) ?_
    refine m_iconst X dX3_mayAct_404 (v := 0) (by decide) ?_
    refine m_callV X cs_X3_279  (c_X3_mayFail0 hM hQ hK he 7 (by decide)) hM.1 rfl rfl rfl (Nat.le_of_ble_eq_true rfl) dX3_mayAct_405 ⟨by decide, by decide, by decide, by decide⟩ (fun v M hp => ?_) (fun _ _ _ _ h => h.elim)
    obtain ⟨rfl, A, hM, hQ, hK⟩ := hp
    refine m_stn ?_
    refine m_iconst X dX3_mayAct_408 (v := 0) (by decide) ?_
    exact m_zret X dX3_mayAct_409 (by first | rfl | exact bI_nar) (by decide) (by decide) (by exact pQ_cg hM hQ hK (b := false) rfl rfl)
