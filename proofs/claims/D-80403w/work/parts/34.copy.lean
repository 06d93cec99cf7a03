/-! THE MODEL'S COPY, AND AN ACT DONE (printed by wip/D-80403w/tools/m34.py) -/
set_option maxRecDepth 100000
theorem readyN_le (σ : AS) (k f n : Nat) : readyN σ k f n ≤ n := by
  induction n with
  | zero => exact Nat.le_refl _
  | succ n ih =>
    unfold readyN
    split
    · exact Nat.le_refl _
    · omega
theorem readyN_stop {σ : AS} {k f i : Nat} (h : readyN σ k f i = i) (hm : mayLie σ k (σ.it (f + i)) = false) : ∀ d, readyN σ k f (i + 1 + d) = i := by
  intro d
  induction d with
  | zero =>
    show readyN σ k f (i + 1) = i
    unfold readyN
    rw [if_neg (fun z => by rw [hm] at z; cases z.2)]
    exact h
  | succ d ih =>
    show readyN σ k f (i + 1 + d + 1) = i
    unfold readyN
    rw [if_neg (fun z => by have := z.1; omega)]
    exact ih
theorem mayLie_iff {σ : AS} {k : Nat} {w : Int64} : mayLie σ k w = true ↔ k < 5 ∨ w = 0 ∨ isK (σ.kd w.toInt.toNat) (elk k) = true := by
  unfold mayLie
  simp only [Bool.or_eq_true, Nat.blt_eq, decide_eq_true_eq]
  exact or_assoc
theorem MT_copy2 {σ : AS} {F0 F : Nat → Int32} {A : Nat → Nat → Int32} {B0 B : Nat → Nat → Int64} {f t n : Nat} {v : Int32} (hT : MT σ F0 A B0) (h0 : ∀ k, k ≠ 19 → F k = F0 k) (h19 : F 19 = v) (h6 : ∀ j, j < σ.I → B 6 j = va_cpy σ.it σ.it f t n j) (h : ∀ j, j ≠ 6 → j ≠ 23 → B j = B0 j) : MT ((σ.copyIt f t n).setCm v) F A B := by
  obtain ⟨h1, h2, h3, h4, h5, h6', h7⟩ := hT
  exact ⟨(h0 0 (by decide)).trans h1, (h0 1 (by decide)).trans h2, h19, h4, fun j hj => h6 j hj, h6', fun r hr => by rw [h 8 (by decide) (by decide)]; exact h7 r hr⟩
theorem elk_lt (k : Nat) : elk k < 10 := by unfold elk; split; decide; split <;> decide
theorem cm_s (c : Int32) (i : Nat) : c + nI i + 1 = c + nI (i + 1) := by rw [nI_succ i, Int32.add_assoc]
set_option maxHeartbeats 4000000 in
theorem c_X3_is2 {G : GX} {h : Nat} {ad : Nat → Nat} {F : Nat → Int32} {A : Nat → Nat → Int32} {B : Nat → Nat → Int64} {M : Mem} (hM : MRep G h ad F A B M) (t d k : Nat) (ht : t < 201) (hd : d < 10) (hA : A 2 t = nI d) (hk : k < 10) : Con G yX3_is wX3_is (rmm 1 20) [.ref h, .int (nI t), .int (nI k)] M (pR M (some (.int (bI (isK d k))))) nX := by
  refine Con.mk (by decide) rfl [(0, some (.ref h)), (1, some (.int (nI t))), (2, some (.int (nI k)))] rfl fun x X hno => ?_
  refine m_iload_n X dX3_is_0 rfl rfl ?_
  refine m_callS X cs_X3_107  (c_X3_mask _ _ _) rfl rfl (Nat.le_of_ble_eq_true rfl) dX3_is_1 ⟨by decide, by decide, by decide, by decide⟩ (fun v M hp => ?_) (fun _ _ _ _ h => h.elim)
  obtain ⟨rfl, rfl⟩ := hp
  refine m_sti ?_
  refine m_aload_n X dX3_is_4 rfl rfl (by first | rfl | exact isR_rf) ?_
  refine m_getf X fg_X3_7_X3 hM.1 rfl dX3_is_5 ?_
  refine m_iload_n X dX3_is_8 rfl rfl ?_
  refine s_iald X hM rfl rfl (by exact tin (by simp only [alen]; omega) rfl) dX3_is_9 ?_
  refine m_topi X ((congrArg (A 2) (nI_clamp (by omega))).trans hA) ?_
  refine m_ishr X dX3_is_10 ?_
  refine m_iconst X dX3_is_11 (v := 1) (by decide) ?_
  refine m_iand X dX3_is_12 ?_
  refine m_iconst X dX3_is_13 (v := 1) (by decide) ?_
  refine m_icmpne X dX3_is_14 (t := 21) (by decide) (fun c_14 => ?_) (fun c_14 => ?_)
  · skip
    have e1 : isK d k = false := Bool.eq_false_iff.mpr fun z => c_14 ((is_mask k hk _ (by omega)).mpr z)
    refine m_iconst X dX3_is_21 (v := 0) (by decide) ?_
    exact m_zret X dX3_is_22 (by first | rfl | exact bI_nar) (by decide) (by decide) (by rw [e1]; exact ⟨rfl, rfl⟩)
  · skip
    have e1 : isK d k = true := (is_mask k hk _ (by omega)).mp c_14
    refine m_iconst X dX3_is_17 (v := 1) (by decide) ?_
    refine m_goto X dX3_is_18 (t := 22) (by decide) ?_
    exact m_zret X dX3_is_22 (by first | rfl | exact bI_nar) (by decide) (by decide) (by rw [e1]; exact ⟨rfl, rfl⟩)
set_option maxHeartbeats 8000000 in
theorem c_X3_copy {G : GX} {h : Nat} {ad : Nat → Nat} {F0 : Nat → Int32} {A0 : Nat → Nat → Int32} {B0 : Nat → Nat → Int64} {M : Mem} {σ : AS} (hM : MRep G h ad F0 A0 B0 M) (hT : MT σ F0 A0 B0) (hW : WF σ) (a : Nat) (i : Int32) (c : Nat) (j n : Int32) (ha : a < 12) (hc : c < 12) : Con G yX3_copy wX3_copy (rmm 2 43) [.ref h, .int (nI a), .int i, .int (nI c), .int j, .int n] M (pT G h ad F0 A0 (some (.int (nI (copyA σ a i c j n).1))) (copyA σ a i c j n).2) nX := by
  refine Con.mk (by decide) rfl [(0, some (.ref h)), (1, some (.int (nI a))), (2, some (.int i)), (3, some (.int (nI c))), (4, some (.int j)), (5, some (.int n))] rfl fun x X hno => ?_
  have hb1 := hW.1
  have hb2 := hW.2.1
  refine m_aload_n X dX3_copy_0 rfl rfl (by first | rfl | exact isR_rf) ?_
  refine m_getf X fg_X3_26_X3 hM.1 rfl dX3_copy_1 ?_
  refine m_iload_n X dX3_copy_4 rfl rfl ?_
  refine s_iald X hM rfl rfl (by exact tin (by simp only [alen]; omega) rfl) dX3_copy_5 ?_
  refine m_topi X (hT.slot ha) ?_
  refine m_istore X dX3_copy_6 rfl rfl ?_
  refine m_aload_n X dX3_copy_8 rfl rfl (by first | rfl | exact isR_rf) ?_
  refine m_getf X fg_X3_26_X3 hM.1 rfl dX3_copy_9 ?_
  refine m_iload_n X dX3_copy_12 rfl rfl ?_
  refine s_iald X hM rfl rfl (by exact tin (by simp only [alen]; omega) rfl) dX3_copy_13 ?_
  refine m_topi X (hT.slot hc) ?_
  refine m_istore X dX3_copy_14 rfl rfl ?_
  refine m_iload X dX3_copy_16 rfl ?_
  refine m_ifeq X dX3_copy_18 (t := 26) (by decide) (fun c_18 => ?_) (fun c_18 => ?_)
  · skip
    try simp only [bI_0, Bool.not_eq_false] at c_18
    rw [z_nI (by have := hW.sl ha; omega)] at c_18
    refine m_iconst X dX3_copy_26 (v := 1) (by decide) ?_
    exact m_iret X dX3_copy_27 (by decide) (by decide) (by have e : copyA σ a i c j n = (1, σ) := if_pos (by first | exact Or.inl c_18 | exact Or.inr c_23); rw [e]; exact pT_mk hM hT FrT.rf)
  · skip
    try simp only [bI_0, Bool.not_eq_false] at c_18
    rw [z_nI (by have := hW.sl ha; omega)] at c_18
    refine m_iload X dX3_copy_21 rfl ?_
    refine m_ifne X dX3_copy_23 (t := 28) (by decide) (fun c_23 => ?_) (fun c_23 => ?_)
    · skip
      try simp only [bI_0, Bool.not_eq_false] at c_23
      rw [z_nI (by have := hW.sl hc; omega)] at c_23
      have hx0 := c_18
      have hy0 := c_23
      have hp0 := hW.pos ha c_18
      have hq0 := hW.pos hc c_23
      refine m_aload_n X dX3_copy_28 rfl rfl (by first | rfl | exact isR_rf) ?_
      refine m_getf X fg_X3_7_X3 hM.1 rfl dX3_copy_29 ?_
      refine m_iload X dX3_copy_32 rfl ?_
      refine s_iald X hM rfl rfl (by exact tin (by simp only [alen]; omega) rfl) dX3_copy_34 ?_
      refine m_topi X (hT.kind hW hp0.1 hp0.2.1) ?_
      refine m_aload_n X dX3_copy_35 rfl rfl (by first | rfl | exact isR_rf) ?_
      refine m_getf X fg_X3_7_X3 hM.1 rfl dX3_copy_36 ?_
      refine m_iload X dX3_copy_39 rfl ?_
      refine s_iald X hM rfl rfl (by exact tin (by simp only [alen]; omega) rfl) dX3_copy_41 ?_
      refine m_topi X (hT.kind hW hq0.1 hq0.2.1) ?_
      refine m_callS X cs_X3_174  (c_X3_meet _ _ _ _ (by omega) (by omega)) rfl rfl (Nat.le_of_ble_eq_true rfl) dX3_copy_42 ⟨by decide, by decide, by decide, by decide⟩ (fun v M hp => ?_) (fun _ _ _ _ h => h.elim)
      obtain ⟨rfl, rfl⟩ := hp
      refine m_sti ?_
      refine m_ifne X dX3_copy_45 (t := 50) (by decide) (fun c_45 => ?_) (fun c_45 => ?_)
      · skip
        try simp only [bI_0, Bool.not_eq_false] at c_45
        refine m_iload_n X dX3_copy_50 rfl rfl ?_
        refine m_iflt X dX3_copy_51 (t := 101) (by decide) (fun c_51 => ?_) (fun c_51 => ?_)
        · skip
          try simp only [bI_0, Bool.not_eq_false] at c_51
          refine m_iconst X dX3_copy_101 (v := 3) (by decide) ?_
          exact m_iret X dX3_copy_102 (by decide) (by decide) (by have q9 : i.toInt < 0 := Int32.lt_iff_toInt_lt.mp c_51; have e : copyA σ a i c j n = (3, σ) := (by rw [copyA, if_neg (fun z => by rcases z with z | z; exact hx0 z; exact hy0 z), if_neg (by rw [Bool.not_eq_false]; exact c_45), if_pos (Or.inl q9)]); rw [e]; exact pT_mk hM hT FrT.rf)
        · skip
          try simp only [bI_0, Bool.not_eq_false] at c_51
          refine m_iload X dX3_copy_54 rfl ?_
          refine m_iflt X dX3_copy_56 (t := 101) (by decide) (fun c_56 => ?_) (fun c_56 => ?_)
          · skip
            try simp only [bI_0, Bool.not_eq_false] at c_56
            refine m_iconst X dX3_copy_101 (v := 3) (by decide) ?_
            exact m_iret X dX3_copy_102 (by decide) (by decide) (by have q9 : j.toInt < 0 := Int32.lt_iff_toInt_lt.mp c_56; have e : copyA σ a i c j n = (3, σ) := (by rw [copyA, if_neg (fun z => by rcases z with z | z; exact hx0 z; exact hy0 z), if_neg (by rw [Bool.not_eq_false]; exact c_45), if_pos (Or.inr (Or.inl q9))]); rw [e]; exact pT_mk hM hT FrT.rf)
          · skip
            try simp only [bI_0, Bool.not_eq_false] at c_56
            refine m_iload X dX3_copy_59 rfl ?_
            refine m_iflt X dX3_copy_61 (t := 101) (by decide) (fun c_61 => ?_) (fun c_61 => ?_)
            · skip
              try simp only [bI_0, Bool.not_eq_false] at c_61
              refine m_iconst X dX3_copy_101 (v := 3) (by decide) ?_
              exact m_iret X dX3_copy_102 (by decide) (by decide) (by have q9 : n.toInt < 0 := Int32.lt_iff_toInt_lt.mp c_61; have e : copyA σ a i c j n = (3, σ) := (by rw [copyA, if_neg (fun z => by rcases z with z | z; exact hx0 z; exact hy0 z), if_neg (by rw [Bool.not_eq_false]; exact c_45), if_pos (Or.inr (Or.inr (Or.inl q9)))]); rw [e]; exact pT_mk hM hT FrT.rf)
            · skip
              try simp only [bI_0, Bool.not_eq_false] at c_61
              obtain ⟨i, hi, rfl⟩ := nI_of c_51
              obtain ⟨j, hj, rfl⟩ := nI_of c_56
              obtain ⟨m, hm, rfl⟩ := nI_of c_61
              refine m_iload_n X dX3_copy_64 rfl rfl ?_
              refine m_i2l X dX3_copy_65 ?_
              refine m_topl X (nI_l (by omega)) ?_
              refine m_iload X dX3_copy_66 rfl ?_
              refine m_i2l X dX3_copy_68 ?_
              refine m_topl X (nI_l (by omega)) ?_
              refine m_ladd X dX3_copy_69 ?_
              refine m_topl X (lN_add _ _) ?_
              refine m_aload_n X dX3_copy_70 rfl rfl (by first | rfl | exact isR_rf) ?_
              refine m_getf X fg_X3_16_X3 hM.1 rfl dX3_copy_71 ?_
              refine m_iload X dX3_copy_74 rfl ?_
              refine s_iald X hM rfl rfl (by exact tin (by simp only [alen]; omega) rfl) dX3_copy_76 ?_
              refine m_topi X (hT.length hW hp0.1 hp0.2.1) ?_
              refine m_i2l X dX3_copy_77 ?_
              refine m_topl X (nI_l (by omega)) ?_
              refine m_lcmp X dX3_copy_78 ?_
              refine m_ifgt X dX3_copy_79 (t := 101) (by decide) (fun c_79 => ?_) (fun c_79 => ?_)
              · skip
                try simp only [bI_0, Bool.not_eq_false] at c_79
                have c_79 := (lg_gt (by omega) (by omega)).mp c_79
                refine m_iconst X dX3_copy_101 (v := 3) (by decide) ?_
                exact m_iret X dX3_copy_102 (by decide) (by decide) (by have e : copyA σ a (nI i) c (nI j) (nI m) = (3, σ) := (by rw [copyA, if_neg (fun z => by rcases z with z | z; exact hx0 z; exact hy0 z), if_neg (by rw [Bool.not_eq_false]; exact c_45), if_pos (by rw [nI_toInt hi, nI_toInt hj, nI_toInt hm]; omega)]); rw [e]; exact pT_mk hM hT FrT.rf)
              · skip
                try simp only [bI_0, Bool.not_eq_false] at c_79
                have c_79 : ¬ σ.ln (σ.sl a) < i + m := fun z => c_79 ((lg_gt (by omega) (by omega)).mpr z)
                refine m_iload X dX3_copy_82 rfl ?_
                refine m_i2l X dX3_copy_84 ?_
                refine m_topl X (nI_l (by omega)) ?_
                refine m_iload X dX3_copy_85 rfl ?_
                refine m_i2l X dX3_copy_87 ?_
                refine m_topl X (nI_l (by omega)) ?_
                refine m_ladd X dX3_copy_88 ?_
                refine m_topl X (lN_add _ _) ?_
                refine m_aload_n X dX3_copy_89 rfl rfl (by first | rfl | exact isR_rf) ?_
                refine m_getf X fg_X3_16_X3 hM.1 rfl dX3_copy_90 ?_
                refine m_iload X dX3_copy_93 rfl ?_
                refine s_iald X hM rfl rfl (by exact tin (by simp only [alen]; omega) rfl) dX3_copy_95 ?_
                refine m_topi X (hT.length hW hq0.1 hq0.2.1) ?_
                refine m_i2l X dX3_copy_96 ?_
                refine m_topl X (nI_l (by omega)) ?_
                refine m_lcmp X dX3_copy_97 ?_
                refine m_ifle X dX3_copy_98 (t := 103) (by decide) (fun c_98 => ?_) (fun c_98 => ?_)
                · skip
                  try simp only [bI_0, Bool.not_eq_false] at c_98
                  rw [lg_cmp_le, pk_lLE (by omega) (by omega)] at c_98
                  have eC : copyA σ a (nI i) c (nI j) (nI m) = (if readyN σ (σ.kd (σ.sl c)) (σ.bg (σ.sl a) + i) m = m then 0 else 5, (σ.copyIt (σ.bg (σ.sl a) + i) (σ.bg (σ.sl c) + j) (readyN σ (σ.kd (σ.sl c)) (σ.bg (σ.sl a) + i) m)).setCm (σ.cm + nI (readyN σ (σ.kd (σ.sl c)) (σ.bg (σ.sl a) + i) m))) := by rw [copyA, if_neg (fun z => by rcases z with z | z; exact hx0 z; exact hy0 z), if_neg (by rw [Bool.not_eq_false]; exact c_45), if_neg (by rw [nI_toInt hi, nI_toInt hj, nI_toInt hm]; omega)]; rw [nI_toNat hi, nI_toNat hj, nI_toNat hm]
                  have loop2 : ∀ (d r : Nat) (F : Nat → Int32) (B : Nat → Nat → Int64) (M' : Mem), r + d = m → (∀ k, k ≠ 19 → F k = F0 k) → F 19 = σ.cm + nI r → readyN σ (σ.kd (σ.sl c)) (σ.bg (σ.sl a) + i) r = r → (∀ q, q < σ.I → B 6 q = va_cpy σ.it σ.it (σ.bg (σ.sl a) + i) (σ.bg (σ.sl c) + j) r q) → (∀ q, q < m → B 23 q = σ.it ((σ.bg (σ.sl a) + i) + q)) → (∀ q, q ≠ 6 → q ≠ 23 → B q = B0 q) → MRep G h ad F A0 B M' → WM G x 10 (QM G x (pT G h ad F0 A0 (some (.int (nI (copyA σ a (nI i) c (nI j) (nI m)).1))) (copyA σ a (nI i) c (nI j) (nI m)).2) nX (rmm 2 43)) 0 0 M' 182 [(9, some (.int (nI r))), (8, some (.int (nI (elk (σ.kd (σ.sl c)))))), (7, some (.int (nI (σ.sl c)))), (6, some (.int (nI (σ.sl a)))), (0, some (.ref h)), (2, some (.int (nI i))), (4, some (.int (nI j))), (5, some (.int (nI m)))] [] := by
                    intro d
                    induction d with
                    | zero =>
                      intro r F B M hr hF1 hF2 hrd hq6 hq23 hq3 hM
                      have hrm : r = m := by omega
                      subst hrm
                      refine m_iload X dX3_copy_182 rfl ?_
                      refine m_iload X dX3_copy_184 rfl ?_
                      refine m_icmpge X dX3_copy_186 (t := 272) (by decide) (fun c_186 => ?_) (fun c_186 => ?_)
                      · skip
                        refine m_iconst X dX3_copy_272 (v := 0) (by decide) ?_
                        exact m_iret X dX3_copy_273 (by decide) (by decide) (by rw [eC, hrd, if_pos rfl]; exact pT_mk hM (MT_copy2 hT hF1 hF2 hq6 hq3) ⟨fun k _ _ h19 => hF1 k h19, fun _ _ => rfl⟩)
                      · skip
                        exact absurd (nI_le (Nat.le_refl r) (by omega)) c_186
                    | succ d ih =>
                      intro r F B M hr hF1 hF2 hrd hq6 hq23 hq3 hM
                      have hm23 : ∀ q, q < m → B 23 (nI q).toNatClampNeg = σ.it (σ.bg (σ.sl a) + i + q) := fun q hq => by rw [nI_clamp (by omega)]; exact hq23 q hq
                      have go : mayLie σ (σ.kd (σ.sl c)) (σ.it (σ.bg (σ.sl a) + i + r)) = true → WM G x 10 (QM G x (pT G h ad F0 A0 (some (.int (nI (copyA σ a (nI i) c (nI j) (nI m)).1))) (copyA σ a (nI i) c (nI j) (nI m)).2) nX (rmm 2 43)) 0 0 M 231 [(9, some (.int (nI r))), (8, some (.int (nI (elk (σ.kd (σ.sl c)))))), (7, some (.int (nI (σ.sl c)))), (6, some (.int (nI (σ.sl a)))), (0, some (.ref h)), (2, some (.int (nI i))), (4, some (.int (nI j))), (5, some (.int (nI m)))] [] := by
                        intro hml
                        have hrd1 : readyN σ (σ.kd (σ.sl c)) (σ.bg (σ.sl a) + i) (r + 1) = r + 1 := by unfold readyN; rw [if_pos ⟨hrd, hml⟩]
                        refine m_aload_n X dX3_copy_231 rfl rfl (by first | rfl | exact isR_rf) ?_
                        refine m_getf X fg_X3_22_X3 hM.1 rfl dX3_copy_232 ?_
                        refine m_aload_n X dX3_copy_235 rfl rfl (by first | rfl | exact isR_rf) ?_
                        refine m_getf X fg_X3_13_X3 hM.1 rfl dX3_copy_236 ?_
                        refine m_iload X dX3_copy_239 rfl ?_
                        refine s_iald X hM rfl rfl (by exact tin (by simp only [alen]; omega) rfl) dX3_copy_241 ?_
                        refine m_topi X (hT.begin hW hq0.1 hq0.2.1) ?_
                        refine m_iload X dX3_copy_242 rfl ?_
                        refine m_iadd X dX3_copy_244 ?_
                        refine m_topi X (nI_add _ _) ?_
                        refine m_iload X dX3_copy_245 rfl ?_
                        refine m_iadd X dX3_copy_247 ?_
                        refine m_topi X (nI_add _ _) ?_
                        refine m_aload_n X dX3_copy_248 rfl rfl (by first | rfl | exact isR_rf) ?_
                        refine m_getf X fg_X3_57_X3 hM.1 rfl dX3_copy_249 ?_
                        refine m_iload X dX3_copy_252 rfl ?_
                        refine s_lald X hM rfl rfl (by exact tin (by simp only [alen]; omega) rfl) dX3_copy_254 ?_
                        refine m_topl X (hm23 r (by omega)) ?_
                        refine s_last X hM rfl rfl (by exact tin (by simp only [alen]; omega) rfl) dX3_copy_255 (fun M hM => ?_)
                        refine m_aload_n X dX3_copy_256 rfl rfl (by first | rfl | exact isR_rf) ?_
                        refine m_dup X dX3_copy_257 rfl ?_
                        refine m_getf X fg_X3_177_X3 hM.1 rfl dX3_copy_258 ?_
                        refine m_topi X (hF2) ?_
                        refine m_iconst X dX3_copy_261 (v := 1) (by decide) ?_
                        refine m_iadd X dX3_copy_262 ?_
                        refine m_topi X (cm_s _ _) ?_
                        refine s_put X hM fp_X3_177_X3 rfl rfl rfl rfl dX3_copy_263 (fun M hM => ?_)
                        refine m_iinc X dX3_copy_266 rfl (w := 1) (by decide) rfl ?_
                        refine m_goto X dX3_copy_269 (t := 182) (by decide) ?_
                        refine m_loc [(9, some (.int (nI (r + 1)))), (8, some (.int (nI (elk (σ.kd (σ.sl c)))))), (7, some (.int (nI (σ.sl c)))), (6, some (.int (nI (σ.sl a)))), (0, some (.ref h)), (2, some (.int (nI i))), (4, some (.int (nI j))), (5, some (.int (nI m)))] ⟨by rw [nI_succ r]; rfl, rfl, rfl, rfl, rfl, rfl, rfl, rfl, trivial⟩ (ih (r + 1) _ _ _ (by omega) (fun k hk => ?_) ?_ hrd1 (fun q hq => ?_) (fun q hq => ?_) (fun q h6 h23 => ?_) hM)
                        · rw [pk_un hk]; exact hF1 k hk
                        · exact pk_us
                        · rw [nI_clamp (by omega), bset_k]; simp only [vp_updL]; unfold va_cpy
                          by_cases e9 : q = σ.bg (σ.sl c) + j + r
                          · rw [if_pos e9, if_pos ⟨by omega, by omega⟩, e9]; exact congrArg σ.it (by omega)
                          · rw [if_neg e9, hq6 q hq]; unfold va_cpy
                            by_cases e8 : σ.bg (σ.sl c) + j ≤ q ∧ q < σ.bg (σ.sl c) + j + r
                            · rw [if_pos e8, if_pos ⟨e8.1, by omega⟩]
                            · rw [if_neg e8, if_neg (fun z => e8 ⟨z.1, by omega⟩)]
                        · rw [bset_n (by decide)]; exact hq23 q hq
                        · rw [bset_n h6]; exact hq3 q h6 h23
                      refine m_iload X dX3_copy_182 rfl ?_
                      refine m_iload X dX3_copy_184 rfl ?_
                      refine m_icmpge X dX3_copy_186 (t := 272) (by decide) (fun c_186 => ?_) (fun c_186 => ?_)
                      · skip
                        exact absurd c_186 (nI_ge (show r < m by omega) (by omega))
                      · skip
                        refine m_aload_n X dX3_copy_189 rfl rfl (by first | rfl | exact isR_rf) ?_
                        refine m_getf X fg_X3_7_X3 hM.1 rfl dX3_copy_190 ?_
                        refine m_iload X dX3_copy_193 rfl ?_
                        refine s_iald X hM rfl rfl (by exact tin (by simp only [alen]; omega) rfl) dX3_copy_195 ?_
                        refine m_topi X (hT.kind hW hq0.1 hq0.2.1) ?_
                        refine m_iconst X dX3_copy_196 (v := 5) (by decide) ?_
                        refine m_icmplt X dX3_copy_197 (t := 231) (by decide) (fun c_197 => ?_) (fun c_197 => ?_)
                        · skip
                          have c_197 := (nI_ltI (b := 5) (by omega) (by decide)).mp c_197
                          exact go (mayLie_iff.mpr (Or.inl c_197))
                        · skip
                          have c_197 : ¬ σ.kd (σ.sl c) < 5 := fun z => c_197 ((nI_ltI (b := 5) (by omega) (by decide)).mpr z)
                          have hk5 : 5 ≤ σ.kd (σ.sl a) := by have := meetK_iff.mp c_45; omega
                          obtain ⟨u, hu0, hu1, hu2⟩ := hW.2.2.2.2 _ hp0.1 hp0.2.1 hk5 (i + r) (by omega)
                          rw [← Nat.add_assoc] at hu1
                          refine m_aload_n X dX3_copy_200 rfl rfl (by first | rfl | exact isR_rf) ?_
                          refine m_getf X fg_X3_57_X3 hM.1 rfl dX3_copy_201 ?_
                          refine m_iload X dX3_copy_204 rfl ?_
                          refine s_lald X hM rfl rfl (by exact tin (by simp only [alen]; omega) rfl) dX3_copy_206 ?_
                          refine m_topl X (hm23 r (by omega)) ?_
                          refine m_lconst X dX3_copy_207 (v := 0) (by decide) ?_
                          refine m_lcmp X dX3_copy_208 ?_
                          refine m_ifeq X dX3_copy_209 (t := 231) (by decide) (fun c_209 => ?_) (fun c_209 => ?_)
                          · skip
                            try simp only [bI_0, Bool.not_eq_false] at c_209
                            rw [lg_cmp_eq] at c_209
                            exact go (mayLie_iff.mpr (Or.inr (Or.inl c_209)))
                          · skip
                            try simp only [bI_0, Bool.not_eq_false] at c_209
                            rw [lg_cmp_eq, hu1] at c_209
                            have hu : u ≠ 0 := fun z => c_209 (by rw [z]; rfl)
                            refine m_aload_n X dX3_copy_212 rfl rfl (by first | rfl | exact isR_rf) ?_
                            refine m_aload_n X dX3_copy_213 rfl rfl (by first | rfl | exact isR_rf) ?_
                            refine m_getf X fg_X3_57_X3 hM.1 rfl dX3_copy_214 ?_
                            refine m_iload X dX3_copy_217 rfl ?_
                            refine s_lald X hM rfl rfl (by exact tin (by simp only [alen]; omega) rfl) dX3_copy_219 ?_
                            refine m_topl X ((hm23 r (by omega)).trans hu1) ?_
                            refine m_l2i X dX3_copy_220 ?_
                            refine m_topi X (lN_i u) ?_
                            refine m_iload X dX3_copy_221 rfl ?_
                            refine m_callV X cs_X3_146  (c_X3_is2 hM u (σ.kd u) (elk (σ.kd (σ.sl c))) (by omega) (by have := hW.2.2.1 u (by omega) hu0; omega) (hT.2.2.2.1 u (by omega) hu0).1 (elk_lt _)) hM.1 rfl rfl rfl (Nat.le_of_ble_eq_true rfl) dX3_copy_223 ⟨by decide, by decide, by decide, by decide⟩ (fun v M hp => ?_) (fun _ _ _ _ h => h.elim)
                            obtain ⟨rfl, rfl⟩ := hp
                            refine m_sti ?_
                            refine m_ifne X dX3_copy_226 (t := 231) (by decide) (fun c_226 => ?_) (fun c_226 => ?_)
                            · skip
                              try simp only [bI_0, Bool.not_eq_false] at c_226
                              exact go (mayLie_iff.mpr (Or.inr (Or.inr (by rw [hu1, lN_toInt (by omega)]; exact c_226))))
                            · skip
                              try simp only [bI_0, Bool.not_eq_false] at c_226
                              have hml : mayLie σ (σ.kd (σ.sl c)) (σ.it (σ.bg (σ.sl a) + i + r)) = false := by
                                rw [← Bool.not_eq_true, mayLie_iff, hu1, lN_toInt (by omega)]
                                intro z
                                rcases z with z | z | z
                                · exact c_197 z
                                · exact c_209 z
                                · rw [show ((u : Int).toNat) = u from rfl, c_226] at z; cases z
                              have hrn : readyN σ (σ.kd (σ.sl c)) (σ.bg (σ.sl a) + i) m = r := by
                                have := readyN_stop hrd hml (m - (r + 1))
                                rw [show r + 1 + (m - (r + 1)) = m by omega] at this
                                exact this
                              refine m_iconst X dX3_copy_229 (v := 5) (by decide) ?_
                              exact m_iret X dX3_copy_230 (by decide) (by decide) (by rw [eC, hrn, if_neg (by omega)]; exact pT_mk hM (MT_copy2 hT hF1 hF2 hq6 hq3) ⟨fun k _ _ h19 => hF1 k h19, fun _ _ => rfl⟩)
                  have loop1 : ∀ (d r : Nat) (B : Nat → Nat → Int64) (M' : Mem), r + d = m → (∀ q, q < r → B 23 q = σ.it ((σ.bg (σ.sl a) + i) + q)) → (∀ q, q ≠ 23 → B q = B0 q) → MRep G h ad F0 A0 B M' → WM G x 10 (QM G x (pT G h ad F0 A0 (some (.int (nI (copyA σ a (nI i) c (nI j) (nI m)).1))) (copyA σ a (nI i) c (nI j) (nI m)).2) nX (rmm 2 43)) 0 0 M' 142 [(9, some (.int (nI r))), (8, some (.int (nI (elk (σ.kd (σ.sl c)))))), (7, some (.int (nI (σ.sl c)))), (6, some (.int (nI (σ.sl a)))), (0, some (.ref h)), (2, some (.int (nI i))), (4, some (.int (nI j))), (5, some (.int (nI m)))] [] := by
                    intro d
                    induction d with
                    | zero =>
                      intro r B M hr hm23 hp3 hM
                      have hrm : r = m := by omega
                      subst hrm
                      refine m_iload X dX3_copy_142 rfl ?_
                      refine m_iload X dX3_copy_144 rfl ?_
                      refine m_icmpge X dX3_copy_146 (t := 179) (by decide) (fun c_146 => ?_) (fun c_146 => ?_)
                      · skip
                        refine m_iconst X dX3_copy_179 (v := 0) (by decide) ?_
                        refine m_istore X dX3_copy_180 rfl rfl ?_
                        exact m_loc [(9, some (.int (nI 0))), (8, some (.int (nI (elk (σ.kd (σ.sl c)))))), (7, some (.int (nI (σ.sl c)))), (6, some (.int (nI (σ.sl a)))), (0, some (.ref h)), (2, some (.int (nI i))), (4, some (.int (nI j))), (5, some (.int (nI r)))] ⟨rfl, rfl, rfl, rfl, rfl, rfl, rfl, rfl, trivial⟩ (loop2 _ 0 _ _ _ (Nat.zero_add _) (fun _ _ => rfl) (by rw [hT.2.2.1, nI_0]; exact (Int32.add_zero _).symm) rfl (fun q hq => by rw [hp3 6 (by decide)]; unfold va_cpy; rw [if_neg (by omega)]; exact hT.2.2.2.2.1 q hq) hm23 (fun q _ h23 => hp3 q h23) hM)
                      · skip
                        exact absurd (nI_le (Nat.le_refl r) (by omega)) c_146
                    | succ d ih =>
                      intro r B M hr hm23 hp3 hM
                      refine m_iload X dX3_copy_142 rfl ?_
                      refine m_iload X dX3_copy_144 rfl ?_
                      refine m_icmpge X dX3_copy_146 (t := 179) (by decide) (fun c_146 => ?_) (fun c_146 => ?_)
                      · skip
                        exact absurd c_146 (nI_ge (show r < m by omega) (by omega))
                      · skip
                        refine m_aload_n X dX3_copy_149 rfl rfl (by first | rfl | exact isR_rf) ?_
                        refine m_getf X fg_X3_57_X3 hM.1 rfl dX3_copy_150 ?_
                        refine m_iload X dX3_copy_153 rfl ?_
                        refine m_aload_n X dX3_copy_155 rfl rfl (by first | rfl | exact isR_rf) ?_
                        refine m_getf X fg_X3_22_X3 hM.1 rfl dX3_copy_156 ?_
                        refine m_aload_n X dX3_copy_159 rfl rfl (by first | rfl | exact isR_rf) ?_
                        refine m_getf X fg_X3_13_X3 hM.1 rfl dX3_copy_160 ?_
                        refine m_iload X dX3_copy_163 rfl ?_
                        refine s_iald X hM rfl rfl (by exact tin (by simp only [alen]; omega) rfl) dX3_copy_165 ?_
                        refine m_topi X (hT.begin hW hp0.1 hp0.2.1) ?_
                        refine m_iload_n X dX3_copy_166 rfl rfl ?_
                        refine m_iadd X dX3_copy_167 ?_
                        refine m_topi X (nI_add _ _) ?_
                        refine m_iload X dX3_copy_168 rfl ?_
                        refine m_iadd X dX3_copy_170 ?_
                        refine m_topi X (nI_add _ _) ?_
                        refine s_lald X hM rfl rfl (by exact tin (by simp only [alen]; omega) rfl) dX3_copy_171 ?_
                        refine m_topl X ((show B 6 (nI (σ.bg (σ.sl a) + i + r)).toNatClampNeg = σ.it (σ.bg (σ.sl a) + i + r) by rw [nI_clamp (by omega), hp3 6 (by decide)]; exact hT.2.2.2.2.1 _ (by omega))) ?_
                        refine s_last X hM rfl rfl (by exact tin (by simp only [alen]; omega) rfl) dX3_copy_172 (fun M hM => ?_)
                        refine m_iinc X dX3_copy_173 rfl (w := 1) (by decide) rfl ?_
                        refine m_goto X dX3_copy_176 (t := 142) (by decide) ?_
                        refine m_loc [(9, some (.int (nI (r + 1)))), (8, some (.int (nI (elk (σ.kd (σ.sl c)))))), (7, some (.int (nI (σ.sl c)))), (6, some (.int (nI (σ.sl a)))), (0, some (.ref h)), (2, some (.int (nI i))), (4, some (.int (nI j))), (5, some (.int (nI m)))] ⟨by rw [nI_succ r]; rfl, rfl, rfl, rfl, rfl, rfl, rfl, rfl, trivial⟩ (ih (r + 1) _ _ (by omega) (fun q hq => ?_) (fun q hq => ?_) hM)
                        · rw [nI_clamp (by omega), bset_k]; simp only [vp_updL]; split
                          · next e9 => rw [e9]
                          · exact hm23 q (by omega)
                        · rw [bset_n hq]; exact hp3 q hq
                  refine m_aload_n X dX3_copy_103 rfl rfl (by first | rfl | exact isR_rf) ?_
                  refine m_getf X fg_X3_7_X3 hM.1 rfl dX3_copy_104 ?_
                  refine m_iload X dX3_copy_107 rfl ?_
                  refine s_iald X hM rfl rfl (by exact tin (by simp only [alen]; omega) rfl) dX3_copy_109 ?_
                  refine m_topi X (hT.kind hW hq0.1 hq0.2.1) ?_
                  refine m_iconst X dX3_copy_110 (v := 5) (by decide) ?_
                  refine m_icmpne X dX3_copy_111 (t := 118) (by decide) (fun c_111 => ?_) (fun c_111 => ?_)
                  · skip
                    have c_111 : ¬ σ.kd (σ.sl c) = 5 := fun z => c_111 (by rw [z]; rfl)
                    refine m_aload_n X dX3_copy_118 rfl rfl (by first | rfl | exact isR_rf) ?_
                    refine m_getf X fg_X3_7_X3 hM.1 rfl dX3_copy_119 ?_
                    refine m_iload X dX3_copy_122 rfl ?_
                    refine s_iald X hM rfl rfl (by exact tin (by simp only [alen]; omega) rfl) dX3_copy_124 ?_
                    refine m_topi X (hT.kind hW hq0.1 hq0.2.1) ?_
                    refine m_bipush X dX3_copy_125 (v := 6) (by decide) ?_
                    refine m_icmpne X dX3_copy_127 (t := 135) (by decide) (fun c_127 => ?_) (fun c_127 => ?_)
                    · skip
                      have c_127 : ¬ σ.kd (σ.sl c) = 6 := fun z => c_127 (by rw [z]; rfl)
                      have ek : elk (σ.kd (σ.sl c)) = 9 := (if_neg c_111).trans (if_neg c_127)
                      refine m_bipush X dX3_copy_135 (v := 9) (by decide) ?_
                      refine m_topi X ((show (9 : Int32) = nI (elk (σ.kd (σ.sl c))) by rw [ek]; rfl)) ?_
                      refine m_istore X dX3_copy_137 rfl rfl ?_
                      refine m_iconst X dX3_copy_139 (v := 0) (by decide) ?_
                      refine m_istore X dX3_copy_140 rfl rfl ?_
                      exact m_loc [(9, some (.int (nI 0))), (8, some (.int (nI (elk (σ.kd (σ.sl c)))))), (7, some (.int (nI (σ.sl c)))), (6, some (.int (nI (σ.sl a)))), (0, some (.ref h)), (2, some (.int (nI i))), (4, some (.int (nI j))), (5, some (.int (nI m)))] ⟨rfl, rfl, rfl, rfl, rfl, rfl, rfl, rfl, trivial⟩ (loop1 _ 0 _ _ (Nat.zero_add _) (fun q hq => by omega) (fun _ _ => rfl) hM)
                    · skip
                      have c_127 : σ.kd (σ.sl c) = 6 := (nI_eq (b := 6) (by omega) (by decide)).mp c_127
                      have ek : elk (σ.kd (σ.sl c)) = 8 := (if_neg c_111).trans (if_pos c_127)
                      refine m_bipush X dX3_copy_130 (v := 8) (by decide) ?_
                      refine m_topi X ((show (8 : Int32) = nI (elk (σ.kd (σ.sl c))) by rw [ek]; rfl)) ?_
                      refine m_goto X dX3_copy_132 (t := 137) (by decide) ?_
                      refine m_istore X dX3_copy_137 rfl rfl ?_
                      refine m_iconst X dX3_copy_139 (v := 0) (by decide) ?_
                      refine m_istore X dX3_copy_140 rfl rfl ?_
                      exact m_loc [(9, some (.int (nI 0))), (8, some (.int (nI (elk (σ.kd (σ.sl c)))))), (7, some (.int (nI (σ.sl c)))), (6, some (.int (nI (σ.sl a)))), (0, some (.ref h)), (2, some (.int (nI i))), (4, some (.int (nI j))), (5, some (.int (nI m)))] ⟨rfl, rfl, rfl, rfl, rfl, rfl, rfl, rfl, trivial⟩ (loop1 _ 0 _ _ (Nat.zero_add _) (fun q hq => by omega) (fun _ _ => rfl) hM)
                  · skip
                    have c_111 : σ.kd (σ.sl c) = 5 := (nI_eq (b := 5) (by omega) (by decide)).mp c_111
                    have ek : elk (σ.kd (σ.sl c)) = 1 := if_pos c_111
                    refine m_iconst X dX3_copy_114 (v := 1) (by decide) ?_
                    refine m_topi X ((show (1 : Int32) = nI (elk (σ.kd (σ.sl c))) by rw [ek]; rfl)) ?_
                    refine m_goto X dX3_copy_115 (t := 137) (by decide) ?_
                    refine m_istore X dX3_copy_137 rfl rfl ?_
                    refine m_iconst X dX3_copy_139 (v := 0) (by decide) ?_
                    refine m_istore X dX3_copy_140 rfl rfl ?_
                    exact m_loc [(9, some (.int (nI 0))), (8, some (.int (nI (elk (σ.kd (σ.sl c)))))), (7, some (.int (nI (σ.sl c)))), (6, some (.int (nI (σ.sl a)))), (0, some (.ref h)), (2, some (.int (nI i))), (4, some (.int (nI j))), (5, some (.int (nI m)))] ⟨rfl, rfl, rfl, rfl, rfl, rfl, rfl, rfl, trivial⟩ (loop1 _ 0 _ _ (Nat.zero_add _) (fun q hq => by omega) (fun _ _ => rfl) hM)
                · skip
                  try simp only [bI_0, Bool.not_eq_false] at c_98
                  rw [lg_cmp_le, pk_lLE (by omega) (by omega)] at c_98
                  refine m_iconst X dX3_copy_101 (v := 3) (by decide) ?_
                  exact m_iret X dX3_copy_102 (by decide) (by decide) (by have e : copyA σ a (nI i) c (nI j) (nI m) = (3, σ) := (by rw [copyA, if_neg (fun z => by rcases z with z | z; exact hx0 z; exact hy0 z), if_neg (by rw [Bool.not_eq_false]; exact c_45), if_pos (by rw [nI_toInt hi, nI_toInt hj, nI_toInt hm]; omega)]); rw [e]; exact pT_mk hM hT FrT.rf)
      · skip
        try simp only [bI_0, Bool.not_eq_false] at c_45
        refine m_iconst X dX3_copy_48 (v := 5) (by decide) ?_
        exact m_iret X dX3_copy_49 (by decide) (by decide) (by have e : copyA σ a i c j n = (5, σ) := by { rw [copyA, if_neg (fun z => by rcases z with z | z; exact hx0 z; exact hy0 z), if_pos c_45] }; rw [e]; exact pT_mk hM hT FrT.rf)
    · skip
      try simp only [bI_0, Bool.not_eq_false] at c_23
      rw [z_nI (by have := hW.sl hc; omega)] at c_23
      refine m_iconst X dX3_copy_26 (v := 1) (by decide) ?_
      exact m_iret X dX3_copy_27 (by decide) (by decide) (by have e : copyA σ a i c j n = (1, σ) := if_pos (by first | exact Or.inl c_18 | exact Or.inr c_23); rw [e]; exact pT_mk hM hT FrT.rf)
theorem inB_r {v : Int32} (lo hi : Nat) (hl : lo < 1000) (hh : hi < 1000) (h : inB v (nI lo) (nI hi) = true) : ∃ j : Nat, lo ≤ j ∧ j ≤ hi ∧ v = nI j := by
  unfold inB at h
  simp only [Bool.and_eq_true, Bool.not_eq_true', decide_eq_false_iff_not] at h
  have h0 : ¬ v < 0 := fun z => h.1 (Int32.lt_of_lt_of_le z (nI_pos' (by omega)))
  obtain ⟨j, hj, rfl⟩ := nI_of h0
  exact ⟨j, Nat.le_of_not_lt fun z => h.1 ((nI_ltI hj (by omega)).mpr z), Nat.le_of_not_lt fun z => h.2 ((nI_ltI (by omega) hj).mpr z), rfl⟩
theorem pT_eq {G : GX} {h : Nat} {ad : Nat → Nat} {F0 : Nat → Int32} {A0 : Nat → Nat → Int32} {M : Mem} {q p : Nat × AS} {v : Option Value} (e : q = p) (hp : pT G h ad F0 A0 (some (.int (nI p.1))) p.2 v M) : pT G h ad F0 A0 (some (.int (nI q.1))) q.2 v M := by rw [e]; exact hp
set_option maxHeartbeats 8000000 in
theorem c_X3_done {G : GX} {h : Nat} {ad : Nat → Nat} {F0 : Nat → Int32} {A0 : Nat → Nat → Int32} {B0 : Nat → Nat → Int64} {M : Mem} {σ : AS} (hM : MRep G h ad F0 A0 B0 M) (hT : MT σ F0 A0 B0) (hW : WF σ) (n op : Nat) (a b c d : Int32) (hn : n < 80) (h11 : A0 11 n = nI op) (h12 : A0 12 n = a) (h13 : A0 13 n = b) (h14 : A0 14 n = c) (h15 : A0 15 n = d) (hop : op < 18) (hv : isActN op a b c d = true) : Con G yX3_done wX3_done (rmm 6 135) [.ref h, .int (nI n)] M (pT G h ad F0 A0 (some (.int (nI (doAct op a b c d σ).1))) (doAct op a b c d σ).2) nX := by
  refine Con.mk (by decide) rfl [(0, some (.ref h)), (1, some (.int (nI n)))] rfl fun x X hno => ?_
  have hb1 := hW.1
  have hb2 := hW.2.1
  have hd0 : ∀ k v, A0 k n = v → A0 k (nI n).toNatClampNeg = v := fun k v hk => by rw [nI_clamp (by omega)]; exact hk
  refine m_aload_n X dX3_done_0 rfl rfl (by first | rfl | exact isR_rf) ?_
  refine m_getf X fg_X3_38_X3 hM.1 rfl dX3_done_1 ?_
  refine m_iload_n X dX3_done_4 rfl rfl ?_
  refine s_iald X hM rfl rfl (by exact tin (by simp only [alen]; omega) rfl) dX3_done_5 ?_
  refine m_topi X (hd0 12 _ h12) ?_
  refine m_istore_n X dX3_done_6 rfl rfl rfl ?_
  refine m_aload_n X dX3_done_7 rfl rfl (by first | rfl | exact isR_rf) ?_
  refine m_getf X fg_X3_41_X3 hM.1 rfl dX3_done_8 ?_
  refine m_iload_n X dX3_done_11 rfl rfl ?_
  refine s_iald X hM rfl rfl (by exact tin (by simp only [alen]; omega) rfl) dX3_done_12 ?_
  refine m_topi X (hd0 13 _ h13) ?_
  refine m_istore_n X dX3_done_13 rfl rfl rfl ?_
  refine m_aload_n X dX3_done_14 rfl rfl (by first | rfl | exact isR_rf) ?_
  refine m_getf X fg_X3_44_X3 hM.1 rfl dX3_done_15 ?_
  refine m_iload_n X dX3_done_18 rfl rfl ?_
  refine s_iald X hM rfl rfl (by exact tin (by simp only [alen]; omega) rfl) dX3_done_19 ?_
  refine m_topi X (hd0 14 _ h14) ?_
  refine m_istore X dX3_done_20 rfl rfl ?_
  refine m_aload_n X dX3_done_22 rfl rfl (by first | rfl | exact isR_rf) ?_
  refine m_getf X fg_X3_47_X3 hM.1 rfl dX3_done_23 ?_
  refine m_iload_n X dX3_done_26 rfl rfl ?_
  refine s_iald X hM rfl rfl (by exact tin (by simp only [alen]; omega) rfl) dX3_done_27 ?_
  refine m_topi X (hd0 15 _ h15) ?_
  refine m_istore X dX3_done_28 rfl rfl ?_
  refine m_aload_n X dX3_done_30 rfl rfl (by first | rfl | exact isR_rf) ?_
  refine m_getf X fg_X3_35_X3 hM.1 rfl dX3_done_31 ?_
  refine m_iload_n X dX3_done_34 rfl rfl ?_
  refine s_iald X hM rfl rfl (by exact tin (by simp only [alen]; omega) rfl) dX3_done_35 ?_
  refine m_topi X (hd0 11 _ h11) ?_
  refine m_tsw X dX3_done_36 (l0 := 0) (N := 17) (t := 317) (by decide) rfl (by decide) rfl (by decide) (by decide) (fun j_36 hj_36 ej_36 => ?_) (fun ho_36 => ?_)
  · skip
    have hk_36 : j_36 = 0 ∨ j_36 = 1 ∨ j_36 = 2 ∨ j_36 = 3 ∨ j_36 = 4 ∨ j_36 = 5 ∨ j_36 = 6 ∨ j_36 = 7 ∨ j_36 = 8 ∨ j_36 = 9 ∨ j_36 = 10 ∨ j_36 = 11 ∨ j_36 = 12 ∨ j_36 = 13 ∨ j_36 = 14 ∨ j_36 = 15 ∨ j_36 = 16 := by omega
    rcases hk_36 with rfl | rfl | rfl | rfl | rfl | rfl | rfl | rfl | rfl | rfl | rfl | rfl | rfl | rfl | rfl | rfl | rfl
    · skip
      have ej : op = 0 := (nI_eq (by omega) (by decide)).mp ej_36
      subst ej
      clear ej_36
      refine m_pc (pc' := 120) (by decide) ?_
      simp only [isActN, Bool.and_eq_true] at hv
      obtain ⟨a, la, ha, rfl⟩ := inB_r 0 11 (by decide) (by decide) hv.1
      obtain ⟨b, lb, hb, rfl⟩ := inB_r 1 7 (by decide) (by decide) hv.2.1
      refine m_aload_n X dX3_done_120 rfl rfl (by first | rfl | exact isR_rf) ?_
      refine m_iload_n X dX3_done_121 rfl rfl ?_
      refine m_iload_n X dX3_done_122 rfl rfl ?_
      refine m_iload X dX3_done_123 rfl ?_
      refine m_callV X cs_X3_186  (c_X3_make hM hT hW a b c (by omega) (by omega)) hM.1 rfl rfl rfl (Nat.le_of_ble_eq_true rfl) dX3_done_125 ⟨by decide, by decide, by decide, by decide⟩ (fun v M hp => ?_) (fun _ _ _ _ h => h.elim)
      obtain ⟨rfl, F, A, B, hM, hT, hFr⟩ := hp
      refine m_sti ?_
      exact m_iret X dX3_done_128 (by decide) (by decide) (by refine pT_eq (p := makeA σ a b c) ?_ ?_; rotate_left; (exact ⟨rfl, _, _, _, hM, hT, hFr⟩); simp only [doAct]; repeat rw [nI_toNat (by omega)])
    · skip
      have ej : op = 1 := (nI_eq (by omega) (by decide)).mp ej_36
      subst ej
      clear ej_36
      refine m_pc (pc' := 129) (by decide) ?_
      simp only [isActN, Bool.and_eq_true] at hv
      obtain ⟨a, la, ha, rfl⟩ := inB_r 0 11 (by decide) (by decide) hv
      refine m_aload_n X dX3_done_129 rfl rfl (by first | rfl | exact isR_rf) ?_
      refine m_iload_n X dX3_done_130 rfl rfl ?_
      refine m_iload_n X dX3_done_131 rfl rfl ?_
      refine m_iload X dX3_done_132 rfl ?_
      refine m_callV X cs_X3_189  (c_X3_deep hM hT hW a b c (by omega)) hM.1 rfl rfl rfl (Nat.le_of_ble_eq_true rfl) dX3_done_134 ⟨by decide, by decide, by decide, by decide⟩ (fun v M hp => ?_) (fun _ _ _ _ h => h.elim)
      obtain ⟨rfl, F, A, B, hM, hT, hFr⟩ := hp
      refine m_sti ?_
      exact m_iret X dX3_done_137 (by decide) (by decide) (by refine pT_eq (p := deepA σ a b c) ?_ ?_; rotate_left; (exact ⟨rfl, _, _, _, hM, hT, hFr⟩); simp only [doAct]; repeat rw [nI_toNat (by omega)])
    · skip
      have ej : op = 2 := (nI_eq (by omega) (by decide)).mp ej_36
      subst ej
      clear ej_36
      refine m_pc (pc' := 138) (by decide) ?_
      simp only [isActN, Bool.and_eq_true] at hv
      obtain ⟨a, la, ha, rfl⟩ := inB_r 0 11 (by decide) (by decide) hv
      refine m_aload_n X dX3_done_138 rfl rfl (by first | rfl | exact isR_rf) ?_
      refine m_iload_n X dX3_done_139 rfl rfl ?_
      refine m_iconst X dX3_done_140 (v := 5) (by decide) ?_
      refine m_iload_n X dX3_done_141 rfl rfl ?_
      refine m_callV X cs_X3_186  (c_X3_make hM hT hW a 5 b (by omega) (by decide)) hM.1 rfl rfl rfl (Nat.le_of_ble_eq_true rfl) dX3_done_142 ⟨by decide, by decide, by decide, by decide⟩ (fun v M hp => ?_) (fun _ _ _ _ h => h.elim)
      obtain ⟨rfl, F, A, B, hM, hT, hFr⟩ := hp
      refine m_sti ?_
      exact m_iret X dX3_done_145 (by decide) (by decide) (by refine pT_eq (p := makeA σ a 5 b) ?_ ?_; rotate_left; (exact ⟨rfl, _, _, _, hM, hT, hFr⟩); simp only [doAct]; repeat rw [nI_toNat (by omega)])
    · skip
      have ej : op = 3 := (nI_eq (by omega) (by decide)).mp ej_36
      subst ej
      clear ej_36
      refine m_pc (pc' := 146) (by decide) ?_
      simp only [isActN, Bool.and_eq_true] at hv
      obtain ⟨a, la, ha, rfl⟩ := inB_r 0 11 (by decide) (by decide) hv
      refine m_aload_n X dX3_done_146 rfl rfl (by first | rfl | exact isR_rf) ?_
      refine m_iload_n X dX3_done_147 rfl rfl ?_
      refine m_iload_n X dX3_done_148 rfl rfl ?_
      refine m_ifne X dX3_done_149 (t := 157) (by decide) (fun c_149 => ?_) (fun c_149 => ?_)
      · skip
        try simp only [bI_0, Bool.not_eq_false] at c_149
        refine m_bipush X dX3_done_157 (v := 9) (by decide) ?_
        refine m_iload X dX3_done_159 rfl ?_
        refine m_callV X cs_X3_192  (c_X3_figure hM hT hW a 9 c (by omega) (by decide)) hM.1 rfl rfl rfl (Nat.le_of_ble_eq_true rfl) dX3_done_161 ⟨by decide, by decide, by decide, by decide⟩ (fun v M hp => ?_) (fun _ _ _ _ h => h.elim)
        obtain ⟨rfl, F, A, B, hM, hT, hFr⟩ := hp
        refine m_sti ?_
        exact m_iret X dX3_done_164 (by decide) (by decide) (by refine pT_eq (p := figureA σ a 9 c) ?_ ?_; rotate_left; (exact ⟨rfl, _, _, _, hM, hT, hFr⟩); simp only [doAct]; repeat rw [nI_toNat (by omega)]; first | rw [if_pos c_149] | rw [if_neg c_149])
      · skip
        try simp only [bI_0, Bool.not_eq_false] at c_149
        refine m_bipush X dX3_done_152 (v := 8) (by decide) ?_
        refine m_goto X dX3_done_154 (t := 159) (by decide) ?_
        refine m_iload X dX3_done_159 rfl ?_
        refine m_callV X cs_X3_192  (c_X3_figure hM hT hW a 8 c (by omega) (by decide)) hM.1 rfl rfl rfl (Nat.le_of_ble_eq_true rfl) dX3_done_161 ⟨by decide, by decide, by decide, by decide⟩ (fun v M hp => ?_) (fun _ _ _ _ h => h.elim)
        obtain ⟨rfl, F, A, B, hM, hT, hFr⟩ := hp
        refine m_sti ?_
        exact m_iret X dX3_done_164 (by decide) (by decide) (by refine pT_eq (p := figureA σ a 8 c) ?_ ?_; rotate_left; (exact ⟨rfl, _, _, _, hM, hT, hFr⟩); simp only [doAct]; repeat rw [nI_toNat (by omega)]; first | rw [if_pos c_149] | rw [if_neg c_149])
    · skip
      have ej : op = 4 := (nI_eq (by omega) (by decide)).mp ej_36
      subst ej
      clear ej_36
      refine m_pc (pc' := 165) (by decide) ?_
      simp only [isActN, Bool.and_eq_true] at hv
      obtain ⟨a, la, ha, rfl⟩ := inB_r 0 11 (by decide) (by decide) hv.1
      obtain ⟨b, lb, hb, rfl⟩ := inB_r 0 11 (by decide) (by decide) hv.2.1
      obtain ⟨c, lc, hc, rfl⟩ := inB_r 0 9 (by decide) (by decide) hv.2.2
      refine m_aload_n X dX3_done_165 rfl rfl (by first | rfl | exact isR_rf) ?_
      refine m_iload_n X dX3_done_166 rfl rfl ?_
      refine m_iload_n X dX3_done_167 rfl rfl ?_
      refine m_iload X dX3_done_168 rfl ?_
      refine m_callV X cs_X3_195  (c_X3_move hM hT hW a b c (by omega) (by omega) (by omega)) hM.1 rfl rfl rfl (Nat.le_of_ble_eq_true rfl) dX3_done_170 ⟨by decide, by decide, by decide, by decide⟩ (fun v M hp => ?_) (fun _ _ _ _ h => h.elim)
      obtain ⟨rfl, F, A, B, hM, hT, hFr⟩ := hp
      refine m_sti ?_
      exact m_iret X dX3_done_173 (by decide) (by decide) (by refine pT_eq (p := moveA σ a b c) ?_ ?_; rotate_left; (exact ⟨rfl, _, _, _, hM, hT, hFr⟩); simp only [doAct]; repeat rw [nI_toNat (by omega)])
    · skip
      have ej : op = 5 := (nI_eq (by omega) (by decide)).mp ej_36
      subst ej
      clear ej_36
      refine m_pc (pc' := 174) (by decide) ?_
      simp only [isActN, Bool.and_eq_true] at hv
      obtain ⟨a, la, ha, rfl⟩ := inB_r 0 7 (by decide) (by decide) hv.1
      obtain ⟨b, lb, hb, rfl⟩ := inB_r 0 11 (by decide) (by decide) hv.2.1
      obtain ⟨c, lc, hc, rfl⟩ := inB_r 1 4 (by decide) (by decide) hv.2.2
      refine m_aload_n X dX3_done_174 rfl rfl (by first | rfl | exact isR_rf) ?_
      refine m_iload_n X dX3_done_175 rfl rfl ?_
      refine m_iload_n X dX3_done_176 rfl rfl ?_
      refine m_iload X dX3_done_177 rfl ?_
      refine m_iload X dX3_done_179 rfl ?_
      refine m_callV X cs_X3_198  (c_X3_get hM hT hW a b c d (by omega) (by omega) (by omega)) hM.1 rfl rfl rfl (Nat.le_of_ble_eq_true rfl) dX3_done_181 ⟨by decide, by decide, by decide, by decide⟩ (fun v M hp => ?_) (fun _ _ _ _ h => h.elim)
      obtain ⟨rfl, F, A, B, hM, hT, hFr⟩ := hp
      refine m_sti ?_
      exact m_iret X dX3_done_184 (by decide) (by decide) (by refine pT_eq (p := getA σ a b c d) ?_ ?_; rotate_left; (exact ⟨rfl, _, _, _, hM, hT, hFr⟩); simp only [doAct]; repeat rw [nI_toNat (by omega)])
    · skip
      have ej : op = 6 := (nI_eq (by omega) (by decide)).mp ej_36
      subst ej
      clear ej_36
      refine m_pc (pc' := 185) (by decide) ?_
      simp only [isActN, Bool.and_eq_true] at hv
      obtain ⟨a, la, ha, rfl⟩ := inB_r 0 11 (by decide) (by decide) hv.1
      obtain ⟨b, lb, hb, rfl⟩ := inB_r 1 4 (by decide) (by decide) hv.2.1
      obtain ⟨d, ld, hd, rfl⟩ := inB_r 0 7 (by decide) (by decide) hv.2.2
      refine m_aload_n X dX3_done_185 rfl rfl (by first | rfl | exact isR_rf) ?_
      refine m_iload_n X dX3_done_186 rfl rfl ?_
      refine m_iload_n X dX3_done_187 rfl rfl ?_
      refine m_iload X dX3_done_188 rfl ?_
      refine m_iload X dX3_done_190 rfl ?_
      refine m_callV X cs_X3_202  (c_X3_set hM hT hW a b c d (by omega) (by omega) (by omega)) hM.1 rfl rfl rfl (Nat.le_of_ble_eq_true rfl) dX3_done_192 ⟨by decide, by decide, by decide, by decide⟩ (fun v M hp => ?_) (fun _ _ _ _ h => h.elim)
      obtain ⟨rfl, F, A, B, hM, hT, hFr⟩ := hp
      refine m_sti ?_
      exact m_iret X dX3_done_195 (by decide) (by decide) (by refine pT_eq (p := setA σ a b c d) ?_ ?_; rotate_left; (exact ⟨rfl, _, _, _, hM, hT, hFr⟩); simp only [doAct]; repeat rw [nI_toNat (by omega)])
    · skip
      have ej : op = 7 := (nI_eq (by omega) (by decide)).mp ej_36
      subst ej
      clear ej_36
      refine m_pc (pc' := 196) (by decide) ?_
      simp only [isActN, Bool.and_eq_true] at hv
      obtain ⟨a, la, ha, rfl⟩ := inB_r 0 11 (by decide) (by decide) hv.1
      obtain ⟨b, lb, hb, rfl⟩ := inB_r 0 11 (by decide) (by decide) hv.2.1
      obtain ⟨c, lc, hc, rfl⟩ := inB_r 5 7 (by decide) (by decide) hv.2.2
      refine m_aload_n X dX3_done_196 rfl rfl (by first | rfl | exact isR_rf) ?_
      refine m_iload_n X dX3_done_197 rfl rfl ?_
      refine m_iload_n X dX3_done_198 rfl rfl ?_
      refine m_iload X dX3_done_199 rfl ?_
      refine m_iload X dX3_done_201 rfl ?_
      refine m_callV X cs_X3_205  (c_X3_take hM hT hW a b c d (by omega) (by omega) (by omega) (by omega)) hM.1 rfl rfl rfl (Nat.le_of_ble_eq_true rfl) dX3_done_203 ⟨by decide, by decide, by decide, by decide⟩ (fun v M hp => ?_) (fun _ _ _ _ h => h.elim)
      obtain ⟨rfl, F, A, B, hM, hT, hFr⟩ := hp
      refine m_sti ?_
      exact m_iret X dX3_done_206 (by decide) (by decide) (by refine pT_eq (p := takeA σ a b c d) ?_ ?_; rotate_left; (exact ⟨rfl, _, _, _, hM, hT, hFr⟩); simp only [doAct]; repeat rw [nI_toNat (by omega)])
    · skip
      have ej : op = 8 := (nI_eq (by omega) (by decide)).mp ej_36
      subst ej
      clear ej_36
      refine m_pc (pc' := 207) (by decide) ?_
      simp only [isActN, Bool.and_eq_true] at hv
      obtain ⟨a, la, ha, rfl⟩ := inB_r 0 11 (by decide) (by decide) hv.1
      obtain ⟨b, lb, hb, rfl⟩ := inB_r 5 7 (by decide) (by decide) hv.2.1
      obtain ⟨d, ld, hd, rfl⟩ := inB_r 0 11 (by decide) (by decide) hv.2.2
      refine m_aload_n X dX3_done_207 rfl rfl (by first | rfl | exact isR_rf) ?_
      refine m_iload_n X dX3_done_208 rfl rfl ?_
      refine m_iload_n X dX3_done_209 rfl rfl ?_
      refine m_iload X dX3_done_210 rfl ?_
      refine m_iload X dX3_done_212 rfl ?_
      refine m_callV X cs_X3_208  (c_X3_lay hM hT hW a b c d (by omega) (by omega) (by omega)) hM.1 rfl rfl rfl (Nat.le_of_ble_eq_true rfl) dX3_done_214 ⟨by decide, by decide, by decide, by decide⟩ (fun v M hp => ?_) (fun _ _ _ _ h => h.elim)
      obtain ⟨rfl, F, A, B, hM, hT, hFr⟩ := hp
      refine m_sti ?_
      exact m_iret X dX3_done_217 (by decide) (by decide) (by refine pT_eq (p := layA σ a b c d) ?_ ?_; rotate_left; (exact ⟨rfl, _, _, _, hM, hT, hFr⟩); simp only [doAct]; repeat rw [nI_toNat (by omega)])
    · skip
      have ej : op = 9 := (nI_eq (by omega) (by decide)).mp ej_36
      subst ej
      clear ej_36
      refine m_pc (pc' := 218) (by decide) ?_
      simp only [isActN, Bool.and_eq_true] at hv
      obtain ⟨a, la, ha, rfl⟩ := inB_r 0 7 (by decide) (by decide) hv.1
      obtain ⟨b, lb, hb, rfl⟩ := inB_r 0 11 (by decide) (by decide) hv.2.1
      obtain ⟨c, lc, hc, rfl⟩ := inB_r 1 7 (by decide) (by decide) hv.2.2
      refine m_aload_n X dX3_done_218 rfl rfl (by first | rfl | exact isR_rf) ?_
      refine m_iload_n X dX3_done_219 rfl rfl ?_
      refine m_iload_n X dX3_done_220 rfl rfl ?_
      refine m_iload X dX3_done_221 rfl ?_
      refine m_callV X cs_X3_211  (c_X3_measure hM hT hW a b c (by omega) (by omega) (by omega)) hM.1 rfl rfl rfl (Nat.le_of_ble_eq_true rfl) dX3_done_223 ⟨by decide, by decide, by decide, by decide⟩ (fun v M hp => ?_) (fun _ _ _ _ h => h.elim)
      obtain ⟨rfl, F, A, B, hM, hT, hFr⟩ := hp
      refine m_sti ?_
      exact m_iret X dX3_done_226 (by decide) (by decide) (by refine pT_eq (p := measureA σ a b c) ?_ ?_; rotate_left; (exact ⟨rfl, _, _, _, hM, hT, hFr⟩); simp only [doAct]; repeat rw [nI_toNat (by omega)])
    · skip
      have ej : op = 10 := (nI_eq (by omega) (by decide)).mp ej_36
      subst ej
      clear ej_36
      refine m_pc (pc' := 227) (by decide) ?_
      simp only [isActN, Bool.and_eq_true] at hv
      obtain ⟨a, la, ha, rfl⟩ := inB_r 0 11 (by decide) (by decide) hv.1
      obtain ⟨b, lb, hb, rfl⟩ := inB_r 0 11 (by decide) (by decide) hv.2
      refine m_aload_n X dX3_done_227 rfl rfl (by first | rfl | exact isR_rf) ?_
      refine m_iload_n X dX3_done_228 rfl rfl ?_
      refine m_iload_n X dX3_done_229 rfl rfl ?_
      refine m_callV X cs_X3_214  (c_X3_cloned hM hT hW a b (by omega) (by omega)) hM.1 rfl rfl rfl (Nat.le_of_ble_eq_true rfl) dX3_done_230 ⟨by decide, by decide, by decide, by decide⟩ (fun v M hp => ?_) (fun _ _ _ _ h => h.elim)
      obtain ⟨rfl, F, A, B, hM, hT, hFr⟩ := hp
      refine m_sti ?_
      exact m_iret X dX3_done_233 (by decide) (by decide) (by refine pT_eq (p := cloneA σ a b) ?_ ?_; rotate_left; (exact ⟨rfl, _, _, _, hM, hT, hFr⟩); simp only [doAct]; repeat rw [nI_toNat (by omega)])
    · skip
      have ej : op = 11 := (nI_eq (by omega) (by decide)).mp ej_36
      subst ej
      clear ej_36
      refine m_pc (pc' := 234) (by decide) ?_
      simp only [isActN, Bool.and_eq_true] at hv
      obtain ⟨a, la, ha, rfl⟩ := inB_r 0 7 (by decide) (by decide) hv.1
      obtain ⟨b, lb, hb, rfl⟩ := inB_r 0 11 (by decide) (by decide) hv.2
      refine m_aload_n X dX3_done_234 rfl rfl (by first | rfl | exact isR_rf) ?_
      refine m_iload_n X dX3_done_235 rfl rfl ?_
      refine m_iload_n X dX3_done_236 rfl rfl ?_
      refine m_callV X cs_X3_217  (c_X3_tell hM hT hW a b (by omega) (by omega)) hM.1 rfl rfl rfl (Nat.le_of_ble_eq_true rfl) dX3_done_237 ⟨by decide, by decide, by decide, by decide⟩ (fun v M hp => ?_) (fun _ _ _ _ h => h.elim)
      obtain ⟨rfl, F, A, B, hM, hT, hFr⟩ := hp
      refine m_sti ?_
      exact m_iret X dX3_done_240 (by decide) (by decide) (by refine pT_eq (p := tellA σ a b) ?_ ?_; rotate_left; (exact ⟨rfl, _, _, _, hM, hT, hFr⟩); simp only [doAct]; repeat rw [nI_toNat (by omega)])
    · skip
      have ej : op = 12 := (nI_eq (by omega) (by decide)).mp ej_36
      subst ej
      clear ej_36
      refine m_pc (pc' := 241) (by decide) ?_
      simp only [isActN, Bool.and_eq_true] at hv
      obtain ⟨a, la, ha, rfl⟩ := inB_r 0 11 (by decide) (by decide) hv.1
      obtain ⟨c, lc, hc, rfl⟩ := inB_r 0 11 (by decide) (by decide) hv.2
      refine m_aload_n X dX3_done_241 rfl rfl (by first | rfl | exact isR_rf) ?_
      refine m_iload_n X dX3_done_242 rfl rfl ?_
      refine m_iload_n X dX3_done_243 rfl rfl ?_
      refine m_iload X dX3_done_244 rfl ?_
      refine m_iload X dX3_done_246 rfl ?_
      refine m_aload_n X dX3_done_248 rfl rfl (by first | rfl | exact isR_rf) ?_
      refine m_getf X fg_X3_29_X3 hM.1 rfl dX3_done_249 ?_
      refine m_bipush X dX3_done_252 (v := 7) (by decide) ?_
      refine s_lald X hM rfl rfl (by exact tin (by simp only [alen]; omega) rfl) dX3_done_254 ?_
      refine m_topl X (hT.reg (s := 7) (by decide)) ?_
      refine m_l2i X dX3_done_255 ?_
      refine m_callV X cs_X3_220  (c_X3_copy hM hT hW a b c d _ (by omega) (by omega)) hM.1 rfl rfl rfl (Nat.le_of_ble_eq_true rfl) dX3_done_256 ⟨by decide, by decide, by decide, by decide⟩ (fun v M hp => ?_) (fun _ _ _ _ h => h.elim)
      obtain ⟨rfl, F, A, B, hM, hT, hFr⟩ := hp
      refine m_sti ?_
      exact m_iret X dX3_done_259 (by decide) (by decide) (by refine pT_eq (p := copyA σ a b c d (σ.rg 7).toInt32) ?_ ?_; rotate_left; (exact ⟨rfl, _, _, _, hM, hT, hFr⟩); simp only [doAct]; repeat rw [nI_toNat (by omega)])
    · skip
      have ej : op = 13 := (nI_eq (by omega) (by decide)).mp ej_36
      subst ej
      clear ej_36
      refine m_pc (pc' := 260) (by decide) ?_
      simp only [isActN, Bool.and_eq_true] at hv
      obtain ⟨a, la, ha, rfl⟩ := inB_r 0 7 (by decide) (by decide) hv
      refine m_aload_n X dX3_done_260 rfl rfl (by first | rfl | exact isR_rf) ?_
      refine m_getf X fg_X3_29_X3 hM.1 rfl dX3_done_261 ?_
      refine m_iload_n X dX3_done_264 rfl rfl ?_
      refine m_iload_n X dX3_done_265 rfl rfl ?_
      refine m_i2l X dX3_done_266 ?_
      refine s_last X hM rfl rfl (by exact tin (by simp only [alen]; omega) rfl) dX3_done_267 (fun M hM => ?_)
      refine m_iconst X dX3_done_268 (v := 0) (by decide) ?_
      exact m_iret X dX3_done_269 (by decide) (by decide) (by refine pT_eq (p := (0, σ.setRg a b.toInt64)) ?_ ?_; rotate_left; (exact pT_mk hM (hT.setRg (by omega)) FrT.rf); simp only [doAct]; repeat rw [nI_toNat (by omega)])
    · skip
      have ej : op = 14 := (nI_eq (by omega) (by decide)).mp ej_36
      subst ej
      clear ej_36
      refine m_pc (pc' := 270) (by decide) ?_
      simp only [isActN, Bool.and_eq_true] at hv
      obtain ⟨a, la, ha, rfl⟩ := inB_r 0 7 (by decide) (by decide) hv.1
      obtain ⟨b, lb, hb, rfl⟩ := inB_r 0 7 (by decide) (by decide) hv.2.1
      obtain ⟨c, lc, hc, rfl⟩ := inB_r 0 7 (by decide) (by decide) hv.2.2
      refine m_aload_n X dX3_done_270 rfl rfl (by first | rfl | exact isR_rf) ?_
      refine m_getf X fg_X3_29_X3 hM.1 rfl dX3_done_271 ?_
      refine m_iload_n X dX3_done_274 rfl rfl ?_
      refine m_aload_n X dX3_done_275 rfl rfl (by first | rfl | exact isR_rf) ?_
      refine m_getf X fg_X3_29_X3 hM.1 rfl dX3_done_276 ?_
      refine m_iload_n X dX3_done_279 rfl rfl ?_
      refine s_lald X hM rfl rfl (by exact tin (by simp only [alen]; omega) rfl) dX3_done_280 ?_
      refine m_topl X (hT.reg (by omega)) ?_
      refine m_aload_n X dX3_done_281 rfl rfl (by first | rfl | exact isR_rf) ?_
      refine m_getf X fg_X3_29_X3 hM.1 rfl dX3_done_282 ?_
      refine m_iload X dX3_done_285 rfl ?_
      refine s_lald X hM rfl rfl (by exact tin (by simp only [alen]; omega) rfl) dX3_done_287 ?_
      refine m_topl X (hT.reg (by omega)) ?_
      refine m_ladd X dX3_done_288 ?_
      refine s_last X hM rfl rfl (by exact tin (by simp only [alen]; omega) rfl) dX3_done_289 (fun M hM => ?_)
      refine m_iconst X dX3_done_290 (v := 0) (by decide) ?_
      exact m_iret X dX3_done_291 (by decide) (by decide) (by refine pT_eq (p := (0, σ.setRg a (σ.rg b + σ.rg c))) ?_ ?_; rotate_left; (exact pT_mk hM (hT.setRg (by omega)) FrT.rf); simp only [doAct]; repeat rw [nI_toNat (by omega)])
    · skip
      have ej : op = 15 := (nI_eq (by omega) (by decide)).mp ej_36
      subst ej
      clear ej_36
      refine m_pc (pc' := 292) (by decide) ?_
      simp only [isActN, Bool.and_eq_true] at hv
      obtain ⟨a, la, ha, rfl⟩ := inB_r 0 7 (by decide) (by decide) hv.1
      obtain ⟨b, lb, hb, rfl⟩ := inB_r 0 7 (by decide) (by decide) hv.2.1
      obtain ⟨c, lc, hc, rfl⟩ := inB_r 0 7 (by decide) (by decide) hv.2.2
      refine m_aload_n X dX3_done_292 rfl rfl (by first | rfl | exact isR_rf) ?_
      refine m_iload_n X dX3_done_293 rfl rfl ?_
      refine m_iload_n X dX3_done_294 rfl rfl ?_
      refine m_iload X dX3_done_295 rfl ?_
      refine m_aload_n X dX3_done_297 rfl rfl (by first | rfl | exact isR_rf) ?_
      refine m_getf X fg_X3_35_X3 hM.1 rfl dX3_done_298 ?_
      refine m_iload_n X dX3_done_301 rfl rfl ?_
      refine s_iald X hM rfl rfl (by exact tin (by simp only [alen]; omega) rfl) dX3_done_302 ?_
      refine m_topi X (hd0 11 _ h11) ?_
      refine m_bipush X dX3_done_303 (v := 16) (by decide) ?_
      refine m_icmpne X dX3_done_305 (t := 312) (by decide) (fun c_305 => ?_) (fun c_305 => ?_)
      · skip
        refine m_iconst X dX3_done_312 (v := 0) (by decide) ?_
        refine m_callV X cs_X3_224  (c_X3_divide hM hT hW a b c false (by omega) (by omega) (by omega)) hM.1 rfl rfl rfl (Nat.le_of_ble_eq_true rfl) dX3_done_313 ⟨by decide, by decide, by decide, by decide⟩ (fun v M hp => ?_) (fun _ _ _ _ h => h.elim)
        obtain ⟨rfl, F, A, B, hM, hT, hFr⟩ := hp
        refine m_sti ?_
        exact m_iret X dX3_done_316 (by decide) (by decide) (by refine pT_eq (p := divA σ a b c false) ?_ ?_; rotate_left; (exact ⟨rfl, _, _, _, hM, hT, hFr⟩); simp only [doAct]; repeat rw [nI_toNat (by omega)])
      · skip
        refine m_iconst X dX3_done_308 (v := 1) (by decide) ?_
        refine m_goto X dX3_done_309 (t := 313) (by decide) ?_
        refine m_callV X cs_X3_224  (c_X3_divide hM hT hW a b c true (by omega) (by omega) (by omega)) hM.1 rfl rfl rfl (Nat.le_of_ble_eq_true rfl) dX3_done_313 ⟨by decide, by decide, by decide, by decide⟩ (fun v M hp => ?_) (fun _ _ _ _ h => h.elim)
        obtain ⟨rfl, F, A, B, hM, hT, hFr⟩ := hp
        refine m_sti ?_
        exact m_iret X dX3_done_316 (by decide) (by decide) (by exact absurd (c_305) (by decide))
    · skip
      have ej : op = 16 := (nI_eq (by omega) (by decide)).mp ej_36
      subst ej
      clear ej_36
      refine m_pc (pc' := 292) (by decide) ?_
      simp only [isActN, Bool.and_eq_true] at hv
      obtain ⟨a, la, ha, rfl⟩ := inB_r 0 7 (by decide) (by decide) hv.1
      obtain ⟨b, lb, hb, rfl⟩ := inB_r 0 7 (by decide) (by decide) hv.2.1
      obtain ⟨c, lc, hc, rfl⟩ := inB_r 0 7 (by decide) (by decide) hv.2.2
      refine m_aload_n X dX3_done_292 rfl rfl (by first | rfl | exact isR_rf) ?_
      refine m_iload_n X dX3_done_293 rfl rfl ?_
      refine m_iload_n X dX3_done_294 rfl rfl ?_
      refine m_iload X dX3_done_295 rfl ?_
      refine m_aload_n X dX3_done_297 rfl rfl (by first | rfl | exact isR_rf) ?_
      refine m_getf X fg_X3_35_X3 hM.1 rfl dX3_done_298 ?_
      refine m_iload_n X dX3_done_301 rfl rfl ?_
      refine s_iald X hM rfl rfl (by exact tin (by simp only [alen]; omega) rfl) dX3_done_302 ?_
      refine m_topi X (hd0 11 _ h11) ?_
      refine m_bipush X dX3_done_303 (v := 16) (by decide) ?_
      refine m_icmpne X dX3_done_305 (t := 312) (by decide) (fun c_305 => ?_) (fun c_305 => ?_)
      · skip
        refine m_iconst X dX3_done_312 (v := 0) (by decide) ?_
        refine m_callV X cs_X3_224  (c_X3_divide hM hT hW a b c false (by omega) (by omega) (by omega)) hM.1 rfl rfl rfl (Nat.le_of_ble_eq_true rfl) dX3_done_313 ⟨by decide, by decide, by decide, by decide⟩ (fun v M hp => ?_) (fun _ _ _ _ h => h.elim)
        obtain ⟨rfl, F, A, B, hM, hT, hFr⟩ := hp
        refine m_sti ?_
        exact m_iret X dX3_done_316 (by decide) (by decide) (by exact absurd (c_305) (by decide))
      · skip
        refine m_iconst X dX3_done_308 (v := 1) (by decide) ?_
        refine m_goto X dX3_done_309 (t := 313) (by decide) ?_
        refine m_callV X cs_X3_224  (c_X3_divide hM hT hW a b c true (by omega) (by omega) (by omega)) hM.1 rfl rfl rfl (Nat.le_of_ble_eq_true rfl) dX3_done_313 ⟨by decide, by decide, by decide, by decide⟩ (fun v M hp => ?_) (fun _ _ _ _ h => h.elim)
        obtain ⟨rfl, F, A, B, hM, hT, hFr⟩ := hp
        refine m_sti ?_
        exact m_iret X dX3_done_316 (by decide) (by decide) (by refine pT_eq (p := divA σ a b c true) ?_ ?_; rotate_left; (exact ⟨rfl, _, _, _, hM, hT, hFr⟩); simp only [doAct]; repeat rw [nI_toNat (by omega)])
  · skip
    have h17 : op = 17 := by
      rw [nI_toInt (by omega)] at ho_36
      omega
    subst h17
    refine m_bipush X dX3_done_317 (v := 7) (by decide) ?_
    exact m_iret X dX3_done_319 (by decide) (by decide) (by exact pT_mk hM hT FrT.rf)
