/-! AN ACT'S QUESTIONS, whole, in the model (printed by wip/D-80403w/tools/m47.py) -/
set_option maxRecDepth 100000
theorem bI_or {a b : Bool} : bI a ||| bI b = bI (a || b) := by cases a <;> cases b <;> decide
theorem bI_or1 {a : Bool} : bI a ||| 1 = bI (a || true) := bI_or (b := true)
theorem bI_or0 {a : Bool} : bI a ||| 0 = bI (a || false) := bI_or (b := false)
set_option maxHeartbeats 4000000 in
theorem c_X3_mayTake {G : GX} {h : Nat} {ad : Nat → Nat} {F : Nat → Int32} {A A0 : Nat → Nat → Int32} {B : Nat → Nat → Int64} {M : Mem} {q : QS} {e : Nat} (hM : MRep G h ad F A B M) (hQ : QR e A q) (hK : KQ e A0 A) (he : e < 81) (a b : Nat) (k : Int32) (ha : a < 12) (hb : b < 12) : Con G yX3_mayTake wX3_mayTake (rmm 4 97) [.ref h, .int (nI e), .int (nI a), .int (nI b), .int k] M (pQ G h ad F A0 B e (some (.int (bI (qTake a b k q).1))) (qTake a b k q).2) nX := by
  refine Con.mk (by decide) rfl [(0, some (.ref h)), (1, some (.int (nI e))), (2, some (.int (nI a))), (3, some (.int (nI b))), (4, some (.int k))] rfl fun x X hno => ?_
  refine m_aload_n X dX3_mayTake_0 rfl rfl (by first | rfl | exact isR_rf) ?_
  refine m_iload_n X dX3_mayTake_1 rfl rfl ?_
  refine m_iload_n X dX3_mayTake_2 rfl rfl ?_
  refine m_iload X dX3_mayTake_3 rfl ?_
  refine m_callV X cs_X3_292  (c_X3_mayItem hM hQ hK he b k hb) hM.1 rfl rfl rfl (Nat.le_of_ble_eq_true rfl) dX3_mayTake_5 ⟨by decide, by decide, by decide, by decide⟩ (fun v M hp => ?_) (fun _ _ _ _ h => h.elim)
  obtain ⟨rfl, A, hM, hQ, hK⟩ := hp
  refine m_sti ?_
  refine m_istore X dX3_mayTake_8 rfl rfl ?_
  refine m_iload X dX3_mayTake_10 rfl ?_
  refine m_ifeq X dX3_mayTake_12 (t := 61) (by decide) (fun c_12 => ?_) (fun c_12 => ?_)
  · skip
    try simp only [bI_0, Bool.not_eq_false] at c_12
    refine m_iload X dX3_mayTake_61 rfl ?_
    exact m_zret X dX3_mayTake_63 (by first | rfl | exact bI_nar) (by decide) (by decide) (by refine ⟨?_, A, hM, ?_, hK⟩ <;> unfold qTake <;> rw [if_neg (fun z => by rw [c_12] at z; cases z)] <;> first | exact hQ | rw [c_12]; rfl)
  · skip
    try simp only [bI_0, Bool.not_eq_false] at c_12
    refine m_aload_n X dX3_mayTake_15 rfl rfl (by first | rfl | exact isR_rf) ?_
    refine m_getf X fg_X3_100_X3 hM.1 rfl dX3_mayTake_16 ?_
    refine m_iload_n X dX3_mayTake_19 rfl rfl ?_
    refine s_iald X hM rfl rfl (by exact tin (by simp only [alen]; omega) rfl) dX3_mayTake_20 ?_
    refine m_topi X (hQ.now (by omega)) ?_
    refine m_bipush X dX3_mayTake_21 (v := 6) (by decide) ?_
    refine m_ishr X dX3_mayTake_23 ?_
    refine m_iconst X dX3_mayTake_24 (v := 1) (by decide) ?_
    refine m_iand X dX3_mayTake_25 ?_
    refine m_iconst X dX3_mayTake_26 (v := 1) (by decide) ?_
    refine m_icmpne X dX3_mayTake_27 (t := 36) (by decide) (fun c_27 => ?_) (fun c_27 => ?_)
    · skip
      refine m_iconst X dX3_mayTake_36 (v := 0) (by decide) ?_
      refine m_istore X dX3_mayTake_37 rfl rfl ?_
      refine m_aload_n X dX3_mayTake_39 rfl rfl (by first | rfl | exact isR_rf) ?_
      refine m_getf X fg_X3_100_X3 hM.1 rfl dX3_mayTake_40 ?_
      refine m_iload_n X dX3_mayTake_43 rfl rfl ?_
      refine m_iload X dX3_mayTake_44 rfl ?_
      refine m_iconst X dX3_mayTake_46 (v := 5) (by decide) ?_
      refine m_icmpne X dX3_mayTake_47 (t := 54) (by decide) (fun c_47 => ?_) (fun c_47 => ?_)
      · skip
        refine m_sipush X dX3_mayTake_54 (v := 513) (by decide) ?_
        refine m_iload X dX3_mayTake_57 rfl ?_
        refine m_ior X dX3_mayTake_59 ?_
        refine s_now X hM hQ hK (by omega) dX3_mayTake_60 (fun A M hM hQ hK => ?_)
        refine m_iload X dX3_mayTake_61 rfl ?_
        exact m_zret X dX3_mayTake_63 (by first | rfl | exact bI_nar) (by decide) (by decide) (by refine ⟨?_, A, hM, ?_, hK⟩ <;> unfold qTake <;> rw [if_pos c_12] <;> first | (exact congrArg (fun z => some (Value.int (bI z))) c_12) | skip; rw [if_neg c_47, if_neg (fun z => by rw [bq0 c_27] at z; cases z)]; exact hQ)
      · skip
        refine m_iconst X dX3_mayTake_50 (v := 3) (by decide) ?_
        refine m_goto X dX3_mayTake_51 (t := 60) (by decide) ?_
        refine s_now X hM hQ hK (by omega) dX3_mayTake_60 (fun A M hM hQ hK => ?_)
        refine m_iload X dX3_mayTake_61 rfl ?_
        exact m_zret X dX3_mayTake_63 (by first | rfl | exact bI_nar) (by decide) (by decide) (by refine ⟨?_, A, hM, ?_, hK⟩ <;> unfold qTake <;> rw [if_pos c_12] <;> first | (exact congrArg (fun z => some (Value.int (bI z))) c_12) | skip; rw [if_pos c_47]; exact hQ)
    · skip
      refine m_sipush X dX3_mayTake_30 (v := 256) (by decide) ?_
      refine m_goto X dX3_mayTake_33 (t := 37) (by decide) ?_
      refine m_istore X dX3_mayTake_37 rfl rfl ?_
      refine m_aload_n X dX3_mayTake_39 rfl rfl (by first | rfl | exact isR_rf) ?_
      refine m_getf X fg_X3_100_X3 hM.1 rfl dX3_mayTake_40 ?_
      refine m_iload_n X dX3_mayTake_43 rfl rfl ?_
      refine m_iload X dX3_mayTake_44 rfl ?_
      refine m_iconst X dX3_mayTake_46 (v := 5) (by decide) ?_
      refine m_icmpne X dX3_mayTake_47 (t := 54) (by decide) (fun c_47 => ?_) (fun c_47 => ?_)
      · skip
        refine m_sipush X dX3_mayTake_54 (v := 513) (by decide) ?_
        refine m_iload X dX3_mayTake_57 rfl ?_
        refine m_ior X dX3_mayTake_59 ?_
        refine s_now X hM hQ hK (by omega) dX3_mayTake_60 (fun A M hM hQ hK => ?_)
        refine m_iload X dX3_mayTake_61 rfl ?_
        exact m_zret X dX3_mayTake_63 (by first | rfl | exact bI_nar) (by decide) (by decide) (by refine ⟨?_, A, hM, ?_, hK⟩ <;> unfold qTake <;> rw [if_pos c_12] <;> first | (exact congrArg (fun z => some (Value.int (bI z))) c_12) | skip; rw [if_neg c_47, if_pos (bq1 c_27)]; exact hQ)
      · skip
        refine m_iconst X dX3_mayTake_50 (v := 3) (by decide) ?_
        refine m_goto X dX3_mayTake_51 (t := 60) (by decide) ?_
        refine s_now X hM hQ hK (by omega) dX3_mayTake_60 (fun A M hM hQ hK => ?_)
        refine m_iload X dX3_mayTake_61 rfl ?_
        exact m_zret X dX3_mayTake_63 (by first | rfl | exact bI_nar) (by decide) (by decide) (by refine ⟨?_, A, hM, ?_, hK⟩ <;> unfold qTake <;> rw [if_pos c_12] <;> first | (exact congrArg (fun z => some (Value.int (bI z))) c_12) | skip; rw [if_pos c_47]; exact hQ)
set_option maxHeartbeats 4000000 in
theorem c_X3_mayCopy {G : GX} {h : Nat} {ad : Nat → Nat} {F : Nat → Int32} {A A0 : Nat → Nat → Int32} {B : Nat → Nat → Int64} {M : Mem} {q : QS} {e : Nat} (hM : MRep G h ad F A B M) (hQ : QR e A q) (hK : KQ e A0 A) (he : e < 81) (a c : Nat) (ha : a < 12) (hc : c < 12) : Con G yX3_mayCopy wX3_mayCopy (rmm 2 49) [.ref h, .int (nI e), .int (nI a), .int (nI c)] M (pQ G h ad F A0 B e (some (.int (bI (qCopy a c q).1))) (qCopy a c q).2) nX := by
  refine Con.mk (by decide) rfl [(0, some (.ref h)), (1, some (.int (nI e))), (2, some (.int (nI a))), (3, some (.int (nI c)))] rfl fun x X hno => ?_
  refine m_aload_n X dX3_mayCopy_0 rfl rfl (by first | rfl | exact isR_rf) ?_
  refine m_getf X fg_X3_100_X3 hM.1 rfl dX3_mayCopy_1 ?_
  refine m_iload_n X dX3_mayCopy_4 rfl rfl ?_
  refine s_iald X hM rfl rfl (by exact tin (by simp only [alen]; omega) rfl) dX3_mayCopy_5 ?_
  refine m_topi X (hQ.now (by omega)) ?_
  refine m_aload_n X dX3_mayCopy_6 rfl rfl (by first | rfl | exact isR_rf) ?_
  refine m_getf X fg_X3_100_X3 hM.1 rfl dX3_mayCopy_7 ?_
  refine m_iload_n X dX3_mayCopy_10 rfl rfl ?_
  refine s_iald X hM rfl rfl (by exact tin (by simp only [alen]; omega) rfl) dX3_mayCopy_11 ?_
  refine m_topi X (hQ.now (by omega)) ?_
  refine m_ior X dX3_mayCopy_12 ?_
  refine m_iconst X dX3_mayCopy_13 (v := 1) (by decide) ?_
  refine m_iand X dX3_mayCopy_14 ?_
  refine m_iconst X dX3_mayCopy_15 (v := 1) (by decide) ?_
  refine m_icmpne X dX3_mayCopy_16 (t := 27) (by decide) (fun c_16 => ?_) (fun c_16 => ?_)
  · skip
    refine m_aload_n X dX3_mayCopy_27 rfl rfl (by first | rfl | exact isR_rf) ?_
    refine m_getf X fg_X3_100_X3 hM.1 rfl dX3_mayCopy_28 ?_
    refine m_iload_n X dX3_mayCopy_31 rfl rfl ?_
    refine m_dup2 X dX3_mayCopy_32 rfl rfl ?_
    refine s_iald X hM rfl rfl (by exact tin (by simp only [alen]; omega) rfl) dX3_mayCopy_33 ?_
    refine m_topi X (hQ.now (by omega)) ?_
    refine m_bipush X dX3_mayCopy_34 (v := (-2)) (by decide) ?_
    refine m_iand X dX3_mayCopy_36 ?_
    refine s_now X hM hQ hK (by omega) dX3_mayCopy_37 (fun A M hM hQ hK => ?_)
    refine m_aload_n X dX3_mayCopy_38 rfl rfl (by first | rfl | exact isR_rf) ?_
    refine m_getf X fg_X3_100_X3 hM.1 rfl dX3_mayCopy_39 ?_
    refine m_iload_n X dX3_mayCopy_42 rfl rfl ?_
    refine m_dup2 X dX3_mayCopy_43 rfl rfl ?_
    refine s_iald X hM rfl rfl (by exact tin (by simp only [alen]; omega) rfl) dX3_mayCopy_44 ?_
    refine m_topi X (hQ.now (by omega)) ?_
    refine m_bipush X dX3_mayCopy_45 (v := (-2)) (by decide) ?_
    refine m_iand X dX3_mayCopy_47 ?_
    refine s_now X hM hQ hK (by omega) dX3_mayCopy_48 (fun A M hM hQ hK => ?_)
    obtain ⟨q3, e3⟩ : ∃ z, z = qCp1 a c q := ⟨_, rfl⟩
    have hQ : QR e A q3 := by rw [e3]; unfold qCp1 qCp0; first | (rw [if_pos c_16]; exact hQ) | (rw [if_neg c_16]; exact hQ)
    refine m_aload_n X dX3_mayCopy_49 rfl rfl (by first | rfl | exact isR_rf) ?_
    refine m_getf X fg_X3_100_X3 hM.1 rfl dX3_mayCopy_50 ?_
    refine m_iload_n X dX3_mayCopy_53 rfl rfl ?_
    refine s_iald X hM rfl rfl (by exact tin (by simp only [alen]; omega) rfl) dX3_mayCopy_54 ?_
    refine m_topi X (hQ.now (by omega)) ?_
    refine m_ifeq X dX3_mayCopy_55 (t := 67) (by decide) (fun c_55 => ?_) (fun c_55 => ?_)
    · skip
      try simp only [bI_0, Bool.not_eq_false] at c_55
      refine m_iconst X dX3_mayCopy_67 (v := 0) (by decide) ?_
      exact m_zret X dX3_mayCopy_68 (by first | rfl | exact bI_nar) (by decide) (by decide) (by refine ⟨?_, A, hM, ?_, hK⟩ <;> unfold qCopy <;> rw [← e3, if_pos (Or.inl c_55)] <;> first | exact hQ | rfl)
    · skip
      try simp only [bI_0, Bool.not_eq_false] at c_55
      refine m_aload_n X dX3_mayCopy_58 rfl rfl (by first | rfl | exact isR_rf) ?_
      refine m_getf X fg_X3_100_X3 hM.1 rfl dX3_mayCopy_59 ?_
      refine m_iload_n X dX3_mayCopy_62 rfl rfl ?_
      refine s_iald X hM rfl rfl (by exact tin (by simp only [alen]; omega) rfl) dX3_mayCopy_63 ?_
      refine m_topi X (hQ.now (by omega)) ?_
      refine m_ifne X dX3_mayCopy_64 (t := 69) (by decide) (fun c_64 => ?_) (fun c_64 => ?_)
      · skip
        try simp only [bI_0, Bool.not_eq_false] at c_64
        have tail : ∀ (A' : Nat → Nat → Int32) (M' : Mem), MRep G h ad F A' B M' → QR e A' q3 → KQ e A0 A' → WM G x 9 (QM G x (pQ G h ad F A0 B e (some (.int (bI (qCopy a c q).1))) (qCopy a c q).2) nX (rmm 2 49)) 0 0 M' 81 [(7, some (.int (nI (9 + 1)))), (4, some (.int (bI (cpOut (q3.1 a) (q3.1 c) 9).1))), (5, some (.int (cpOut (q3.1 a) (q3.1 c) 9).2.1)), (6, some (.int (cpOut (q3.1 a) (q3.1 c) 9).2.2)), (0, some (.ref h)), (1, some (.int (nI e))), (2, some (.int (nI a))), (3, some (.int (nI c)))] [] := by
          clear hM hQ hK
          intro A M hM hQ hK
          refine m_iload X dX3_mayCopy_81 rfl ?_
          refine m_bipush X dX3_mayCopy_83 (v := 10) (by decide) ?_
          refine m_icmpge X dX3_mayCopy_85 (t := 216) (by decide) (fun c_85 => ?_) (fun c_85 => absurd (by decide) c_85)
          refine m_iload X dX3_mayCopy_216 rfl ?_
          refine m_ifeq X dX3_mayCopy_218 (t := 229) (by decide) (fun c_218 => ?_) (fun c_218 => ?_)
          · skip
            try simp only [bI_0, Bool.not_eq_false] at c_218
            refine m_aload_n X dX3_mayCopy_229 rfl rfl (by first | rfl | exact isR_rf) ?_
            refine m_getf X fg_X3_100_X3 hM.1 rfl dX3_mayCopy_230 ?_
            refine m_iload_n X dX3_mayCopy_233 rfl rfl ?_
            refine m_iload X dX3_mayCopy_234 rfl ?_
            refine s_now X hM hQ hK (by omega) dX3_mayCopy_236 (fun A M hM hQ hK => ?_)
            refine m_aload_n X dX3_mayCopy_237 rfl rfl (by first | rfl | exact isR_rf) ?_
            refine m_getf X fg_X3_100_X3 hM.1 rfl dX3_mayCopy_238 ?_
            refine m_iload_n X dX3_mayCopy_241 rfl rfl ?_
            refine m_iload X dX3_mayCopy_242 rfl ?_
            refine s_now X hM hQ hK (by omega) dX3_mayCopy_244 (fun A M hM hQ hK => ?_)
            refine m_iload X dX3_mayCopy_245 rfl ?_
            refine m_ifne X dX3_mayCopy_247 (t := 252) (by decide) (fun c_247 => ?_) (fun c_247 => ?_)
            · skip
              try simp only [bI_0, Bool.not_eq_false] at c_247
              refine m_aload_n X dX3_mayCopy_252 rfl rfl (by first | rfl | exact isR_rf) ?_
              refine m_iload_n X dX3_mayCopy_253 rfl rfl ?_
              refine m_iconst X dX3_mayCopy_254 (v := 3) (by decide) ?_
              refine m_iconst X dX3_mayCopy_255 (v := (-1)) (by decide) ?_
              refine m_iconst X dX3_mayCopy_256 (v := 0) (by decide) ?_
              refine m_callV X cs_X3_279  (c_X3_mayFail0 hM hQ hK he 3 (by decide)) hM.1 rfl rfl rfl (Nat.le_of_ble_eq_true rfl) dX3_mayCopy_257 ⟨by decide, by decide, by decide, by decide⟩ (fun v M hp => ?_) (fun _ _ _ _ h => h.elim)
              obtain ⟨rfl, A, hM, hQ, hK⟩ := hp
              refine m_stn ?_
              refine m_iconst X dX3_mayCopy_260 (v := 1) (by decide) ?_
              exact m_zret X dX3_mayCopy_261 (by first | rfl | exact bI_nar) (by decide) (by decide) (by refine ⟨?_, A, hM, ?_, hK⟩ <;> unfold qCopy <;> rw [← e3, if_neg (fun z => z.elim c_55 c_64)] <;> unfold qCp2 <;> rw [if_neg c_247] <;> first | rfl | (simp only [c_218, if_true, Bool.false_eq_true, if_false]; exact hQ))
            · skip
              try simp only [bI_0, Bool.not_eq_false] at c_247
              refine m_iconst X dX3_mayCopy_250 (v := 0) (by decide) ?_
              exact m_zret X dX3_mayCopy_251 (by first | rfl | exact bI_nar) (by decide) (by decide) (by refine ⟨?_, A, hM, ?_, hK⟩ <;> unfold qCopy <;> rw [← e3, if_neg (fun z => z.elim c_55 c_64)] <;> unfold qCp2 <;> rw [if_pos c_247] <;> first | rfl | (simp only [c_218, if_true, Bool.false_eq_true, if_false]; exact hQ))
          · skip
            try simp only [bI_0, Bool.not_eq_false] at c_218
            refine m_aload_n X dX3_mayCopy_221 rfl rfl (by first | rfl | exact isR_rf) ?_
            refine m_iload_n X dX3_mayCopy_222 rfl rfl ?_
            refine m_iconst X dX3_mayCopy_223 (v := 5) (by decide) ?_
            refine m_iconst X dX3_mayCopy_224 (v := (-1)) (by decide) ?_
            refine m_iconst X dX3_mayCopy_225 (v := 0) (by decide) ?_
            refine m_callV X cs_X3_279  (c_X3_mayFail0 hM hQ hK he 5 (by decide)) hM.1 rfl rfl rfl (Nat.le_of_ble_eq_true rfl) dX3_mayCopy_226 ⟨by decide, by decide, by decide, by decide⟩ (fun v M hp => ?_) (fun _ _ _ _ h => h.elim)
            obtain ⟨rfl, A, hM, hQ, hK⟩ := hp
            refine m_stn ?_
            refine m_aload_n X dX3_mayCopy_229 rfl rfl (by first | rfl | exact isR_rf) ?_
            refine m_getf X fg_X3_100_X3 hM.1 rfl dX3_mayCopy_230 ?_
            refine m_iload_n X dX3_mayCopy_233 rfl rfl ?_
            refine m_iload X dX3_mayCopy_234 rfl ?_
            refine s_now X hM hQ hK (by omega) dX3_mayCopy_236 (fun A M hM hQ hK => ?_)
            refine m_aload_n X dX3_mayCopy_237 rfl rfl (by first | rfl | exact isR_rf) ?_
            refine m_getf X fg_X3_100_X3 hM.1 rfl dX3_mayCopy_238 ?_
            refine m_iload_n X dX3_mayCopy_241 rfl rfl ?_
            refine m_iload X dX3_mayCopy_242 rfl ?_
            refine s_now X hM hQ hK (by omega) dX3_mayCopy_244 (fun A M hM hQ hK => ?_)
            refine m_iload X dX3_mayCopy_245 rfl ?_
            refine m_ifne X dX3_mayCopy_247 (t := 252) (by decide) (fun c_247 => ?_) (fun c_247 => ?_)
            · skip
              try simp only [bI_0, Bool.not_eq_false] at c_247
              refine m_aload_n X dX3_mayCopy_252 rfl rfl (by first | rfl | exact isR_rf) ?_
              refine m_iload_n X dX3_mayCopy_253 rfl rfl ?_
              refine m_iconst X dX3_mayCopy_254 (v := 3) (by decide) ?_
              refine m_iconst X dX3_mayCopy_255 (v := (-1)) (by decide) ?_
              refine m_iconst X dX3_mayCopy_256 (v := 0) (by decide) ?_
              refine m_callV X cs_X3_279  (c_X3_mayFail0 hM hQ hK he 3 (by decide)) hM.1 rfl rfl rfl (Nat.le_of_ble_eq_true rfl) dX3_mayCopy_257 ⟨by decide, by decide, by decide, by decide⟩ (fun v M hp => ?_) (fun _ _ _ _ h => h.elim)
              obtain ⟨rfl, A, hM, hQ, hK⟩ := hp
              refine m_stn ?_
              refine m_iconst X dX3_mayCopy_260 (v := 1) (by decide) ?_
              exact m_zret X dX3_mayCopy_261 (by first | rfl | exact bI_nar) (by decide) (by decide) (by refine ⟨?_, A, hM, ?_, hK⟩ <;> unfold qCopy <;> rw [← e3, if_neg (fun z => z.elim c_55 c_64)] <;> unfold qCp2 <;> rw [if_neg c_247] <;> first | rfl | (simp only [c_218, if_true, Bool.false_eq_true, if_false]; exact hQ))
            · skip
              try simp only [bI_0, Bool.not_eq_false] at c_247
              refine m_iconst X dX3_mayCopy_250 (v := 0) (by decide) ?_
              exact m_zret X dX3_mayCopy_251 (by first | rfl | exact bI_nar) (by decide) (by decide) (by refine ⟨?_, A, hM, ?_, hK⟩ <;> unfold qCopy <;> rw [← e3, if_neg (fun z => z.elim c_55 c_64)] <;> unfold qCp2 <;> rw [if_pos c_247] <;> first | rfl | (simp only [c_218, if_true, Bool.false_eq_true, if_false]; exact hQ))
        have inner : ∀ (j d k : Nat) (A' : Nat → Nat → Int32) (M' : Mem), j < 9 → k + d = 9 → MRep G h ad F A' B M' → QR e A' q3 → KQ e A0 A' → (∀ (A' : Nat → Nat → Int32) (M' : Mem), MRep G h ad F A' B M' → QR e A' q3 → KQ e A0 A' → WM G x 9 (QM G x (pQ G h ad F A0 B e (some (.int (bI (qCopy a c q).1))) (qCopy a c q).2) nX (rmm 2 49)) 0 0 M' 81 [(7, some (.int (nI ((j + 1) + 1)))), (4, some (.int (bI (cpOut (q3.1 a) (q3.1 c) (j + 1)).1))), (5, some (.int (cpOut (q3.1 a) (q3.1 c) (j + 1)).2.1)), (6, some (.int (cpOut (q3.1 a) (q3.1 c) (j + 1)).2.2)), (0, some (.ref h)), (1, some (.int (nI e))), (2, some (.int (nI a))), (3, some (.int (nI c)))] []) → WM G x 9 (QM G x (pQ G h ad F A0 B e (some (.int (bI (qCopy a c q).1))) (qCopy a c q).2) nX (rmm 2 49)) 0 0 M' 91 [(8, some (.int (nI (k + 1)))), (7, some (.int (nI (j + 1)))), (4, some (.int (bI (cpIn (q3.1 a) (q3.1 c) (j + 1) (cpOut (q3.1 a) (q3.1 c) j) k).1))), (5, some (.int (cpIn (q3.1 a) (q3.1 c) (j + 1) (cpOut (q3.1 a) (q3.1 c) j) k).2.1)), (6, some (.int (cpIn (q3.1 a) (q3.1 c) (j + 1) (cpOut (q3.1 a) (q3.1 c) j) k).2.2)), (0, some (.ref h)), (1, some (.int (nI e))), (2, some (.int (nI a))), (3, some (.int (nI c)))] [] := by
          clear hM hQ hK tail
          intro j d
          induction d with
          | zero =>
            intro k A M hj hk hM hQ hK K
            have hk9 : k = 9 := by omega
            subst hk9
            refine m_iload X dX3_mayCopy_91 rfl ?_
            refine m_bipush X dX3_mayCopy_93 (v := 10) (by decide) ?_
            refine m_icmpge X dX3_mayCopy_95 (t := 210) (by decide) (fun c_95 => ?_) (fun c_95 => absurd (by decide) c_95)
            refine m_iinc X dX3_mayCopy_210 rfl (w := 1) (by decide) rfl ?_
            refine m_goto X dX3_mayCopy_213 (t := 81) (by decide) ?_
            exact m_loc [(7, some (.int (nI ((j + 1) + 1)))), (4, some (.int (bI (cpOut (q3.1 a) (q3.1 c) (j + 1)).1))), (5, some (.int (cpOut (q3.1 a) (q3.1 c) (j + 1)).2.1)), (6, some (.int (cpOut (q3.1 a) (q3.1 c) (j + 1)).2.2)), (0, some (.ref h)), (1, some (.int (nI e))), (2, some (.int (nI a))), (3, some (.int (nI c)))] ⟨by rw [nI_succ (j + 1)]; rfl, rfl, rfl, rfl, rfl, rfl, rfl, rfl, trivial⟩ (K A M hM hQ hK)
          | succ d ih =>
            intro k A M hj hk hM hQ hK K
            refine m_iload X dX3_mayCopy_91 rfl ?_
            refine m_bipush X dX3_mayCopy_93 (v := 10) (by decide) ?_
            refine m_icmpge X dX3_mayCopy_95 (t := 210) (by decide) (fun c_95 => absurd ((nI_leI (a := 10) (by decide) (by omega)).mp c_95) (by omega)) (fun c_95 => ?_)
            refine m_aload_n X dX3_mayCopy_98 rfl rfl (by first | rfl | exact isR_rf) ?_
            refine m_getf X fg_X3_100_X3 hM.1 rfl dX3_mayCopy_99 ?_
            refine m_iload_n X dX3_mayCopy_102 rfl rfl ?_
            refine s_iald X hM rfl rfl (by exact tin (by simp only [alen]; omega) rfl) dX3_mayCopy_103 ?_
            refine m_topi X (hQ.now (by omega)) ?_
            refine m_iload X dX3_mayCopy_104 rfl ?_
            refine m_ishr X dX3_mayCopy_106 ?_
            refine m_iconst X dX3_mayCopy_107 (v := 1) (by decide) ?_
            refine m_iand X dX3_mayCopy_108 ?_
            refine m_iconst X dX3_mayCopy_109 (v := 1) (by decide) ?_
            refine m_icmpne X dX3_mayCopy_110 (t := 204) (by decide) (fun c_110 => ?_) (fun c_110 => ?_)
            · skip
              refine m_iinc X dX3_mayCopy_204 rfl (w := 1) (by decide) rfl ?_
              refine m_goto X dX3_mayCopy_207 (t := 91) (by decide) ?_
              have ec : (cpIn (q3.1 a) (q3.1 c) (j + 1) (cpOut (q3.1 a) (q3.1 c) j) (k + 1)) = (cpIn (q3.1 a) (q3.1 c) (j + 1) (cpOut (q3.1 a) (q3.1 c) j) k) := if_neg (fun z => absurd z.1 (by rw [bq0 c_110]; decide))
              exact m_loc [(8, some (.int (nI ((k + 1) + 1)))), (7, some (.int (nI (j + 1)))), (4, some (.int (bI (cpIn (q3.1 a) (q3.1 c) (j + 1) (cpOut (q3.1 a) (q3.1 c) j) (k + 1)).1))), (5, some (.int (cpIn (q3.1 a) (q3.1 c) (j + 1) (cpOut (q3.1 a) (q3.1 c) j) (k + 1)).2.1)), (6, some (.int (cpIn (q3.1 a) (q3.1 c) (j + 1) (cpOut (q3.1 a) (q3.1 c) j) (k + 1)).2.2)), (0, some (.ref h)), (1, some (.int (nI e))), (2, some (.int (nI a))), (3, some (.int (nI c)))] ⟨by rw [nI_succ (k + 1)]; rfl, rfl, by rw [ec]; rfl, by rw [ec]; rfl, by rw [ec]; rfl, rfl, rfl, rfl, rfl, trivial⟩ (ih (k + 1) A M hj (by omega) hM hQ hK K)
            · skip
              refine m_aload_n X dX3_mayCopy_113 rfl rfl (by first | rfl | exact isR_rf) ?_
              refine m_getf X fg_X3_100_X3 hM.1 rfl dX3_mayCopy_114 ?_
              refine m_iload_n X dX3_mayCopy_117 rfl rfl ?_
              refine s_iald X hM rfl rfl (by exact tin (by simp only [alen]; omega) rfl) dX3_mayCopy_118 ?_
              refine m_topi X (hQ.now (by omega)) ?_
              refine m_iload X dX3_mayCopy_119 rfl ?_
              refine m_ishr X dX3_mayCopy_121 ?_
              refine m_iconst X dX3_mayCopy_122 (v := 1) (by decide) ?_
              refine m_iand X dX3_mayCopy_123 ?_
              refine m_iconst X dX3_mayCopy_124 (v := 1) (by decide) ?_
              refine m_icmpne X dX3_mayCopy_125 (t := 204) (by decide) (fun c_125 => ?_) (fun c_125 => ?_)
              · skip
                refine m_iinc X dX3_mayCopy_204 rfl (w := 1) (by decide) rfl ?_
                refine m_goto X dX3_mayCopy_207 (t := 91) (by decide) ?_
                have ec : (cpIn (q3.1 a) (q3.1 c) (j + 1) (cpOut (q3.1 a) (q3.1 c) j) (k + 1)) = (cpIn (q3.1 a) (q3.1 c) (j + 1) (cpOut (q3.1 a) (q3.1 c) j) k) := if_neg (fun z => absurd z.2 (by rw [bq0 c_125]; decide))
                exact m_loc [(8, some (.int (nI ((k + 1) + 1)))), (7, some (.int (nI (j + 1)))), (4, some (.int (bI (cpIn (q3.1 a) (q3.1 c) (j + 1) (cpOut (q3.1 a) (q3.1 c) j) (k + 1)).1))), (5, some (.int (cpIn (q3.1 a) (q3.1 c) (j + 1) (cpOut (q3.1 a) (q3.1 c) j) (k + 1)).2.1)), (6, some (.int (cpIn (q3.1 a) (q3.1 c) (j + 1) (cpOut (q3.1 a) (q3.1 c) j) (k + 1)).2.2)), (0, some (.ref h)), (1, some (.int (nI e))), (2, some (.int (nI a))), (3, some (.int (nI c)))] ⟨by rw [nI_succ (k + 1)]; rfl, rfl, by rw [ec]; rfl, by rw [ec]; rfl, by rw [ec]; rfl, rfl, rfl, rfl, rfl, trivial⟩ (ih (k + 1) A M hj (by omega) hM hQ hK K)
              · skip
                refine m_iload X dX3_mayCopy_128 rfl ?_
                refine m_iload X dX3_mayCopy_130 rfl ?_
                refine m_iload X dX3_mayCopy_132 rfl ?_
                refine m_callS X cs_X3_174  (c_X3_meet _ _ (j + 1) (k + 1) (by omega) (by omega)) rfl rfl (Nat.le_of_ble_eq_true rfl) dX3_mayCopy_134 ⟨by decide, by decide, by decide, by decide⟩ (fun v M hp => ?_) (fun _ _ _ _ h => h.elim)
                obtain ⟨rfl, rfl⟩ := hp
                refine m_sti ?_
                refine m_ifeq X dX3_mayCopy_137 (t := 150) (by decide) (fun c_137 => ?_) (fun c_137 => ?_)
                · skip
                  try simp only [bI_0, Bool.not_eq_false] at c_137
                  refine m_iconst X dX3_mayCopy_150 (v := 1) (by decide) ?_
                  refine m_goto X dX3_mayCopy_151 (t := 155) (by decide) ?_
                  refine m_ior X dX3_mayCopy_155 ?_
                  refine m_istore X dX3_mayCopy_156 rfl rfl ?_
                  refine m_iload X dX3_mayCopy_158 rfl ?_
                  refine m_iload X dX3_mayCopy_160 rfl ?_
                  refine m_iload X dX3_mayCopy_162 rfl ?_
                  refine m_callS X cs_X3_174  (c_X3_meet _ _ (j + 1) (k + 1) (by omega) (by omega)) rfl rfl (Nat.le_of_ble_eq_true rfl) dX3_mayCopy_164 ⟨by decide, by decide, by decide, by decide⟩ (fun v M hp => ?_) (fun _ _ _ _ h => h.elim)
                  obtain ⟨rfl, rfl⟩ := hp
                  refine m_sti ?_
                  refine m_ifeq X dX3_mayCopy_167 (t := 177) (by decide) (fun c_167 => ?_) (fun c_167 => absurd (bI_0.mpr c_137) c_167)
                  refine m_iconst X dX3_mayCopy_177 (v := 0) (by decide) ?_
                  refine m_ior X dX3_mayCopy_178 ?_
                  refine m_istore X dX3_mayCopy_179 rfl rfl ?_
                  refine m_iload X dX3_mayCopy_181 rfl ?_
                  refine m_iload X dX3_mayCopy_183 rfl ?_
                  refine m_iload X dX3_mayCopy_185 rfl ?_
                  refine m_callS X cs_X3_174  (c_X3_meet _ _ (j + 1) (k + 1) (by omega) (by omega)) rfl rfl (Nat.le_of_ble_eq_true rfl) dX3_mayCopy_187 ⟨by decide, by decide, by decide, by decide⟩ (fun v M hp => ?_) (fun _ _ _ _ h => h.elim)
                  obtain ⟨rfl, rfl⟩ := hp
                  refine m_sti ?_
                  refine m_ifeq X dX3_mayCopy_190 (t := 200) (by decide) (fun c_190 => ?_) (fun c_190 => absurd (bI_0.mpr c_137) c_190)
                  refine m_iconst X dX3_mayCopy_200 (v := 0) (by decide) ?_
                  refine m_ior X dX3_mayCopy_201 ?_
                  refine m_istore X dX3_mayCopy_202 rfl rfl ?_
                  refine m_iinc X dX3_mayCopy_204 rfl (w := 1) (by decide) rfl ?_
                  refine m_goto X dX3_mayCopy_207 (t := 91) (by decide) ?_
                  have ec : (cpIn (q3.1 a) (q3.1 c) (j + 1) (cpOut (q3.1 a) (q3.1 c) j) (k + 1)) = ((cpIn (q3.1 a) (q3.1 c) (j + 1) (cpOut (q3.1 a) (q3.1 c) j) k).1 || true, (cpIn (q3.1 a) (q3.1 c) (j + 1) (cpOut (q3.1 a) (q3.1 c) j) k).2.1 ||| 0, (cpIn (q3.1 a) (q3.1 c) (j + 1) (cpOut (q3.1 a) (q3.1 c) j) k).2.2 ||| 0) := (if_pos ⟨bq1 c_110, bq1 c_125⟩).trans (by rw [c_137]; rfl)
                  exact m_loc [(8, some (.int (nI ((k + 1) + 1)))), (7, some (.int (nI (j + 1)))), (4, some (.int (bI (cpIn (q3.1 a) (q3.1 c) (j + 1) (cpOut (q3.1 a) (q3.1 c) j) (k + 1)).1))), (5, some (.int (cpIn (q3.1 a) (q3.1 c) (j + 1) (cpOut (q3.1 a) (q3.1 c) j) (k + 1)).2.1)), (6, some (.int (cpIn (q3.1 a) (q3.1 c) (j + 1) (cpOut (q3.1 a) (q3.1 c) j) (k + 1)).2.2)), (0, some (.ref h)), (1, some (.int (nI e))), (2, some (.int (nI a))), (3, some (.int (nI c)))] ⟨by rw [nI_succ (k + 1)]; rfl, rfl, by rw [ec, ← bI_or1]; rfl, by rw [ec]; rfl, by rw [ec]; rfl, rfl, rfl, rfl, rfl, trivial⟩ (ih (k + 1) A M hj (by omega) hM hQ hK K)
                · skip
                  try simp only [bI_0, Bool.not_eq_false] at c_137
                  refine m_iload X dX3_mayCopy_140 rfl ?_
                  refine m_iload X dX3_mayCopy_142 rfl ?_
                  refine m_callS X cs_X3_289  (c_X3_partly _ _ (j + 1) (k + 1) (by omega) (by omega)) rfl rfl (Nat.le_of_ble_eq_true rfl) dX3_mayCopy_144 ⟨by decide, by decide, by decide, by decide⟩ (fun v M hp => ?_) (fun _ _ _ _ h => h.elim)
                  obtain ⟨rfl, rfl⟩ := hp
                  refine m_sti ?_
                  refine m_ifeq X dX3_mayCopy_147 (t := 154) (by decide) (fun c_147 => ?_) (fun c_147 => ?_)
                  · skip
                    try simp only [bI_0, Bool.not_eq_false] at c_147
                    refine m_iconst X dX3_mayCopy_154 (v := 0) (by decide) ?_
                    refine m_ior X dX3_mayCopy_155 ?_
                    refine m_istore X dX3_mayCopy_156 rfl rfl ?_
                    refine m_iload X dX3_mayCopy_158 rfl ?_
                    refine m_iload X dX3_mayCopy_160 rfl ?_
                    refine m_iload X dX3_mayCopy_162 rfl ?_
                    refine m_callS X cs_X3_174  (c_X3_meet _ _ (j + 1) (k + 1) (by omega) (by omega)) rfl rfl (Nat.le_of_ble_eq_true rfl) dX3_mayCopy_164 ⟨by decide, by decide, by decide, by decide⟩ (fun v M hp => ?_) (fun _ _ _ _ h => h.elim)
                    obtain ⟨rfl, rfl⟩ := hp
                    refine m_sti ?_
                    refine m_ifeq X dX3_mayCopy_167 (t := 177) (by decide) (fun c_167 => absurd (bI_0.mp c_167) (by rw [c_137]; decide)) (fun c_167 => ?_)
                    refine m_iconst X dX3_mayCopy_170 (v := 1) (by decide) ?_
                    refine m_iload X dX3_mayCopy_171 rfl ?_
                    refine m_ishl X dX3_mayCopy_173 ?_
                    refine m_goto X dX3_mayCopy_174 (t := 178) (by decide) ?_
                    refine m_ior X dX3_mayCopy_178 ?_
                    refine m_istore X dX3_mayCopy_179 rfl rfl ?_
                    refine m_iload X dX3_mayCopy_181 rfl ?_
                    refine m_iload X dX3_mayCopy_183 rfl ?_
                    refine m_iload X dX3_mayCopy_185 rfl ?_
                    refine m_callS X cs_X3_174  (c_X3_meet _ _ (j + 1) (k + 1) (by omega) (by omega)) rfl rfl (Nat.le_of_ble_eq_true rfl) dX3_mayCopy_187 ⟨by decide, by decide, by decide, by decide⟩ (fun v M hp => ?_) (fun _ _ _ _ h => h.elim)
                    obtain ⟨rfl, rfl⟩ := hp
                    refine m_sti ?_
                    refine m_ifeq X dX3_mayCopy_190 (t := 200) (by decide) (fun c_190 => absurd (bI_0.mp c_190) (by rw [c_137]; decide)) (fun c_190 => ?_)
                    refine m_iconst X dX3_mayCopy_193 (v := 1) (by decide) ?_
                    refine m_iload X dX3_mayCopy_194 rfl ?_
                    refine m_ishl X dX3_mayCopy_196 ?_
                    refine m_goto X dX3_mayCopy_197 (t := 201) (by decide) ?_
                    refine m_ior X dX3_mayCopy_201 ?_
                    refine m_istore X dX3_mayCopy_202 rfl rfl ?_
                    refine m_iinc X dX3_mayCopy_204 rfl (w := 1) (by decide) rfl ?_
                    refine m_goto X dX3_mayCopy_207 (t := 91) (by decide) ?_
                    have ec : (cpIn (q3.1 a) (q3.1 c) (j + 1) (cpOut (q3.1 a) (q3.1 c) j) (k + 1)) = ((cpIn (q3.1 a) (q3.1 c) (j + 1) (cpOut (q3.1 a) (q3.1 c) j) k).1 || false, (cpIn (q3.1 a) (q3.1 c) (j + 1) (cpOut (q3.1 a) (q3.1 c) j) k).2.1 ||| ((1 : Int32) <<< (nI (j + 1) &&& 31)), (cpIn (q3.1 a) (q3.1 c) (j + 1) (cpOut (q3.1 a) (q3.1 c) j) k).2.2 ||| ((1 : Int32) <<< (nI (k + 1) &&& 31))) := (if_pos ⟨bq1 c_110, bq1 c_125⟩).trans (by rw [c_137, c_147]; rfl)
                    exact m_loc [(8, some (.int (nI ((k + 1) + 1)))), (7, some (.int (nI (j + 1)))), (4, some (.int (bI (cpIn (q3.1 a) (q3.1 c) (j + 1) (cpOut (q3.1 a) (q3.1 c) j) (k + 1)).1))), (5, some (.int (cpIn (q3.1 a) (q3.1 c) (j + 1) (cpOut (q3.1 a) (q3.1 c) j) (k + 1)).2.1)), (6, some (.int (cpIn (q3.1 a) (q3.1 c) (j + 1) (cpOut (q3.1 a) (q3.1 c) j) (k + 1)).2.2)), (0, some (.ref h)), (1, some (.int (nI e))), (2, some (.int (nI a))), (3, some (.int (nI c)))] ⟨by rw [nI_succ (k + 1)]; rfl, rfl, by rw [ec, ← bI_or0]; rfl, by rw [ec]; rfl, by rw [ec]; rfl, rfl, rfl, rfl, rfl, trivial⟩ (ih (k + 1) A M hj (by omega) hM hQ hK K)
                  · skip
                    try simp only [bI_0, Bool.not_eq_false] at c_147
                    refine m_iconst X dX3_mayCopy_150 (v := 1) (by decide) ?_
                    refine m_goto X dX3_mayCopy_151 (t := 155) (by decide) ?_
                    refine m_ior X dX3_mayCopy_155 ?_
                    refine m_istore X dX3_mayCopy_156 rfl rfl ?_
                    refine m_iload X dX3_mayCopy_158 rfl ?_
                    refine m_iload X dX3_mayCopy_160 rfl ?_
                    refine m_iload X dX3_mayCopy_162 rfl ?_
                    refine m_callS X cs_X3_174  (c_X3_meet _ _ (j + 1) (k + 1) (by omega) (by omega)) rfl rfl (Nat.le_of_ble_eq_true rfl) dX3_mayCopy_164 ⟨by decide, by decide, by decide, by decide⟩ (fun v M hp => ?_) (fun _ _ _ _ h => h.elim)
                    obtain ⟨rfl, rfl⟩ := hp
                    refine m_sti ?_
                    refine m_ifeq X dX3_mayCopy_167 (t := 177) (by decide) (fun c_167 => absurd (bI_0.mp c_167) (by rw [c_137]; decide)) (fun c_167 => ?_)
                    refine m_iconst X dX3_mayCopy_170 (v := 1) (by decide) ?_
                    refine m_iload X dX3_mayCopy_171 rfl ?_
                    refine m_ishl X dX3_mayCopy_173 ?_
                    refine m_goto X dX3_mayCopy_174 (t := 178) (by decide) ?_
                    refine m_ior X dX3_mayCopy_178 ?_
                    refine m_istore X dX3_mayCopy_179 rfl rfl ?_
                    refine m_iload X dX3_mayCopy_181 rfl ?_
                    refine m_iload X dX3_mayCopy_183 rfl ?_
                    refine m_iload X dX3_mayCopy_185 rfl ?_
                    refine m_callS X cs_X3_174  (c_X3_meet _ _ (j + 1) (k + 1) (by omega) (by omega)) rfl rfl (Nat.le_of_ble_eq_true rfl) dX3_mayCopy_187 ⟨by decide, by decide, by decide, by decide⟩ (fun v M hp => ?_) (fun _ _ _ _ h => h.elim)
                    obtain ⟨rfl, rfl⟩ := hp
                    refine m_sti ?_
                    refine m_ifeq X dX3_mayCopy_190 (t := 200) (by decide) (fun c_190 => absurd (bI_0.mp c_190) (by rw [c_137]; decide)) (fun c_190 => ?_)
                    refine m_iconst X dX3_mayCopy_193 (v := 1) (by decide) ?_
                    refine m_iload X dX3_mayCopy_194 rfl ?_
                    refine m_ishl X dX3_mayCopy_196 ?_
                    refine m_goto X dX3_mayCopy_197 (t := 201) (by decide) ?_
                    refine m_ior X dX3_mayCopy_201 ?_
                    refine m_istore X dX3_mayCopy_202 rfl rfl ?_
                    refine m_iinc X dX3_mayCopy_204 rfl (w := 1) (by decide) rfl ?_
                    refine m_goto X dX3_mayCopy_207 (t := 91) (by decide) ?_
                    have ec : (cpIn (q3.1 a) (q3.1 c) (j + 1) (cpOut (q3.1 a) (q3.1 c) j) (k + 1)) = ((cpIn (q3.1 a) (q3.1 c) (j + 1) (cpOut (q3.1 a) (q3.1 c) j) k).1 || true, (cpIn (q3.1 a) (q3.1 c) (j + 1) (cpOut (q3.1 a) (q3.1 c) j) k).2.1 ||| ((1 : Int32) <<< (nI (j + 1) &&& 31)), (cpIn (q3.1 a) (q3.1 c) (j + 1) (cpOut (q3.1 a) (q3.1 c) j) k).2.2 ||| ((1 : Int32) <<< (nI (k + 1) &&& 31))) := (if_pos ⟨bq1 c_110, bq1 c_125⟩).trans (by rw [c_137, c_147]; rfl)
                    exact m_loc [(8, some (.int (nI ((k + 1) + 1)))), (7, some (.int (nI (j + 1)))), (4, some (.int (bI (cpIn (q3.1 a) (q3.1 c) (j + 1) (cpOut (q3.1 a) (q3.1 c) j) (k + 1)).1))), (5, some (.int (cpIn (q3.1 a) (q3.1 c) (j + 1) (cpOut (q3.1 a) (q3.1 c) j) (k + 1)).2.1)), (6, some (.int (cpIn (q3.1 a) (q3.1 c) (j + 1) (cpOut (q3.1 a) (q3.1 c) j) (k + 1)).2.2)), (0, some (.ref h)), (1, some (.int (nI e))), (2, some (.int (nI a))), (3, some (.int (nI c)))] ⟨by rw [nI_succ (k + 1)]; rfl, rfl, by rw [ec, ← bI_or1]; rfl, by rw [ec]; rfl, by rw [ec]; rfl, rfl, rfl, rfl, rfl, trivial⟩ (ih (k + 1) A M hj (by omega) hM hQ hK K)
        have outer : ∀ (d j : Nat) (A' : Nat → Nat → Int32) (M' : Mem), j + d = 9 → MRep G h ad F A' B M' → QR e A' q3 → KQ e A0 A' → WM G x 9 (QM G x (pQ G h ad F A0 B e (some (.int (bI (qCopy a c q).1))) (qCopy a c q).2) nX (rmm 2 49)) 0 0 M' 81 [(7, some (.int (nI (j + 1)))), (4, some (.int (bI (cpOut (q3.1 a) (q3.1 c) j).1))), (5, some (.int (cpOut (q3.1 a) (q3.1 c) j).2.1)), (6, some (.int (cpOut (q3.1 a) (q3.1 c) j).2.2)), (0, some (.ref h)), (1, some (.int (nI e))), (2, some (.int (nI a))), (3, some (.int (nI c)))] [] := by
          clear hM hQ hK
          intro d
          induction d with
          | zero =>
            intro j A M hj hM hQ hK
            have hj9 : j = 9 := by omega
            subst hj9
            exact tail A M hM hQ hK
          | succ d ih =>
            intro j A M hj hM hQ hK
            refine m_iload X dX3_mayCopy_81 rfl ?_
            refine m_bipush X dX3_mayCopy_83 (v := 10) (by decide) ?_
            refine m_icmpge X dX3_mayCopy_85 (t := 216) (by decide) (fun c_85 => absurd ((nI_leI (a := 10) (by decide) (by omega)).mp c_85) (by omega)) (fun c_85 => ?_)
            refine m_iconst X dX3_mayCopy_88 (v := 1) (by decide) ?_
            refine m_istore X dX3_mayCopy_89 rfl rfl ?_
            exact m_loc [(8, some (.int (nI (0 + 1)))), (7, some (.int (nI (j + 1)))), (4, some (.int (bI (cpIn (q3.1 a) (q3.1 c) (j + 1) (cpOut (q3.1 a) (q3.1 c) j) 0).1))), (5, some (.int (cpIn (q3.1 a) (q3.1 c) (j + 1) (cpOut (q3.1 a) (q3.1 c) j) 0).2.1)), (6, some (.int (cpIn (q3.1 a) (q3.1 c) (j + 1) (cpOut (q3.1 a) (q3.1 c) j) 0).2.2)), (0, some (.ref h)), (1, some (.int (nI e))), (2, some (.int (nI a))), (3, some (.int (nI c)))] ⟨rfl, rfl, rfl, rfl, rfl, rfl, rfl, rfl, rfl, trivial⟩ (inner j 9 0 A M (by omega) rfl hM hQ hK fun A M hM hQ hK => ih (j + 1) A M (by omega) hM hQ hK)
        refine m_iconst X dX3_mayCopy_69 (v := 0) (by decide) ?_
        refine m_istore X dX3_mayCopy_70 rfl rfl ?_
        refine m_iconst X dX3_mayCopy_72 (v := 0) (by decide) ?_
        refine m_istore X dX3_mayCopy_73 rfl rfl ?_
        refine m_iconst X dX3_mayCopy_75 (v := 0) (by decide) ?_
        refine m_istore X dX3_mayCopy_76 rfl rfl ?_
        refine m_iconst X dX3_mayCopy_78 (v := 1) (by decide) ?_
        refine m_istore X dX3_mayCopy_79 rfl rfl ?_
        exact m_loc [(7, some (.int (nI (0 + 1)))), (4, some (.int (bI (cpOut (q3.1 a) (q3.1 c) 0).1))), (5, some (.int (cpOut (q3.1 a) (q3.1 c) 0).2.1)), (6, some (.int (cpOut (q3.1 a) (q3.1 c) 0).2.2)), (0, some (.ref h)), (1, some (.int (nI e))), (2, some (.int (nI a))), (3, some (.int (nI c)))] ⟨rfl, rfl, rfl, rfl, rfl, rfl, rfl, rfl, trivial⟩ (outer 9 0 A M rfl hM hQ hK)
      · skip
        try simp only [bI_0, Bool.not_eq_false] at c_64
        refine m_iconst X dX3_mayCopy_67 (v := 0) (by decide) ?_
        exact m_zret X dX3_mayCopy_68 (by first | rfl | exact bI_nar) (by decide) (by decide) (by refine ⟨?_, A, hM, ?_, hK⟩ <;> unfold qCopy <;> rw [← e3, if_pos (Or.inr c_64)] <;> first | exact hQ | rfl)
  · skip
    refine m_aload_n X dX3_mayCopy_19 rfl rfl (by first | rfl | exact isR_rf) ?_
    refine m_iload_n X dX3_mayCopy_20 rfl rfl ?_
    refine m_iconst X dX3_mayCopy_21 (v := 1) (by decide) ?_
    refine m_iconst X dX3_mayCopy_22 (v := (-1)) (by decide) ?_
    refine m_iconst X dX3_mayCopy_23 (v := 0) (by decide) ?_
    refine m_callV X cs_X3_279  (c_X3_mayFail0 hM hQ hK he 1 (by decide)) hM.1 rfl rfl rfl (Nat.le_of_ble_eq_true rfl) dX3_mayCopy_24 ⟨by decide, by decide, by decide, by decide⟩ (fun v M hp => ?_) (fun _ _ _ _ h => h.elim)
    obtain ⟨rfl, A, hM, hQ, hK⟩ := hp
    refine m_stn ?_
    refine m_aload_n X dX3_mayCopy_27 rfl rfl (by first | rfl | exact isR_rf) ?_
    refine m_getf X fg_X3_100_X3 hM.1 rfl dX3_mayCopy_28 ?_
    refine m_iload_n X dX3_mayCopy_31 rfl rfl ?_
    refine m_dup2 X dX3_mayCopy_32 rfl rfl ?_
    refine s_iald X hM rfl rfl (by exact tin (by simp only [alen]; omega) rfl) dX3_mayCopy_33 ?_
    refine m_topi X (hQ.now (by omega)) ?_
    refine m_bipush X dX3_mayCopy_34 (v := (-2)) (by decide) ?_
    refine m_iand X dX3_mayCopy_36 ?_
    refine s_now X hM hQ hK (by omega) dX3_mayCopy_37 (fun A M hM hQ hK => ?_)
    refine m_aload_n X dX3_mayCopy_38 rfl rfl (by first | rfl | exact isR_rf) ?_
    refine m_getf X fg_X3_100_X3 hM.1 rfl dX3_mayCopy_39 ?_
    refine m_iload_n X dX3_mayCopy_42 rfl rfl ?_
    refine m_dup2 X dX3_mayCopy_43 rfl rfl ?_
    refine s_iald X hM rfl rfl (by exact tin (by simp only [alen]; omega) rfl) dX3_mayCopy_44 ?_
    refine m_topi X (hQ.now (by omega)) ?_
    refine m_bipush X dX3_mayCopy_45 (v := (-2)) (by decide) ?_
    refine m_iand X dX3_mayCopy_47 ?_
    refine s_now X hM hQ hK (by omega) dX3_mayCopy_48 (fun A M hM hQ hK => ?_)
    obtain ⟨q3, e3⟩ : ∃ z, z = qCp1 a c q := ⟨_, rfl⟩
    have hQ : QR e A q3 := by rw [e3]; unfold qCp1 qCp0; first | (rw [if_pos c_16]; exact hQ) | (rw [if_neg c_16]; exact hQ)
    refine m_aload_n X dX3_mayCopy_49 rfl rfl (by first | rfl | exact isR_rf) ?_
    refine m_getf X fg_X3_100_X3 hM.1 rfl dX3_mayCopy_50 ?_
    refine m_iload_n X dX3_mayCopy_53 rfl rfl ?_
    refine s_iald X hM rfl rfl (by exact tin (by simp only [alen]; omega) rfl) dX3_mayCopy_54 ?_
    refine m_topi X (hQ.now (by omega)) ?_
    refine m_ifeq X dX3_mayCopy_55 (t := 67) (by decide) (fun c_55 => ?_) (fun c_55 => ?_)
    · skip
      try simp only [bI_0, Bool.not_eq_false] at c_55
      refine m_iconst X dX3_mayCopy_67 (v := 0) (by decide) ?_
      exact m_zret X dX3_mayCopy_68 (by first | rfl | exact bI_nar) (by decide) (by decide) (by refine ⟨?_, A, hM, ?_, hK⟩ <;> unfold qCopy <;> rw [← e3, if_pos (Or.inl c_55)] <;> first | exact hQ | rfl)
    · skip
      try simp only [bI_0, Bool.not_eq_false] at c_55
      refine m_aload_n X dX3_mayCopy_58 rfl rfl (by first | rfl | exact isR_rf) ?_
      refine m_getf X fg_X3_100_X3 hM.1 rfl dX3_mayCopy_59 ?_
      refine m_iload_n X dX3_mayCopy_62 rfl rfl ?_
      refine s_iald X hM rfl rfl (by exact tin (by simp only [alen]; omega) rfl) dX3_mayCopy_63 ?_
      refine m_topi X (hQ.now (by omega)) ?_
      refine m_ifne X dX3_mayCopy_64 (t := 69) (by decide) (fun c_64 => ?_) (fun c_64 => ?_)
      · skip
        try simp only [bI_0, Bool.not_eq_false] at c_64
        have tail : ∀ (A' : Nat → Nat → Int32) (M' : Mem), MRep G h ad F A' B M' → QR e A' q3 → KQ e A0 A' → WM G x 9 (QM G x (pQ G h ad F A0 B e (some (.int (bI (qCopy a c q).1))) (qCopy a c q).2) nX (rmm 2 49)) 0 0 M' 81 [(7, some (.int (nI (9 + 1)))), (4, some (.int (bI (cpOut (q3.1 a) (q3.1 c) 9).1))), (5, some (.int (cpOut (q3.1 a) (q3.1 c) 9).2.1)), (6, some (.int (cpOut (q3.1 a) (q3.1 c) 9).2.2)), (0, some (.ref h)), (1, some (.int (nI e))), (2, some (.int (nI a))), (3, some (.int (nI c)))] [] := by
          clear hM hQ hK
          intro A M hM hQ hK
          refine m_iload X dX3_mayCopy_81 rfl ?_
          refine m_bipush X dX3_mayCopy_83 (v := 10) (by decide) ?_
          refine m_icmpge X dX3_mayCopy_85 (t := 216) (by decide) (fun c_85 => ?_) (fun c_85 => absurd (by decide) c_85)
          refine m_iload X dX3_mayCopy_216 rfl ?_
          refine m_ifeq X dX3_mayCopy_218 (t := 229) (by decide) (fun c_218 => ?_) (fun c_218 => ?_)
          · skip
            try simp only [bI_0, Bool.not_eq_false] at c_218
            refine m_aload_n X dX3_mayCopy_229 rfl rfl (by first | rfl | exact isR_rf) ?_
            refine m_getf X fg_X3_100_X3 hM.1 rfl dX3_mayCopy_230 ?_
            refine m_iload_n X dX3_mayCopy_233 rfl rfl ?_
            refine m_iload X dX3_mayCopy_234 rfl ?_
            refine s_now X hM hQ hK (by omega) dX3_mayCopy_236 (fun A M hM hQ hK => ?_)
            refine m_aload_n X dX3_mayCopy_237 rfl rfl (by first | rfl | exact isR_rf) ?_
            refine m_getf X fg_X3_100_X3 hM.1 rfl dX3_mayCopy_238 ?_
            refine m_iload_n X dX3_mayCopy_241 rfl rfl ?_
            refine m_iload X dX3_mayCopy_242 rfl ?_
            refine s_now X hM hQ hK (by omega) dX3_mayCopy_244 (fun A M hM hQ hK => ?_)
            refine m_iload X dX3_mayCopy_245 rfl ?_
            refine m_ifne X dX3_mayCopy_247 (t := 252) (by decide) (fun c_247 => ?_) (fun c_247 => ?_)
            · skip
              try simp only [bI_0, Bool.not_eq_false] at c_247
              refine m_aload_n X dX3_mayCopy_252 rfl rfl (by first | rfl | exact isR_rf) ?_
              refine m_iload_n X dX3_mayCopy_253 rfl rfl ?_
              refine m_iconst X dX3_mayCopy_254 (v := 3) (by decide) ?_
              refine m_iconst X dX3_mayCopy_255 (v := (-1)) (by decide) ?_
              refine m_iconst X dX3_mayCopy_256 (v := 0) (by decide) ?_
              refine m_callV X cs_X3_279  (c_X3_mayFail0 hM hQ hK he 3 (by decide)) hM.1 rfl rfl rfl (Nat.le_of_ble_eq_true rfl) dX3_mayCopy_257 ⟨by decide, by decide, by decide, by decide⟩ (fun v M hp => ?_) (fun _ _ _ _ h => h.elim)
              obtain ⟨rfl, A, hM, hQ, hK⟩ := hp
              refine m_stn ?_
              refine m_iconst X dX3_mayCopy_260 (v := 1) (by decide) ?_
              exact m_zret X dX3_mayCopy_261 (by first | rfl | exact bI_nar) (by decide) (by decide) (by refine ⟨?_, A, hM, ?_, hK⟩ <;> unfold qCopy <;> rw [← e3, if_neg (fun z => z.elim c_55 c_64)] <;> unfold qCp2 <;> rw [if_neg c_247] <;> first | rfl | (simp only [c_218, if_true, Bool.false_eq_true, if_false]; exact hQ))
            · skip
              try simp only [bI_0, Bool.not_eq_false] at c_247
              refine m_iconst X dX3_mayCopy_250 (v := 0) (by decide) ?_
              exact m_zret X dX3_mayCopy_251 (by first | rfl | exact bI_nar) (by decide) (by decide) (by refine ⟨?_, A, hM, ?_, hK⟩ <;> unfold qCopy <;> rw [← e3, if_neg (fun z => z.elim c_55 c_64)] <;> unfold qCp2 <;> rw [if_pos c_247] <;> first | rfl | (simp only [c_218, if_true, Bool.false_eq_true, if_false]; exact hQ))
          · skip
            try simp only [bI_0, Bool.not_eq_false] at c_218
            refine m_aload_n X dX3_mayCopy_221 rfl rfl (by first | rfl | exact isR_rf) ?_
            refine m_iload_n X dX3_mayCopy_222 rfl rfl ?_
            refine m_iconst X dX3_mayCopy_223 (v := 5) (by decide) ?_
            refine m_iconst X dX3_mayCopy_224 (v := (-1)) (by decide) ?_
            refine m_iconst X dX3_mayCopy_225 (v := 0) (by decide) ?_
            refine m_callV X cs_X3_279  (c_X3_mayFail0 hM hQ hK he 5 (by decide)) hM.1 rfl rfl rfl (Nat.le_of_ble_eq_true rfl) dX3_mayCopy_226 ⟨by decide, by decide, by decide, by decide⟩ (fun v M hp => ?_) (fun _ _ _ _ h => h.elim)
            obtain ⟨rfl, A, hM, hQ, hK⟩ := hp
            refine m_stn ?_
            refine m_aload_n X dX3_mayCopy_229 rfl rfl (by first | rfl | exact isR_rf) ?_
            refine m_getf X fg_X3_100_X3 hM.1 rfl dX3_mayCopy_230 ?_
            refine m_iload_n X dX3_mayCopy_233 rfl rfl ?_
            refine m_iload X dX3_mayCopy_234 rfl ?_
            refine s_now X hM hQ hK (by omega) dX3_mayCopy_236 (fun A M hM hQ hK => ?_)
            refine m_aload_n X dX3_mayCopy_237 rfl rfl (by first | rfl | exact isR_rf) ?_
            refine m_getf X fg_X3_100_X3 hM.1 rfl dX3_mayCopy_238 ?_
            refine m_iload_n X dX3_mayCopy_241 rfl rfl ?_
            refine m_iload X dX3_mayCopy_242 rfl ?_
            refine s_now X hM hQ hK (by omega) dX3_mayCopy_244 (fun A M hM hQ hK => ?_)
            refine m_iload X dX3_mayCopy_245 rfl ?_
            refine m_ifne X dX3_mayCopy_247 (t := 252) (by decide) (fun c_247 => ?_) (fun c_247 => ?_)
            · skip
              try simp only [bI_0, Bool.not_eq_false] at c_247
              refine m_aload_n X dX3_mayCopy_252 rfl rfl (by first | rfl | exact isR_rf) ?_
              refine m_iload_n X dX3_mayCopy_253 rfl rfl ?_
              refine m_iconst X dX3_mayCopy_254 (v := 3) (by decide) ?_
              refine m_iconst X dX3_mayCopy_255 (v := (-1)) (by decide) ?_
              refine m_iconst X dX3_mayCopy_256 (v := 0) (by decide) ?_
              refine m_callV X cs_X3_279  (c_X3_mayFail0 hM hQ hK he 3 (by decide)) hM.1 rfl rfl rfl (Nat.le_of_ble_eq_true rfl) dX3_mayCopy_257 ⟨by decide, by decide, by decide, by decide⟩ (fun v M hp => ?_) (fun _ _ _ _ h => h.elim)
              obtain ⟨rfl, A, hM, hQ, hK⟩ := hp
              refine m_stn ?_
              refine m_iconst X dX3_mayCopy_260 (v := 1) (by decide) ?_
              exact m_zret X dX3_mayCopy_261 (by first | rfl | exact bI_nar) (by decide) (by decide) (by refine ⟨?_, A, hM, ?_, hK⟩ <;> unfold qCopy <;> rw [← e3, if_neg (fun z => z.elim c_55 c_64)] <;> unfold qCp2 <;> rw [if_neg c_247] <;> first | rfl | (simp only [c_218, if_true, Bool.false_eq_true, if_false]; exact hQ))
            · skip
              try simp only [bI_0, Bool.not_eq_false] at c_247
              refine m_iconst X dX3_mayCopy_250 (v := 0) (by decide) ?_
              exact m_zret X dX3_mayCopy_251 (by first | rfl | exact bI_nar) (by decide) (by decide) (by refine ⟨?_, A, hM, ?_, hK⟩ <;> unfold qCopy <;> rw [← e3, if_neg (fun z => z.elim c_55 c_64)] <;> unfold qCp2 <;> rw [if_pos c_247] <;> first | rfl | (simp only [c_218, if_true, Bool.false_eq_true, if_false]; exact hQ))
        have inner : ∀ (j d k : Nat) (A' : Nat → Nat → Int32) (M' : Mem), j < 9 → k + d = 9 → MRep G h ad F A' B M' → QR e A' q3 → KQ e A0 A' → (∀ (A' : Nat → Nat → Int32) (M' : Mem), MRep G h ad F A' B M' → QR e A' q3 → KQ e A0 A' → WM G x 9 (QM G x (pQ G h ad F A0 B e (some (.int (bI (qCopy a c q).1))) (qCopy a c q).2) nX (rmm 2 49)) 0 0 M' 81 [(7, some (.int (nI ((j + 1) + 1)))), (4, some (.int (bI (cpOut (q3.1 a) (q3.1 c) (j + 1)).1))), (5, some (.int (cpOut (q3.1 a) (q3.1 c) (j + 1)).2.1)), (6, some (.int (cpOut (q3.1 a) (q3.1 c) (j + 1)).2.2)), (0, some (.ref h)), (1, some (.int (nI e))), (2, some (.int (nI a))), (3, some (.int (nI c)))] []) → WM G x 9 (QM G x (pQ G h ad F A0 B e (some (.int (bI (qCopy a c q).1))) (qCopy a c q).2) nX (rmm 2 49)) 0 0 M' 91 [(8, some (.int (nI (k + 1)))), (7, some (.int (nI (j + 1)))), (4, some (.int (bI (cpIn (q3.1 a) (q3.1 c) (j + 1) (cpOut (q3.1 a) (q3.1 c) j) k).1))), (5, some (.int (cpIn (q3.1 a) (q3.1 c) (j + 1) (cpOut (q3.1 a) (q3.1 c) j) k).2.1)), (6, some (.int (cpIn (q3.1 a) (q3.1 c) (j + 1) (cpOut (q3.1 a) (q3.1 c) j) k).2.2)), (0, some (.ref h)), (1, some (.int (nI e))), (2, some (.int (nI a))), (3, some (.int (nI c)))] [] := by
          clear hM hQ hK tail
          intro j d
          induction d with
          | zero =>
            intro k A M hj hk hM hQ hK K
            have hk9 : k = 9 := by omega
            subst hk9
            refine m_iload X dX3_mayCopy_91 rfl ?_
            refine m_bipush X dX3_mayCopy_93 (v := 10) (by decide) ?_
            refine m_icmpge X dX3_mayCopy_95 (t := 210) (by decide) (fun c_95 => ?_) (fun c_95 => absurd (by decide) c_95)
            refine m_iinc X dX3_mayCopy_210 rfl (w := 1) (by decide) rfl ?_
            refine m_goto X dX3_mayCopy_213 (t := 81) (by decide) ?_
            exact m_loc [(7, some (.int (nI ((j + 1) + 1)))), (4, some (.int (bI (cpOut (q3.1 a) (q3.1 c) (j + 1)).1))), (5, some (.int (cpOut (q3.1 a) (q3.1 c) (j + 1)).2.1)), (6, some (.int (cpOut (q3.1 a) (q3.1 c) (j + 1)).2.2)), (0, some (.ref h)), (1, some (.int (nI e))), (2, some (.int (nI a))), (3, some (.int (nI c)))] ⟨by rw [nI_succ (j + 1)]; rfl, rfl, rfl, rfl, rfl, rfl, rfl, rfl, trivial⟩ (K A M hM hQ hK)
          | succ d ih =>
            intro k A M hj hk hM hQ hK K
            refine m_iload X dX3_mayCopy_91 rfl ?_
            refine m_bipush X dX3_mayCopy_93 (v := 10) (by decide) ?_
            refine m_icmpge X dX3_mayCopy_95 (t := 210) (by decide) (fun c_95 => absurd ((nI_leI (a := 10) (by decide) (by omega)).mp c_95) (by omega)) (fun c_95 => ?_)
            refine m_aload_n X dX3_mayCopy_98 rfl rfl (by first | rfl | exact isR_rf) ?_
            refine m_getf X fg_X3_100_X3 hM.1 rfl dX3_mayCopy_99 ?_
            refine m_iload_n X dX3_mayCopy_102 rfl rfl ?_
            refine s_iald X hM rfl rfl (by exact tin (by simp only [alen]; omega) rfl) dX3_mayCopy_103 ?_
            refine m_topi X (hQ.now (by omega)) ?_
            refine m_iload X dX3_mayCopy_104 rfl ?_
            refine m_ishr X dX3_mayCopy_106 ?_
            refine m_iconst X dX3_mayCopy_107 (v := 1) (by decide) ?_
            refine m_iand X dX3_mayCopy_108 ?_
            refine m_iconst X dX3_mayCopy_109 (v := 1) (by decide) ?_
            refine m_icmpne X dX3_mayCopy_110 (t := 204) (by decide) (fun c_110 => ?_) (fun c_110 => ?_)
            · skip
              refine m_iinc X dX3_mayCopy_204 rfl (w := 1) (by decide) rfl ?_
              refine m_goto X dX3_mayCopy_207 (t := 91) (by decide) ?_
              have ec : (cpIn (q3.1 a) (q3.1 c) (j + 1) (cpOut (q3.1 a) (q3.1 c) j) (k + 1)) = (cpIn (q3.1 a) (q3.1 c) (j + 1) (cpOut (q3.1 a) (q3.1 c) j) k) := if_neg (fun z => absurd z.1 (by rw [bq0 c_110]; decide))
              exact m_loc [(8, some (.int (nI ((k + 1) + 1)))), (7, some (.int (nI (j + 1)))), (4, some (.int (bI (cpIn (q3.1 a) (q3.1 c) (j + 1) (cpOut (q3.1 a) (q3.1 c) j) (k + 1)).1))), (5, some (.int (cpIn (q3.1 a) (q3.1 c) (j + 1) (cpOut (q3.1 a) (q3.1 c) j) (k + 1)).2.1)), (6, some (.int (cpIn (q3.1 a) (q3.1 c) (j + 1) (cpOut (q3.1 a) (q3.1 c) j) (k + 1)).2.2)), (0, some (.ref h)), (1, some (.int (nI e))), (2, some (.int (nI a))), (3, some (.int (nI c)))] ⟨by rw [nI_succ (k + 1)]; rfl, rfl, by rw [ec]; rfl, by rw [ec]; rfl, by rw [ec]; rfl, rfl, rfl, rfl, rfl, trivial⟩ (ih (k + 1) A M hj (by omega) hM hQ hK K)
            · skip
              refine m_aload_n X dX3_mayCopy_113 rfl rfl (by first | rfl | exact isR_rf) ?_
              refine m_getf X fg_X3_100_X3 hM.1 rfl dX3_mayCopy_114 ?_
              refine m_iload_n X dX3_mayCopy_117 rfl rfl ?_
              refine s_iald X hM rfl rfl (by exact tin (by simp only [alen]; omega) rfl) dX3_mayCopy_118 ?_
              refine m_topi X (hQ.now (by omega)) ?_
              refine m_iload X dX3_mayCopy_119 rfl ?_
              refine m_ishr X dX3_mayCopy_121 ?_
              refine m_iconst X dX3_mayCopy_122 (v := 1) (by decide) ?_
              refine m_iand X dX3_mayCopy_123 ?_
              refine m_iconst X dX3_mayCopy_124 (v := 1) (by decide) ?_
              refine m_icmpne X dX3_mayCopy_125 (t := 204) (by decide) (fun c_125 => ?_) (fun c_125 => ?_)
              · skip
                refine m_iinc X dX3_mayCopy_204 rfl (w := 1) (by decide) rfl ?_
                refine m_goto X dX3_mayCopy_207 (t := 91) (by decide) ?_
                have ec : (cpIn (q3.1 a) (q3.1 c) (j + 1) (cpOut (q3.1 a) (q3.1 c) j) (k + 1)) = (cpIn (q3.1 a) (q3.1 c) (j + 1) (cpOut (q3.1 a) (q3.1 c) j) k) := if_neg (fun z => absurd z.2 (by rw [bq0 c_125]; decide))
                exact m_loc [(8, some (.int (nI ((k + 1) + 1)))), (7, some (.int (nI (j + 1)))), (4, some (.int (bI (cpIn (q3.1 a) (q3.1 c) (j + 1) (cpOut (q3.1 a) (q3.1 c) j) (k + 1)).1))), (5, some (.int (cpIn (q3.1 a) (q3.1 c) (j + 1) (cpOut (q3.1 a) (q3.1 c) j) (k + 1)).2.1)), (6, some (.int (cpIn (q3.1 a) (q3.1 c) (j + 1) (cpOut (q3.1 a) (q3.1 c) j) (k + 1)).2.2)), (0, some (.ref h)), (1, some (.int (nI e))), (2, some (.int (nI a))), (3, some (.int (nI c)))] ⟨by rw [nI_succ (k + 1)]; rfl, rfl, by rw [ec]; rfl, by rw [ec]; rfl, by rw [ec]; rfl, rfl, rfl, rfl, rfl, trivial⟩ (ih (k + 1) A M hj (by omega) hM hQ hK K)
              · skip
                refine m_iload X dX3_mayCopy_128 rfl ?_
                refine m_iload X dX3_mayCopy_130 rfl ?_
                refine m_iload X dX3_mayCopy_132 rfl ?_
                refine m_callS X cs_X3_174  (c_X3_meet _ _ (j + 1) (k + 1) (by omega) (by omega)) rfl rfl (Nat.le_of_ble_eq_true rfl) dX3_mayCopy_134 ⟨by decide, by decide, by decide, by decide⟩ (fun v M hp => ?_) (fun _ _ _ _ h => h.elim)
                obtain ⟨rfl, rfl⟩ := hp
                refine m_sti ?_
                refine m_ifeq X dX3_mayCopy_137 (t := 150) (by decide) (fun c_137 => ?_) (fun c_137 => ?_)
                · skip
                  try simp only [bI_0, Bool.not_eq_false] at c_137
                  refine m_iconst X dX3_mayCopy_150 (v := 1) (by decide) ?_
                  refine m_goto X dX3_mayCopy_151 (t := 155) (by decide) ?_
                  refine m_ior X dX3_mayCopy_155 ?_
                  refine m_istore X dX3_mayCopy_156 rfl rfl ?_
                  refine m_iload X dX3_mayCopy_158 rfl ?_
                  refine m_iload X dX3_mayCopy_160 rfl ?_
                  refine m_iload X dX3_mayCopy_162 rfl ?_
                  refine m_callS X cs_X3_174  (c_X3_meet _ _ (j + 1) (k + 1) (by omega) (by omega)) rfl rfl (Nat.le_of_ble_eq_true rfl) dX3_mayCopy_164 ⟨by decide, by decide, by decide, by decide⟩ (fun v M hp => ?_) (fun _ _ _ _ h => h.elim)
                  obtain ⟨rfl, rfl⟩ := hp
                  refine m_sti ?_
                  refine m_ifeq X dX3_mayCopy_167 (t := 177) (by decide) (fun c_167 => ?_) (fun c_167 => absurd (bI_0.mpr c_137) c_167)
                  refine m_iconst X dX3_mayCopy_177 (v := 0) (by decide) ?_
                  refine m_ior X dX3_mayCopy_178 ?_
                  refine m_istore X dX3_mayCopy_179 rfl rfl ?_
                  refine m_iload X dX3_mayCopy_181 rfl ?_
                  refine m_iload X dX3_mayCopy_183 rfl ?_
                  refine m_iload X dX3_mayCopy_185 rfl ?_
                  refine m_callS X cs_X3_174  (c_X3_meet _ _ (j + 1) (k + 1) (by omega) (by omega)) rfl rfl (Nat.le_of_ble_eq_true rfl) dX3_mayCopy_187 ⟨by decide, by decide, by decide, by decide⟩ (fun v M hp => ?_) (fun _ _ _ _ h => h.elim)
                  obtain ⟨rfl, rfl⟩ := hp
                  refine m_sti ?_
                  refine m_ifeq X dX3_mayCopy_190 (t := 200) (by decide) (fun c_190 => ?_) (fun c_190 => absurd (bI_0.mpr c_137) c_190)
                  refine m_iconst X dX3_mayCopy_200 (v := 0) (by decide) ?_
                  refine m_ior X dX3_mayCopy_201 ?_
                  refine m_istore X dX3_mayCopy_202 rfl rfl ?_
                  refine m_iinc X dX3_mayCopy_204 rfl (w := 1) (by decide) rfl ?_
                  refine m_goto X dX3_mayCopy_207 (t := 91) (by decide) ?_
                  have ec : (cpIn (q3.1 a) (q3.1 c) (j + 1) (cpOut (q3.1 a) (q3.1 c) j) (k + 1)) = ((cpIn (q3.1 a) (q3.1 c) (j + 1) (cpOut (q3.1 a) (q3.1 c) j) k).1 || true, (cpIn (q3.1 a) (q3.1 c) (j + 1) (cpOut (q3.1 a) (q3.1 c) j) k).2.1 ||| 0, (cpIn (q3.1 a) (q3.1 c) (j + 1) (cpOut (q3.1 a) (q3.1 c) j) k).2.2 ||| 0) := (if_pos ⟨bq1 c_110, bq1 c_125⟩).trans (by rw [c_137]; rfl)
                  exact m_loc [(8, some (.int (nI ((k + 1) + 1)))), (7, some (.int (nI (j + 1)))), (4, some (.int (bI (cpIn (q3.1 a) (q3.1 c) (j + 1) (cpOut (q3.1 a) (q3.1 c) j) (k + 1)).1))), (5, some (.int (cpIn (q3.1 a) (q3.1 c) (j + 1) (cpOut (q3.1 a) (q3.1 c) j) (k + 1)).2.1)), (6, some (.int (cpIn (q3.1 a) (q3.1 c) (j + 1) (cpOut (q3.1 a) (q3.1 c) j) (k + 1)).2.2)), (0, some (.ref h)), (1, some (.int (nI e))), (2, some (.int (nI a))), (3, some (.int (nI c)))] ⟨by rw [nI_succ (k + 1)]; rfl, rfl, by rw [ec, ← bI_or1]; rfl, by rw [ec]; rfl, by rw [ec]; rfl, rfl, rfl, rfl, rfl, trivial⟩ (ih (k + 1) A M hj (by omega) hM hQ hK K)
                · skip
                  try simp only [bI_0, Bool.not_eq_false] at c_137
                  refine m_iload X dX3_mayCopy_140 rfl ?_
                  refine m_iload X dX3_mayCopy_142 rfl ?_
                  refine m_callS X cs_X3_289  (c_X3_partly _ _ (j + 1) (k + 1) (by omega) (by omega)) rfl rfl (Nat.le_of_ble_eq_true rfl) dX3_mayCopy_144 ⟨by decide, by decide, by decide, by decide⟩ (fun v M hp => ?_) (fun _ _ _ _ h => h.elim)
                  obtain ⟨rfl, rfl⟩ := hp
                  refine m_sti ?_
                  refine m_ifeq X dX3_mayCopy_147 (t := 154) (by decide) (fun c_147 => ?_) (fun c_147 => ?_)
                  · skip
                    try simp only [bI_0, Bool.not_eq_false] at c_147
                    refine m_iconst X dX3_mayCopy_154 (v := 0) (by decide) ?_
                    refine m_ior X dX3_mayCopy_155 ?_
                    refine m_istore X dX3_mayCopy_156 rfl rfl ?_
                    refine m_iload X dX3_mayCopy_158 rfl ?_
                    refine m_iload X dX3_mayCopy_160 rfl ?_
                    refine m_iload X dX3_mayCopy_162 rfl ?_
                    refine m_callS X cs_X3_174  (c_X3_meet _ _ (j + 1) (k + 1) (by omega) (by omega)) rfl rfl (Nat.le_of_ble_eq_true rfl) dX3_mayCopy_164 ⟨by decide, by decide, by decide, by decide⟩ (fun v M hp => ?_) (fun _ _ _ _ h => h.elim)
                    obtain ⟨rfl, rfl⟩ := hp
                    refine m_sti ?_
                    refine m_ifeq X dX3_mayCopy_167 (t := 177) (by decide) (fun c_167 => absurd (bI_0.mp c_167) (by rw [c_137]; decide)) (fun c_167 => ?_)
                    refine m_iconst X dX3_mayCopy_170 (v := 1) (by decide) ?_
                    refine m_iload X dX3_mayCopy_171 rfl ?_
                    refine m_ishl X dX3_mayCopy_173 ?_
                    refine m_goto X dX3_mayCopy_174 (t := 178) (by decide) ?_
                    refine m_ior X dX3_mayCopy_178 ?_
                    refine m_istore X dX3_mayCopy_179 rfl rfl ?_
                    refine m_iload X dX3_mayCopy_181 rfl ?_
                    refine m_iload X dX3_mayCopy_183 rfl ?_
                    refine m_iload X dX3_mayCopy_185 rfl ?_
                    refine m_callS X cs_X3_174  (c_X3_meet _ _ (j + 1) (k + 1) (by omega) (by omega)) rfl rfl (Nat.le_of_ble_eq_true rfl) dX3_mayCopy_187 ⟨by decide, by decide, by decide, by decide⟩ (fun v M hp => ?_) (fun _ _ _ _ h => h.elim)
                    obtain ⟨rfl, rfl⟩ := hp
                    refine m_sti ?_
                    refine m_ifeq X dX3_mayCopy_190 (t := 200) (by decide) (fun c_190 => absurd (bI_0.mp c_190) (by rw [c_137]; decide)) (fun c_190 => ?_)
                    refine m_iconst X dX3_mayCopy_193 (v := 1) (by decide) ?_
                    refine m_iload X dX3_mayCopy_194 rfl ?_
                    refine m_ishl X dX3_mayCopy_196 ?_
                    refine m_goto X dX3_mayCopy_197 (t := 201) (by decide) ?_
                    refine m_ior X dX3_mayCopy_201 ?_
                    refine m_istore X dX3_mayCopy_202 rfl rfl ?_
                    refine m_iinc X dX3_mayCopy_204 rfl (w := 1) (by decide) rfl ?_
                    refine m_goto X dX3_mayCopy_207 (t := 91) (by decide) ?_
                    have ec : (cpIn (q3.1 a) (q3.1 c) (j + 1) (cpOut (q3.1 a) (q3.1 c) j) (k + 1)) = ((cpIn (q3.1 a) (q3.1 c) (j + 1) (cpOut (q3.1 a) (q3.1 c) j) k).1 || false, (cpIn (q3.1 a) (q3.1 c) (j + 1) (cpOut (q3.1 a) (q3.1 c) j) k).2.1 ||| ((1 : Int32) <<< (nI (j + 1) &&& 31)), (cpIn (q3.1 a) (q3.1 c) (j + 1) (cpOut (q3.1 a) (q3.1 c) j) k).2.2 ||| ((1 : Int32) <<< (nI (k + 1) &&& 31))) := (if_pos ⟨bq1 c_110, bq1 c_125⟩).trans (by rw [c_137, c_147]; rfl)
                    exact m_loc [(8, some (.int (nI ((k + 1) + 1)))), (7, some (.int (nI (j + 1)))), (4, some (.int (bI (cpIn (q3.1 a) (q3.1 c) (j + 1) (cpOut (q3.1 a) (q3.1 c) j) (k + 1)).1))), (5, some (.int (cpIn (q3.1 a) (q3.1 c) (j + 1) (cpOut (q3.1 a) (q3.1 c) j) (k + 1)).2.1)), (6, some (.int (cpIn (q3.1 a) (q3.1 c) (j + 1) (cpOut (q3.1 a) (q3.1 c) j) (k + 1)).2.2)), (0, some (.ref h)), (1, some (.int (nI e))), (2, some (.int (nI a))), (3, some (.int (nI c)))] ⟨by rw [nI_succ (k + 1)]; rfl, rfl, by rw [ec, ← bI_or0]; rfl, by rw [ec]; rfl, by rw [ec]; rfl, rfl, rfl, rfl, rfl, trivial⟩ (ih (k + 1) A M hj (by omega) hM hQ hK K)
                  · skip
                    try simp only [bI_0, Bool.not_eq_false] at c_147
                    refine m_iconst X dX3_mayCopy_150 (v := 1) (by decide) ?_
                    refine m_goto X dX3_mayCopy_151 (t := 155) (by decide) ?_
                    refine m_ior X dX3_mayCopy_155 ?_
                    refine m_istore X dX3_mayCopy_156 rfl rfl ?_
                    refine m_iload X dX3_mayCopy_158 rfl ?_
                    refine m_iload X dX3_mayCopy_160 rfl ?_
                    refine m_iload X dX3_mayCopy_162 rfl ?_
                    refine m_callS X cs_X3_174  (c_X3_meet _ _ (j + 1) (k + 1) (by omega) (by omega)) rfl rfl (Nat.le_of_ble_eq_true rfl) dX3_mayCopy_164 ⟨by decide, by decide, by decide, by decide⟩ (fun v M hp => ?_) (fun _ _ _ _ h => h.elim)
                    obtain ⟨rfl, rfl⟩ := hp
                    refine m_sti ?_
                    refine m_ifeq X dX3_mayCopy_167 (t := 177) (by decide) (fun c_167 => absurd (bI_0.mp c_167) (by rw [c_137]; decide)) (fun c_167 => ?_)
                    refine m_iconst X dX3_mayCopy_170 (v := 1) (by decide) ?_
                    refine m_iload X dX3_mayCopy_171 rfl ?_
                    refine m_ishl X dX3_mayCopy_173 ?_
                    refine m_goto X dX3_mayCopy_174 (t := 178) (by decide) ?_
                    refine m_ior X dX3_mayCopy_178 ?_
                    refine m_istore X dX3_mayCopy_179 rfl rfl ?_
                    refine m_iload X dX3_mayCopy_181 rfl ?_
                    refine m_iload X dX3_mayCopy_183 rfl ?_
                    refine m_iload X dX3_mayCopy_185 rfl ?_
                    refine m_callS X cs_X3_174  (c_X3_meet _ _ (j + 1) (k + 1) (by omega) (by omega)) rfl rfl (Nat.le_of_ble_eq_true rfl) dX3_mayCopy_187 ⟨by decide, by decide, by decide, by decide⟩ (fun v M hp => ?_) (fun _ _ _ _ h => h.elim)
                    obtain ⟨rfl, rfl⟩ := hp
                    refine m_sti ?_
                    refine m_ifeq X dX3_mayCopy_190 (t := 200) (by decide) (fun c_190 => absurd (bI_0.mp c_190) (by rw [c_137]; decide)) (fun c_190 => ?_)
                    refine m_iconst X dX3_mayCopy_193 (v := 1) (by decide) ?_
                    refine m_iload X dX3_mayCopy_194 rfl ?_
                    refine m_ishl X dX3_mayCopy_196 ?_
                    refine m_goto X dX3_mayCopy_197 (t := 201) (by decide) ?_
                    refine m_ior X dX3_mayCopy_201 ?_
                    refine m_istore X dX3_mayCopy_202 rfl rfl ?_
                    refine m_iinc X dX3_mayCopy_204 rfl (w := 1) (by decide) rfl ?_
                    refine m_goto X dX3_mayCopy_207 (t := 91) (by decide) ?_
                    have ec : (cpIn (q3.1 a) (q3.1 c) (j + 1) (cpOut (q3.1 a) (q3.1 c) j) (k + 1)) = ((cpIn (q3.1 a) (q3.1 c) (j + 1) (cpOut (q3.1 a) (q3.1 c) j) k).1 || true, (cpIn (q3.1 a) (q3.1 c) (j + 1) (cpOut (q3.1 a) (q3.1 c) j) k).2.1 ||| ((1 : Int32) <<< (nI (j + 1) &&& 31)), (cpIn (q3.1 a) (q3.1 c) (j + 1) (cpOut (q3.1 a) (q3.1 c) j) k).2.2 ||| ((1 : Int32) <<< (nI (k + 1) &&& 31))) := (if_pos ⟨bq1 c_110, bq1 c_125⟩).trans (by rw [c_137, c_147]; rfl)
                    exact m_loc [(8, some (.int (nI ((k + 1) + 1)))), (7, some (.int (nI (j + 1)))), (4, some (.int (bI (cpIn (q3.1 a) (q3.1 c) (j + 1) (cpOut (q3.1 a) (q3.1 c) j) (k + 1)).1))), (5, some (.int (cpIn (q3.1 a) (q3.1 c) (j + 1) (cpOut (q3.1 a) (q3.1 c) j) (k + 1)).2.1)), (6, some (.int (cpIn (q3.1 a) (q3.1 c) (j + 1) (cpOut (q3.1 a) (q3.1 c) j) (k + 1)).2.2)), (0, some (.ref h)), (1, some (.int (nI e))), (2, some (.int (nI a))), (3, some (.int (nI c)))] ⟨by rw [nI_succ (k + 1)]; rfl, rfl, by rw [ec, ← bI_or1]; rfl, by rw [ec]; rfl, by rw [ec]; rfl, rfl, rfl, rfl, rfl, trivial⟩ (ih (k + 1) A M hj (by omega) hM hQ hK K)
        have outer : ∀ (d j : Nat) (A' : Nat → Nat → Int32) (M' : Mem), j + d = 9 → MRep G h ad F A' B M' → QR e A' q3 → KQ e A0 A' → WM G x 9 (QM G x (pQ G h ad F A0 B e (some (.int (bI (qCopy a c q).1))) (qCopy a c q).2) nX (rmm 2 49)) 0 0 M' 81 [(7, some (.int (nI (j + 1)))), (4, some (.int (bI (cpOut (q3.1 a) (q3.1 c) j).1))), (5, some (.int (cpOut (q3.1 a) (q3.1 c) j).2.1)), (6, some (.int (cpOut (q3.1 a) (q3.1 c) j).2.2)), (0, some (.ref h)), (1, some (.int (nI e))), (2, some (.int (nI a))), (3, some (.int (nI c)))] [] := by
          clear hM hQ hK
          intro d
          induction d with
          | zero =>
            intro j A M hj hM hQ hK
            have hj9 : j = 9 := by omega
            subst hj9
            exact tail A M hM hQ hK
          | succ d ih =>
            intro j A M hj hM hQ hK
            refine m_iload X dX3_mayCopy_81 rfl ?_
            refine m_bipush X dX3_mayCopy_83 (v := 10) (by decide) ?_
            refine m_icmpge X dX3_mayCopy_85 (t := 216) (by decide) (fun c_85 => absurd ((nI_leI (a := 10) (by decide) (by omega)).mp c_85) (by omega)) (fun c_85 => ?_)
            refine m_iconst X dX3_mayCopy_88 (v := 1) (by decide) ?_
            refine m_istore X dX3_mayCopy_89 rfl rfl ?_
            exact m_loc [(8, some (.int (nI (0 + 1)))), (7, some (.int (nI (j + 1)))), (4, some (.int (bI (cpIn (q3.1 a) (q3.1 c) (j + 1) (cpOut (q3.1 a) (q3.1 c) j) 0).1))), (5, some (.int (cpIn (q3.1 a) (q3.1 c) (j + 1) (cpOut (q3.1 a) (q3.1 c) j) 0).2.1)), (6, some (.int (cpIn (q3.1 a) (q3.1 c) (j + 1) (cpOut (q3.1 a) (q3.1 c) j) 0).2.2)), (0, some (.ref h)), (1, some (.int (nI e))), (2, some (.int (nI a))), (3, some (.int (nI c)))] ⟨rfl, rfl, rfl, rfl, rfl, rfl, rfl, rfl, rfl, trivial⟩ (inner j 9 0 A M (by omega) rfl hM hQ hK fun A M hM hQ hK => ih (j + 1) A M (by omega) hM hQ hK)
        refine m_iconst X dX3_mayCopy_69 (v := 0) (by decide) ?_
        refine m_istore X dX3_mayCopy_70 rfl rfl ?_
        refine m_iconst X dX3_mayCopy_72 (v := 0) (by decide) ?_
        refine m_istore X dX3_mayCopy_73 rfl rfl ?_
        refine m_iconst X dX3_mayCopy_75 (v := 0) (by decide) ?_
        refine m_istore X dX3_mayCopy_76 rfl rfl ?_
        refine m_iconst X dX3_mayCopy_78 (v := 1) (by decide) ?_
        refine m_istore X dX3_mayCopy_79 rfl rfl ?_
        exact m_loc [(7, some (.int (nI (0 + 1)))), (4, some (.int (bI (cpOut (q3.1 a) (q3.1 c) 0).1))), (5, some (.int (cpOut (q3.1 a) (q3.1 c) 0).2.1)), (6, some (.int (cpOut (q3.1 a) (q3.1 c) 0).2.2)), (0, some (.ref h)), (1, some (.int (nI e))), (2, some (.int (nI a))), (3, some (.int (nI c)))] ⟨rfl, rfl, rfl, rfl, rfl, rfl, rfl, rfl, trivial⟩ (outer 9 0 A M rfl hM hQ hK)
      · skip
        try simp only [bI_0, Bool.not_eq_false] at c_64
        refine m_iconst X dX3_mayCopy_67 (v := 0) (by decide) ?_
        exact m_zret X dX3_mayCopy_68 (by first | rfl | exact bI_nar) (by decide) (by decide) (by refine ⟨?_, A, hM, ?_, hK⟩ <;> unfold qCopy <;> rw [← e3, if_pos (Or.inr c_64)] <;> first | exact hQ | rfl)
